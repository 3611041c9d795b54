section
/-! pure rows to paste: stores, nI and lN arithmetic, masks, shifts, narrowing, branches by naturals (pk_le, pk_lt, pk_eq), loops (lp1 .. lp16: the measure of the state; rp1 ..: recursion), negatives. Take what you need -/
theorem pk_us {f : Nat → Int32} {k : Nat} {x : Int32} : upd f k x k = x := if_pos rfl
theorem pk_un {f : Nat → Int32} {k j : Nat} {x : Int32} (h : j ≠ k) : upd f k x j = f j := if_neg h
theorem pk_uLs {f : Nat → Int64} {k : Nat} {x : Int64} : vp_updL f k x k = x := if_pos rfl
theorem pk_uLn {f : Nat → Int64} {k j : Nat} {x : Int64} (h : j ≠ k) : vp_updL f k x j = f j := if_neg h
theorem pk_sub {a b : Nat} (h : b ≤ a) : nI a - nI b = nI (a - b) := by
  obtain ⟨c, rfl⟩ : ∃ c, a = c + b := ⟨a - b, by omega⟩
  rw [← nI_add, Int32.add_sub_cancel, Nat.add_sub_cancel]
theorem pk_m1 (n : Nat) : nI (n + 1) + (-1) = nI n := by
  rw [← nI_1, Int32.add_assoc, show (1 : Int32) + (-1) = 0 from rfl, Int32.add_zero]
theorem pk_mul (a b : Nat) : nI a * nI b = nI (a * b) := (Int32.ofNat_mul a b).symm
theorem pk_div {a d : Nat} (ha : a < 2 ^ 31) (h0 : 0 < d) (hd : d < 2 ^ 31) : nI a / nI d = nI (a / d) := by
  apply Int32.toInt_inj.mp
  rw [lg_idiv_nonneg (by rw [nI_toInt ha]; omega) (by rw [nI_toInt hd]; omega), nI_toInt ha, nI_toInt hd, nI_toInt (Nat.lt_of_le_of_lt (Nat.div_le_self a d) ha)]
  first | rfl | exact (Int.natCast_ediv _ _).symm
theorem pk_rem {a d : Nat} (ha : a < 2 ^ 31) (h0 : 0 < d) (hd : d < 2 ^ 31) : nI a - nI a / nI d * nI d = nI (a % d) := by
  rw [pk_div ha h0 hd, pk_mul, pk_sub (Nat.div_mul_le_self a d)]
  exact congrArg nI (by have := Nat.div_add_mod' a d; omega)
theorem pk_sub_toInt {a b : Nat} (ha : a < 2 ^ 30) (hb : b < 2 ^ 30) : (nI a - nI b).toInt = (a : Int) - b := by
  rw [Int32.toInt_sub, nI_toInt (by omega), nI_toInt (by omega)]
  exact Int.bmod_eq_of_le (by omega) (by omega)
theorem pk_sneg {a b : Nat} (hb : b < 2 ^ 30) (h : a < b) : nI a - nI b < 0 := by
  rw [Int32.lt_iff_toInt_lt, pk_sub_toInt (by omega) hb, show (0 : Int32).toInt = 0 from by decide]
  omega
theorem pk_ix (x : Int32) {n : Nat} (hn : n < 2 ^ 31) : x < 0 ∨ nI n ≤ x ∨ ∃ j : Nat, j < n ∧ x = nI j := by
  by_cases h : x < 0
  · exact Or.inl h
  · obtain ⟨j, hj, rfl⟩ := nI_of h
    by_cases h2 : j < n
    · exact Or.inr (Or.inr ⟨j, h2, rfl⟩)
    · exact Or.inr (Or.inl (nI_le (by omega) hj))
theorem pk_le {x y : Int32} {A B : Prop} (a b : Nat) (f : a ≤ b → A) (g : b < a → B) (hx : x = nI a := by rfl) (hy : y = nI b := by rfl) (ha : a < 2 ^ 31 := by omega) (hb : b < 2 ^ 31 := by omega) : (x ≤ y → A) ∧ (¬ x ≤ y → B) := by
  subst hx hy
  rw [nI_leI ha hb]
  exact ⟨f, fun z => g (by omega)⟩
theorem pk_lt {x y : Int32} {A B : Prop} (a b : Nat) (f : a < b → A) (g : b ≤ a → B) (hx : x = nI a := by rfl) (hy : y = nI b := by rfl) (ha : a < 2 ^ 31 := by omega) (hb : b < 2 ^ 31 := by omega) : (x < y → A) ∧ (¬ x < y → B) := by
  subst hx hy
  rw [nI_ltI ha hb]
  exact ⟨f, fun z => g (by omega)⟩
theorem pk_eq {x y : Int32} {A B : Prop} (a b : Nat) (f : a = b → A) (g : a ≠ b → B) (hx : x = nI a := by rfl) (hy : y = nI b := by rfl) (ha : a < 2 ^ 31 := by omega) (hb : b < 2 ^ 31 := by omega) : (x = y → A) ∧ (¬ x = y → B) := by
  subst hx hy
  rw [nI_eq ha hb]
  exact ⟨f, g⟩
theorem pk_in {x : Int32} (n N : Nat) (h : n < N) (hx : x = nI n := by rfl) (hN : N < 2 ^ 31 := by omega) : vp_in x N := by
  subst hx
  exact vp_in_nI h hN
theorem pk_cl {x : Int32} (n : Nat) (hx : x = nI n := by rfl) (h : n < 2 ^ 31 := by omega) : x.toNatClampNeg = n := by
  subst hx
  exact nI_clamp h
theorem pk_tn {n : Nat} (h : n < 2 ^ 32) : (nI n).toBitVec.toNat = n := Nat.mod_eq_of_lt h
theorem pk_and (x : Int32) {m : Int32} (k : Nat) (hm : m.toBitVec.toNat = 2 ^ k - 1) : x &&& m = nI (x.toBitVec.toNat % 2 ^ k) := by
  apply Int32.toBitVec_inj.mp
  apply BitVec.eq_of_toNat_eq
  rw [Int32.toBitVec_and, BitVec.toNat_and, hm, Nat.and_two_pow_sub_one_eq_mod]
  show _ = (BitVec.ofNat 32 _).toNat
  rw [BitVec.toNat_ofNat]
  exact (Nat.mod_eq_of_lt (Nat.lt_of_le_of_lt (Nat.mod_le _ _) x.toBitVec.isLt)).symm
theorem pk_andN {n : Nat} (h : n < 2 ^ 32) {m : Int32} (k : Nat) (hm : m.toBitVec.toNat = 2 ^ k - 1) : nI n &&& m = nI (n % 2 ^ k) := by
  rw [pk_and _ k hm, pk_tn h]
theorem pk_andE (x : Int32) {m : Int32} (k : Nat) (hm : m.toBitVec.toNat = 2 ^ k - 1) : ∃ j : Nat, j < 2 ^ k ∧ x &&& m = nI j := ⟨_, Nat.mod_lt _ (Nat.two_pow_pos k), pk_and x k hm⟩
theorem pk_andIn (x : Int32) {m : Int32} (k : Nat) (hm : m.toBitVec.toNat = 2 ^ k - 1) (hk : k ≤ 30) : vp_in (x &&& m) (2 ^ k) := by
  obtain ⟨j, hj, e⟩ := pk_andE x k hm
  rw [e]
  exact vp_in_nI hj (Nat.lt_of_le_of_lt (Nat.pow_le_pow_right (by decide) hk) (by decide))
theorem pk_shl (a s : Int32) (k : Nat) (hs : (s.toBitVec.smod 32).toNat = k) : (a <<< s).toBitVec.toNat = a.toBitVec.toNat * 2 ^ k % 2 ^ 32 := by
  show (a.toBitVec <<< (s.toBitVec.smod 32).toNat).toNat = _
  rw [hs, BitVec.toNat_shiftLeft, Nat.shiftLeft_eq]
theorem pk_shlN {n : Nat} (s : Int32) (k : Nat) (hs : (s.toBitVec.smod 32).toNat = k) (h : n * 2 ^ k < 2 ^ 32) : nI n <<< s = nI (n * 2 ^ k) := by
  apply Int32.toBitVec_inj.mp
  apply BitVec.eq_of_toNat_eq
  have hn : n < 2 ^ 32 := Nat.lt_of_le_of_lt (Nat.le_mul_of_pos_right n (Nat.two_pow_pos k)) h
  rw [pk_shl _ _ k hs, pk_tn hn, pk_tn h, Nat.mod_eq_of_lt h]
theorem pk_shr (a s : Int32) (k : Nat) (hs : (s.toBitVec.smod 32).toNat = k) : (a >>> s).toInt = a.toInt >>> k := by
  show (a.toBitVec.sshiftRight (s.toBitVec.smod 32).toNat).toInt = _
  rw [hs, BitVec.toInt_sshiftRight]
  rfl
theorem pk_shrN {n : Nat} (h : n < 2 ^ 31) (s : Int32) (k : Nat) (hs : (s.toBitVec.smod 32).toNat = k) : nI n >>> s = nI (n / 2 ^ k) := by
  apply Int32.toInt_inj.mp
  have h2 : n / 2 ^ k ≤ n := Nat.div_le_self _ _
  rw [pk_shr _ _ k hs, nI_toInt h, nI_toInt (by omega), Int.shiftRight_eq_div_pow]
  rfl
theorem pk_ushr (x s : Int32) (k : Nat) (hs : ((s.toUInt32 &&& Int32.toUInt32 31).toBitVec % 32).toNat = k) : (x.toUInt32 >>> (s.toUInt32 &&& Int32.toUInt32 31)).toInt32.toBitVec.toNat = x.toBitVec.toNat / 2 ^ k := by
  have e : (x.toUInt32 >>> (s.toUInt32 &&& Int32.toUInt32 31)).toInt32.toBitVec = x.toBitVec >>> k := by
    rw [← hs]
    exact UInt32.toBitVec_shiftRight _ _
  rw [e, BitVec.toNat_ushiftRight, Nat.shiftRight_eq_div_pow]
theorem pk_ushrN {n : Nat} (hn : n < 2 ^ 32) (s : Int32) (k : Nat) (hs : ((s.toUInt32 &&& Int32.toUInt32 31).toBitVec % 32).toNat = k) : ((nI n).toUInt32 >>> (s.toUInt32 &&& Int32.toUInt32 31)).toInt32 = nI (n / 2 ^ k) := by
  apply Int32.toBitVec_inj.mp
  apply BitVec.eq_of_toNat_eq
  rw [pk_ushr _ s k hs, pk_tn hn, pk_tn (Nat.lt_of_le_of_lt (Nat.div_le_self _ _) hn)]
theorem pk_nb (z : Int32) : narrow .byte (.int z.toInt8.toInt32) = .int z.toInt8.toInt32 := congrArg Value.int (by simp)
theorem pk_ns (z : Int32) : narrow .short (.int z.toInt16.toInt32) = .int z.toInt16.toInt32 := congrArg Value.int (by simp)
theorem pk_fb (r : Int32) : fits .byte (.int r.toInt8.toInt32) = true := by
  have ⟨a, b⟩ := lg_i2b_range r
  have h1 : (-128 : Int32).toInt = -128 := by decide
  have h2 : (127 : Int32).toInt = 127 := by decide
  simp only [fits, Bool.and_eq_true, decide_eq_true_eq, Int32.le_iff_toInt_le, h1, h2]
  omega
theorem pk_fs (r : Int32) : fits .short (.int r.toInt16.toInt32) = true := by
  have ⟨a, b⟩ := lg_i2s_range r
  have h1 : (-32768 : Int32).toInt = -32768 := by decide
  have h2 : (32767 : Int32).toInt = 32767 := by decide
  simp only [fits, Bool.and_eq_true, decide_eq_true_eq, Int32.le_iff_toInt_le, h1, h2]
  omega
theorem pk_charN {q : Nat} (hq : q < 65536) : narrow .char (.int (nI q)) = .int (nI q) ∧ fits .char (.int (nI q)) = true := by
  constructor
  · have e : (nI q).toUInt32.toUInt16.toUInt32.toInt32 = nI q := by
      apply Int32.toBitVec_inj.mp
      apply BitVec.eq_of_toNat_eq
      show (nI q).toUInt32.toUInt16.toUInt32.toNat = q % 2 ^ 32
      rw [UInt16.toNat_toUInt32, UInt32.toNat_toUInt16, show (nI q).toUInt32.toNat = q % 2 ^ 32 from rfl]
      omega
    exact congrArg Value.int e
  · have a : (0 : Int32) ≤ nI q := nI_pos' (by omega)
    have b : nI q ≤ 65535 := nI_le (b := 65535) (by omega) (by decide)
    show (decide ((0 : Int32) ≤ nI q) && decide (nI q ≤ 65535)) = true
    rw [decide_eq_true a, decide_eq_true b]
    rfl
theorem pk_char (x : Int32) : (x.toUInt32 % 65536).toInt32 = nI (x.toBitVec.toNat % 65536) := by
  apply Int32.toBitVec_inj.mp
  apply BitVec.eq_of_toNat_eq
  rw [pk_tn (by omega)]
  show (x.toUInt32 % 65536).toNat = _
  rw [UInt32.toNat_mod]
  rfl
theorem pk_nc (x : Int32) : narrow .char (.int (x.toUInt32 % 65536).toInt32) = .int (x.toUInt32 % 65536).toInt32 := by
  rw [pk_char]
  exact (pk_charN (Nat.mod_lt _ (by decide))).1
theorem pk_fc (x : Int32) : fits .char (.int (x.toUInt32 % 65536).toInt32) = true := by
  rw [pk_char]
  exact (pk_charN (Nat.mod_lt _ (by decide))).2
theorem pk_vb (z : Int32) : vp_nar .byte z.toInt8.toInt32 = z.toInt8.toInt32 := by rw [vp_nar_byte]; simp
theorem pk_vs (z : Int32) : vp_nar .short z.toInt16.toInt32 = z.toInt16.toInt32 := by rw [vp_nar_short]; simp
theorem pk_vc (z : Int32) : vp_nar .char (z.toUInt32 % 65536).toInt32 = (z.toUInt32 % 65536).toInt32 := Value.int.inj (pk_nc z)
theorem pk_lT {n : Nat} (h : n < 2 ^ 63) : (lN n).toInt = (n : Int) := lg_ofNat_toInt h
theorem pk_lLT {a b : Nat} (ha : a < 2 ^ 63) (hb : b < 2 ^ 63) : lN a < lN b ↔ a < b := by
  rw [Int64.lt_iff_toInt_lt, pk_lT ha, pk_lT hb]; omega
theorem pk_lLE {a b : Nat} (ha : a < 2 ^ 63) (hb : b < 2 ^ 63) : lN a ≤ lN b ↔ a ≤ b := by
  rw [Int64.le_iff_toInt_le, pk_lT ha, pk_lT hb]; omega
theorem pk_lEQ {a b : Nat} (ha : a < 2 ^ 63) (hb : b < 2 ^ 63) : lN a = lN b ↔ a = b := by
  rw [← Int64.toInt_inj, pk_lT ha, pk_lT hb]; omega
theorem pk_lOf {x : Int64} (h : ¬ x < 0) : ∃ k : Nat, k < 2 ^ 63 ∧ x = lN k := by
  rw [Int64.lt_iff_toInt_lt] at h
  have h0 : (0 : Int64).toInt = 0 := by decide
  have hx := Int64.toInt_lt x
  refine ⟨x.toInt.toNat, by omega, Int64.toInt_inj.mp ?_⟩
  rw [pk_lT (by omega)]
  omega
theorem pk_lDiv {a b : Nat} (ha : a < 2 ^ 63) (h0 : 0 < b) (hb : b < 2 ^ 63) : lN a / lN b = lN (a / b) := by
  apply Int64.toInt_inj.mp
  rw [lg_ldiv_nonneg (by rw [pk_lT ha]; omega) (by rw [pk_lT hb]; omega), pk_lT ha, pk_lT hb, pk_lT (Nat.lt_of_le_of_lt (Nat.div_le_self a b) ha)]
  rfl
theorem pk_lRem {a b : Nat} (ha : a < 2 ^ 63) (h0 : 0 < b) (hb : b < 2 ^ 63) : lN a - lN a / lN b * lN b = lN (a % b) := by
  rw [pk_lDiv ha h0 hb, lN_mul, lN_sub (Nat.div_mul_le_self a b)]
  exact congrArg lN (by have := Nat.div_add_mod' a b; omega)
theorem pk_loop {σ : Type} (W : Nat → Nat → σ → Prop) (I : Nat → σ → Prop) (e i0 : Nat) (s : σ) (hi : i0 ≤ e) (h0 : I i0 s) (hx : ∀ n s, I e s → W (n + 1) e s)
    (hs : ∀ n i s, i < e → I i s → (∀ s', I (i + 1) s' → W n (i + 1) s') → W (n + 1) i s) : ∃ n, W n i0 s :=
  ⟨e + 1, loop_i W I e hx hs (e + 1) i0 s hi (by omega) h0⟩
theorem pk_loopD {σ : Type} (W : Nat → Nat → σ → Prop) (I : Nat → σ → Prop) (hx : ∀ n s, I 0 s → W (n + 1) 0 s)
    (hs : ∀ n i s, I (i + 1) s → (∀ s', I i s' → W n i s') → W (n + 1) (i + 1) s) : ∀ (e : Nat) (s : σ), I e s → W (e + 1) e s := by
  intro e
  induction e with
  | zero => exact fun s h => hx 0 s h
  | succ e ih => exact fun s h => hs (e + 1) e s h (fun s' h' => ih s' h')
theorem sb_shr0 (x : Int32) : x >>> ((0 : Int32) &&& 31) = x := by
  rw [show ((0 : Int32) &&& 31) = 0 by decide]
  simp
theorem sb_shl0 (x : Int32) : x <<< ((0 : Int32) &&& 31) = x := by
  rw [show ((0 : Int32) &&& 31) = 0 by decide]
  simp
theorem sb_cl0 : (0 : Int32).toNatClampNeg = 0 := by decide
theorem sb_m1 {p : Nat} (h : 0 < p) : nI p + (-1) = nI (p - 1) := by
  obtain ⟨q, rfl⟩ : ∃ q, p = q + 1 := ⟨p - 1, by omega⟩
  exact pk_m1 q
/-! ===== Int32 by its bits: bt x i ===== -/
def bt (x : Int32) (i : Nat) : Bool := x.toBitVec.getLsbD i
theorem b_ext {x y : Int32} (h : ∀ i, i < 32 → bt x i = bt y i) : x = y := Int32.toBitVec_inj.mp (BitVec.eq_of_getLsbD_eq (fun i hi => h i hi))
theorem b_or (x y : Int32) (i : Nat) : bt (x ||| y) i = (bt x i || bt y i) := by unfold bt; rw [Int32.toBitVec_or, BitVec.getLsbD_or]
theorem b_and (x y : Int32) (i : Nat) : bt (x &&& y) i = (bt x i && bt y i) := by unfold bt; rw [Int32.toBitVec_and, BitVec.getLsbD_and]
theorem b_xor (x y : Int32) (i : Nat) : bt (x ^^^ y) i = (bt x i ^^ bt y i) := by unfold bt; rw [Int32.toBitVec_xor, BitVec.getLsbD_xor]
theorem b_big {x : Int32} {i : Nat} (h : 32 ≤ i) : bt x i = false := BitVec.getLsbD_of_ge _ _ h
theorem b_255 (i : Nat) : bt 255 i = decide (i < 8) := by
  rcases Nat.lt_or_ge i 32 with h | h
  · exact (by decide +kernel : ∀ i, i < 32 → bt 255 i = decide (i < 8)) i h
  · rw [b_big h, decide_eq_false (by omega)]
theorem b_65535 (i : Nat) : bt 65535 i = decide (i < 16) := by
  rcases Nat.lt_or_ge i 32 with h | h
  · exact (by decide +kernel : ∀ i, i < 32 → bt 65535 i = decide (i < 16)) i h
  · rw [b_big h, decide_eq_false (by omega)]
theorem b_m1 : ∀ i, i < 32 → bt (-1) i = true := by decide +kernel
theorem b_0 (i : Nat) : bt 0 i = false := BitVec.getLsbD_zero
theorem s_l : ∀ n, n < 32 → ((nI n &&& 31).toBitVec.smod 32).toNat = n := by decide +kernel
theorem s_u : ∀ n, n < 32 → (((nI n).toUInt32 &&& Int32.toUInt32 31).toBitVec % 32).toNat = n := by decide +kernel
theorem b_shl (n : Nat) (hn : n < 32) (x : Int32) {i : Nat} (hi : i < 32) : bt (x <<< (nI n &&& 31)) i = (decide (n ≤ i) && bt x (i - n)) := by
  unfold bt
  rw [Int32.toBitVec_shiftLeft]
  show (x.toBitVec <<< ((nI n &&& 31).toBitVec.smod 32).toNat).getLsbD i = _
  rw [s_l n hn, BitVec.getLsbD_shiftLeft]
  rcases Nat.lt_or_ge i n with h | h
  · simp [h, Nat.not_le.mpr h]
  · simp [hi, h, Nat.not_lt.mpr h]
theorem b_ushr (n : Nat) (hn : n < 32) (x : Int32) (i : Nat) : bt ((x.toUInt32 >>> ((nI n).toUInt32 &&& Int32.toUInt32 31)).toInt32) i = bt x (n + i) := by
  show (x.toUInt32 >>> ((nI n).toUInt32 &&& Int32.toUInt32 31)).toBitVec.getLsbD i = x.toUInt32.toBitVec.getLsbD (n + i)
  rw [UInt32.toBitVec_shiftRight]
  show (x.toUInt32.toBitVec >>> (((nI n).toUInt32 &&& Int32.toUInt32 31).toBitVec % 32).toNat).getLsbD i = _
  rw [s_u n hn, BitVec.getLsbD_ushiftRight]
theorem b_sshr (n : Nat) (hn : n < 32) (x : Int32) {i : Nat} (hi : i < 32) : bt (x >>> (nI n &&& 31)) i = if n + i < 32 then bt x (n + i) else bt x 31 := by
  unfold bt
  rw [Int32.toBitVec_shiftRight]
  show (x.toBitVec.sshiftRight ((nI n &&& 31).toBitVec.smod 32).toNat).getLsbD i = _
  rw [s_l n hn, BitVec.getLsbD_sshiftRight, BitVec.msb_eq_getLsbD_last]
  simp [hi]
theorem b_shl8 (x : Int32) {i : Nat} (hi : i < 32) : bt (x <<< ((8 : Int32) &&& 31)) i = (decide (8 ≤ i) && bt x (i - 8)) := b_shl 8 (by omega) x hi
theorem b_shl16 (x : Int32) {i : Nat} (hi : i < 32) : bt (x <<< ((16 : Int32) &&& 31)) i = (decide (16 ≤ i) && bt x (i - 16)) := b_shl 16 (by omega) x hi
theorem b_shl24 (x : Int32) {i : Nat} (hi : i < 32) : bt (x <<< ((24 : Int32) &&& 31)) i = (decide (24 ≤ i) && bt x (i - 24)) := b_shl 24 (by omega) x hi
theorem b_sshr8 (x : Int32) {i : Nat} (hi : i < 32) : bt (x >>> ((8 : Int32) &&& 31)) i = if 8 + i < 32 then bt x (8 + i) else bt x 31 := b_sshr 8 (by omega) x hi
end
section
/-! ===== sums, existence, search below a bound ===== -/
def qa_sum (f : Nat → Nat) : Nat → Nat
  | 0 => 0
  | n + 1 => qa_sum f n + f n
def qa_any (f : Nat → Bool) : Nat → Bool
  | 0 => false
  | n + 1 => qa_any f n || f n
def qa_all (f : Nat → Bool) : Nat → Bool
  | 0 => true
  | n + 1 => qa_all f n && f n
def qa_find (f : Nat → Bool) : Nat → Nat
  | 0 => 0
  | n + 1 => if qa_find f n < n then qa_find f n else if f n = true then n else n + 1
theorem qa_sum_s (f : Nat → Nat) (n : Nat) : qa_sum f (n + 1) = qa_sum f n + f n := rfl
theorem qa_any_s (f : Nat → Bool) (n : Nat) : qa_any f (n + 1) = (qa_any f n || f n) := rfl
theorem qa_all_s (f : Nat → Bool) (n : Nat) : qa_all f (n + 1) = (qa_all f n && f n) := rfl
theorem qa_sum_congr {f g : Nat → Nat} {n : Nat} (h : ∀ i, i < n → f i = g i) : qa_sum f n = qa_sum g n := by
  induction n with
  | zero => rfl
  | succ n ih => rw [qa_sum_s, qa_sum_s, ih (fun i hi => h i (by omega)), h n (by omega)]
theorem qa_sum_add (f g : Nat → Nat) (n : Nat) : qa_sum (fun i => f i + g i) n = qa_sum f n + qa_sum g n := by
  induction n with
  | zero => rfl
  | succ n ih => rw [qa_sum_s, qa_sum_s, qa_sum_s, ih]; omega
theorem qa_sum_mul (f : Nat → Nat) (c n : Nat) : qa_sum (fun i => f i * c) n = qa_sum f n * c := by
  induction n with
  | zero => exact (Nat.zero_mul c).symm
  | succ n ih => rw [qa_sum_s, qa_sum_s, ih, Nat.add_mul]
theorem qa_sum_z {f : Nat → Nat} {n : Nat} (h : ∀ i, i < n → f i = 0) : qa_sum f n = 0 := by
  induction n with
  | zero => rfl
  | succ n ih => rw [qa_sum_s, ih (fun i hi => h i (by omega)), h n (by omega)]
theorem qa_sum_pt (c : Nat → Nat) (k n : Nat) : qa_sum (fun i => if i = k then c i else 0) n = if k < n then c k else 0 := by
  induction n with
  | zero => rfl
  | succ n ih =>
    rw [qa_sum_s, ih]
    by_cases h : n = k
    · subst h
      rw [if_neg (by omega), if_pos rfl, if_pos (by omega), Nat.zero_add]
    · rw [if_neg h, Nat.add_zero]
      by_cases h2 : k < n
      · rw [if_pos h2, if_pos (by omega)]
      · rw [if_neg h2, if_neg (by omega)]
theorem qa_sum_le {f g : Nat → Nat} {n : Nat} (h : ∀ i, i < n → f i ≤ g i) : qa_sum f n ≤ qa_sum g n := by
  induction n with
  | zero => exact Nat.le_refl _
  | succ n ih =>
    rw [qa_sum_s, qa_sum_s]
    exact Nat.add_le_add (ih (fun i hi => h i (by omega))) (h n (by omega))
theorem qa_sum_cst (c n : Nat) : qa_sum (fun _ => c) n = n * c := by
  induction n with
  | zero => exact (Nat.zero_mul c).symm
  | succ n ih => rw [qa_sum_s, ih, Nat.add_mul, Nat.one_mul]
theorem qa_sum_bd {f : Nat → Nat} {n B : Nat} (h : ∀ i, i < n → f i ≤ B) : qa_sum f n ≤ n * B := by
  rw [← qa_sum_cst B n]
  exact qa_sum_le h
theorem qa_sum_ge {f : Nat → Nat} {n k : Nat} (hk : k < n) : f k ≤ qa_sum f n := by
  induction n with
  | zero => omega
  | succ n ih =>
    rw [qa_sum_s]
    by_cases h : k = n
    · subst h; omega
    · have := ih (by omega); omega
theorem qa_sum_mono {f : Nat → Nat} {n m : Nat} (h : n ≤ m) : qa_sum f n ≤ qa_sum f m := by
  induction m with
  | zero => have : n = 0 := by omega
            subst this; exact Nat.le_refl _
  | succ m ih =>
    rw [qa_sum_s]
    by_cases e : n = m + 1
    · subst e; rw [qa_sum_s]; exact Nat.le_refl _
    · have := ih (by omega); omega
theorem qa_sum_swap (f : Nat → Nat → Nat) (n m : Nat) : qa_sum (fun i => qa_sum (fun j => f i j) m) n = qa_sum (fun j => qa_sum (fun i => f i j) n) m := by
  induction n with
  | zero => exact (qa_sum_z (fun _ _ => rfl)).symm
  | succ n ih =>
    rw [qa_sum_s, ih, ← qa_sum_add]
    exact qa_sum_congr (fun _ _ => rfl)
theorem qa_any_iff {f : Nat → Bool} {n : Nat} : qa_any f n = true ↔ ∃ i, i < n ∧ f i = true := by
  induction n with
  | zero => exact ⟨fun h => Bool.noConfusion h, fun ⟨i, h, _⟩ => absurd h (Nat.not_lt_zero i)⟩
  | succ n ih =>
    rw [qa_any_s, Bool.or_eq_true, ih]
    constructor
    · rintro (⟨i, hi, h⟩ | h)
      · exact ⟨i, by omega, h⟩
      · exact ⟨n, by omega, h⟩
    · rintro ⟨i, hi, h⟩
      by_cases e : i = n
      · subst e; exact Or.inr h
      · exact Or.inl ⟨i, by omega, h⟩
theorem qa_all_iff {f : Nat → Bool} {n : Nat} : qa_all f n = true ↔ ∀ i, i < n → f i = true := by
  induction n with
  | zero => exact ⟨fun _ i h => absurd h (Nat.not_lt_zero i), fun _ => rfl⟩
  | succ n ih =>
    rw [qa_all_s, Bool.and_eq_true, ih]
    constructor
    · rintro ⟨h, hn⟩ i hi
      by_cases e : i = n
      · subst e; exact hn
      · exact h i (by omega)
    · intro h
      exact ⟨fun i hi => h i (by omega), h n (by omega)⟩
theorem qa_any_congr {f g : Nat → Bool} {n : Nat} (h : ∀ i, i < n → f i = g i) : qa_any f n = qa_any g n := by
  induction n with
  | zero => rfl
  | succ n ih => rw [qa_any_s, qa_any_s, ih (fun i hi => h i (by omega)), h n (by omega)]
theorem qa_any_f {f : Nat → Bool} {n : Nat} (h : ∀ i, i < n → f i = false) : qa_any f n = false := by
  induction n with
  | zero => rfl
  | succ n ih => rw [qa_any_s, ih (fun i hi => h i (by omega)), h n (by omega)]; rfl
theorem qa_all_f {f : Nat → Bool} {n i : Nat} (hi : i < n) (h : f i = false) : qa_all f n = false := by
  cases e : qa_all f n with
  | false => rfl
  | true => rw [qa_all_iff.mp e i hi] at h; exact Bool.noConfusion h
theorem qa_all_congr {f g : Nat → Bool} {n : Nat} (h : ∀ i, i < n → f i = g i) : qa_all f n = qa_all g n := by
  induction n with
  | zero => rfl
  | succ n ih => rw [qa_all_s, qa_all_s, ih (fun i hi => h i (by omega)), h n (by omega)]
theorem qa_find_s (f : Nat → Bool) (n : Nat) : qa_find f (n + 1) = if qa_find f n < n then qa_find f n else if f n = true then n else n + 1 := rfl
theorem qa_find_sp (f : Nat → Bool) (n : Nat) : qa_find f n ≤ n ∧ (∀ j, j < qa_find f n → f j = false) ∧ (qa_find f n < n → f (qa_find f n) = true) := by
  induction n with
  | zero => exact ⟨Nat.le_refl _, fun j h => absurd h (Nat.not_lt_zero j), fun h => absurd h (Nat.not_lt_zero _)⟩
  | succ n ih =>
    obtain ⟨h1, h2, h3⟩ := ih
    rw [qa_find_s]
    by_cases h : qa_find f n < n
    · rw [if_pos h]
      exact ⟨by omega, h2, fun _ => h3 h⟩
    · have e : qa_find f n = n := by omega
      rw [if_neg h]
      cases hf : f n with
      | true =>
        rw [if_pos rfl]
        exact ⟨by omega, fun j hj => h2 j (by omega), fun _ => hf⟩
      | false =>
        rw [if_neg (by decide)]
        refine ⟨by omega, fun j hj => ?_, fun h => by omega⟩
        by_cases ej : j = n
        · subst ej; exact hf
        · exact h2 j (by omega)
theorem qa_find_le (f : Nat → Bool) (n : Nat) : qa_find f n ≤ n := (qa_find_sp f n).1
theorem qa_find_lt {f : Nat → Bool} {n j : Nat} (h : j < qa_find f n) : f j = false := (qa_find_sp f n).2.1 j h
theorem qa_find_t {f : Nat → Bool} {n : Nat} (h : qa_find f n < n) : f (qa_find f n) = true := (qa_find_sp f n).2.2 h
theorem qa_find_eq {f : Nat → Bool} {n j : Nat} (hj : j < n) (ht : f j = true) (hl : ∀ i, i < j → f i = false) : qa_find f n = j := by
  rcases Nat.lt_trichotomy (qa_find f n) j with h | h | h
  · have := qa_find_t (f := f) (n := n) (by omega)
    rw [hl _ h] at this
    exact Bool.noConfusion this
  · exact h
  · rw [qa_find_lt h] at ht
    exact Bool.noConfusion ht
theorem qa_find_n {f : Nat → Bool} {n : Nat} (h : ∀ i, i < n → f i = false) : qa_find f n = n := by
  rcases Nat.lt_or_ge (qa_find f n) n with h2 | h2
  · have := qa_find_t h2
    rw [h _ h2] at this
    exact Bool.noConfusion this
  · have := qa_find_le f n; omega
theorem qa_find_lt_of {f : Nat → Bool} {n j : Nat} (hj : j < n) (ht : f j = true) : qa_find f n ≤ j := by
  rcases Nat.lt_or_ge j (qa_find f n) with h | h
  · rw [qa_find_lt h] at ht; exact Bool.noConfusion ht
  · exact h
theorem qa_tf {b : Bool} (h : ¬ b = true) : b = false := by cases b <;> simp_all
theorem qa_ft {b : Bool} (h : ¬ b = false) : b = true := by cases b <;> simp_all
theorem qa_iffb {a b : Bool} (h : a = true ↔ b = true) : a = b := by
  cases a <;> cases b <;> simp_all
/-! ===== truth as an int ===== -/
def qa_b (b : Bool) : Int32 := if b = true then 1 else 0
theorem qa_bt : qa_b true = 1 := rfl
theorem qa_bf : qa_b false = 0 := rfl
theorem qa_br {b : Bool} {A B : Prop} (f : b = false → A) (t : b = true → B) : (qa_b b = 0 → A) ∧ (¬ qa_b b = 0 → B) := by
  cases b
  · exact ⟨fun _ => f rfl, fun h => absurd rfl h⟩
  · exact ⟨fun h => absurd h (by decide), fun _ => t rfl⟩
theorem qa_b0 {b : Bool} : qa_b b = 0 ↔ b = false := by
  cases b
  · exact ⟨fun _ => rfl, fun _ => rfl⟩
  · exact ⟨fun h => absurd h (by decide), fun h => Bool.noConfusion h⟩
theorem qa_vb (b : Bool) : vp_nar .boolean (qa_b b) = qa_b b := by cases b <;> decide
theorem qa_vb0 : vp_nar .boolean 0 = 0 := by decide
theorem qa_vb1 : vp_nar .boolean 1 = 1 := by decide
theorem qa_vs0 : vp_nar .short 0 = 0 := by decide
/-! ===== the program, pure ===== -/
abbrev QA_P : Type := Nat × Nat × Nat × Nat × (Nat → Nat) × (Nat → Nat) × (Nat → Nat) × (Nat → Nat) × (Nat → Nat) × (Nat → Nat) × (Nat → Nat)
def qa_v (P : QA_P) : Nat := P.1
def qa_c (P : QA_P) : Nat := P.2.1
def qa_m (P : QA_P) : Nat := P.2.2.1
def qa_w (P : QA_P) : Nat := P.2.2.2.1
def qa_k (P : QA_P) : Nat → Nat := P.2.2.2.2.1
def qa_h (P : QA_P) : Nat → Nat := P.2.2.2.2.2.1
def qa_o (P : QA_P) : Nat → Nat := P.2.2.2.2.2.2.1
def qa_x (P : QA_P) : Nat → Nat := P.2.2.2.2.2.2.2.1
def qa_y (P : QA_P) : Nat → Nat := P.2.2.2.2.2.2.2.2.1
def qa_z (P : QA_P) : Nat → Nat := P.2.2.2.2.2.2.2.2.2.1
def qa_e (P : QA_P) : Nat → Nat := P.2.2.2.2.2.2.2.2.2.2
/-- a sound program -/
def qa_OK (P : QA_P) : Prop :=
  (qa_v P ≤ 6 ∧ qa_c P ≤ 16 ∧ qa_m P ≤ 9 ∧ qa_w P ≤ 9) ∧
  (∀ v, v < qa_v P → qa_k P v ≤ 2) ∧ (∀ k, k < 30 → qa_h P k ≤ 99) ∧
  (∀ i, i < qa_c P → qa_o P i ≤ 7 ∧ qa_x P i < qa_v P ∧ qa_e P i ≤ 9) ∧
  (∀ i, i < qa_c P → 1 ≤ qa_o P i → qa_o P i ≤ 4 → qa_y P i < qa_v P) ∧
  (∀ i, i < qa_c P → 2 ≤ qa_o P i → qa_o P i ≤ 4 → qa_z P i < qa_v P) ∧
  (∀ i, i < qa_c P → qa_o P i = 7 → qa_y P i ≤ 15)
/-- the arrays hold it -/
def qa_PG (P : QA_P) (aK aC aO aX aY aZ aW : Nat → Int32) : Prop :=
  qa_OK P ∧ (∀ v, v < qa_v P → aK v = nI (qa_k P v)) ∧ (∀ k, k < 30 → aC k = nI (qa_h P k)) ∧
  (∀ i, i < qa_c P → aO i = nI (qa_o P i) ∧ aX i = nI (qa_x P i) ∧ aW i = nI (qa_e P i)) ∧
  (∀ i, i < qa_c P → 1 ≤ qa_o P i → qa_o P i ≤ 4 → aY i = nI (qa_y P i)) ∧
  (∀ i, i < qa_c P → 2 ≤ qa_o P i → qa_o P i ≤ 4 → aZ i = nI (qa_z P i)) ∧
  (∀ i, i < qa_c P → qa_o P i = 7 → aY i = nI (qa_y P i))
theorem qa_v6 {P : QA_P} (h : qa_OK P) : qa_v P ≤ 6 := h.1.1
theorem qa_c16 {P : QA_P} (h : qa_OK P) : qa_c P ≤ 16 := h.1.2.1
section
variable {P : QA_P} {aK aC aO aX aY aZ aW : Nat → Int32}
theorem qa_gK (hP : qa_PG P aK aC aO aX aY aZ aW) {v : Nat} (h : v < qa_v P) : aK v = nI (qa_k P v) ∧ qa_k P v ≤ 2 := ⟨hP.2.1 v h, hP.1.2.1 v h⟩
theorem qa_gC (hP : qa_PG P aK aC aO aX aY aZ aW) {k : Nat} (h : k < 30) : aC k = nI (qa_h P k) ∧ qa_h P k ≤ 99 := ⟨hP.2.2.1 k h, hP.1.2.2.1 k h⟩
theorem qa_gO (hP : qa_PG P aK aC aO aX aY aZ aW) {i : Nat} (h : i < qa_c P) : aO i = nI (qa_o P i) ∧ qa_o P i ≤ 7 := ⟨(hP.2.2.2.1 i h).1, (hP.1.2.2.2.1 i h).1⟩
theorem qa_gX (hP : qa_PG P aK aC aO aX aY aZ aW) {i : Nat} (h : i < qa_c P) : aX i = nI (qa_x P i) ∧ qa_x P i < qa_v P := ⟨(hP.2.2.2.1 i h).2.1, (hP.1.2.2.2.1 i h).2.1⟩
theorem qa_gW (hP : qa_PG P aK aC aO aX aY aZ aW) {i : Nat} (h : i < qa_c P) : aW i = nI (qa_e P i) ∧ qa_e P i ≤ 9 := ⟨(hP.2.2.2.1 i h).2.2, (hP.1.2.2.2.1 i h).2.2⟩
theorem qa_gY (hP : qa_PG P aK aC aO aX aY aZ aW) {i : Nat} (h : i < qa_c P) (a : 1 ≤ qa_o P i) (b : qa_o P i ≤ 4) : aY i = nI (qa_y P i) ∧ qa_y P i < qa_v P := ⟨hP.2.2.2.2.1 i h a b, hP.1.2.2.2.2.1 i h a b⟩
theorem qa_gZ (hP : qa_PG P aK aC aO aX aY aZ aW) {i : Nat} (h : i < qa_c P) (a : 2 ≤ qa_o P i) (b : qa_o P i ≤ 4) : aZ i = nI (qa_z P i) ∧ qa_z P i < qa_v P := ⟨hP.2.2.2.2.2.1 i h a b, hP.1.2.2.2.2.2.1 i h a b⟩
theorem qa_gS (hP : qa_PG P aK aC aO aX aY aZ aW) {i : Nat} (h : i < qa_c P) (a : qa_o P i = 7) : aY i = nI (qa_y P i) ∧ qa_y P i ≤ 15 := ⟨hP.2.2.2.2.2.2 i h a, hP.1.2.2.2.2.2.2 i h a⟩
end
/-! ===== what the program means ===== -/
def qa_fit (P : QA_P) (v p : Nat) : Bool := decide (p = 4 ∨ (p < 4 ∧ (qa_k P v = 0 ∨ (qa_k P v = 1 ∧ (p = 0 ∨ p = 2)) ∨ (qa_k P v = 2 ∧ p < 2))))
def qa_occ (P : QA_P) (v p r : Nat) : Bool := decide (p < 4 ∧ (r = p ∨ (qa_k P v = 1 ∧ r = p + 1)))
def qa_sh (P : QA_P) (u p v q : Nat) : Bool := qa_any (fun r => qa_occ P u p r && qa_occ P v q r) 4
def qa_al (P : QA_P) (u v : Nat) : Bool := decide (qa_k P u = 1 ↔ qa_k P v = 1)
def qa_wr (P : QA_P) (i u : Nat) : Bool := decide (qa_o P i ≤ 5 ∧ qa_x P i = u)
def qa_sec (P : QA_P) (i u : Nat) : Bool := decide (1 ≤ qa_o P i ∧ qa_o P i ≤ 4 ∧ qa_y P i = u)
def qa_thd (P : QA_P) (i u : Nat) : Bool := decide (2 ≤ qa_o P i ∧ qa_o P i ≤ 4 ∧ qa_z P i = u)
def qa_rd (P : QA_P) (i u : Nat) : Bool := qa_sec P i u || qa_thd P i u || decide (6 ≤ qa_o P i ∧ qa_x P i = u)
def qa_lf (P : QA_P) (u : Nat) : Nat → Nat → Bool
  | 0, _ => false
  | f + 1, j => decide (j < qa_c P) && (qa_rd P j u || (!qa_wr P j u && (qa_lf P u f (j + 1) || (decide (qa_o P j = 7) && qa_lf P u f (j + 1 + qa_y P j)))))
def qa_lb (P : QA_P) (u j : Nat) : Bool := qa_lf P u (qa_c P) j
def qa_la (P : QA_P) (u j : Nat) : Bool := qa_lb P u (j + 1) || (decide (qa_o P j = 7) && qa_lb P u (j + 1 + qa_y P j))
theorem qa_lf_s (P : QA_P) (u f j : Nat) : qa_lf P u (f + 1) j = (decide (j < qa_c P) && (qa_rd P j u || (!qa_wr P j u && (qa_lf P u f (j + 1) || (decide (qa_o P j = 7) && qa_lf P u f (j + 1 + qa_y P j)))))) := rfl
theorem qa_lf_z {P : QA_P} {u j : Nat} (h : qa_c P ≤ j) (f : Nat) : qa_lf P u f j = false := by
  cases f with
  | zero => rfl
  | succ f => rw [qa_lf_s, decide_eq_false (by omega), Bool.false_and]
theorem qa_lf_st {P : QA_P} {u : Nat} : ∀ f g j, qa_c P - j ≤ f → qa_c P - j ≤ g → qa_lf P u f j = qa_lf P u g j := by
  intro f
  induction f with
  | zero => intro g j hf _; rw [qa_lf_z (by omega), qa_lf_z (by omega)]
  | succ f ih =>
    intro g j hf hg
    by_cases hj : j < qa_c P
    · cases g with
      | zero => omega
      | succ g => rw [qa_lf_s, qa_lf_s, ih g (j + 1) (by omega) (by omega), ih g (j + 1 + qa_y P j) (by omega) (by omega)]
    · rw [qa_lf_z (by omega), qa_lf_z (by omega)]
theorem qa_lb_eq (P : QA_P) (u j : Nat) : qa_lb P u j = (decide (j < qa_c P) && (qa_rd P j u || (!qa_wr P j u && qa_la P u j))) :=
  (qa_lf_st (qa_c P) (qa_c P + 1) j (by omega) (by omega)).trans (qa_lf_s P u (qa_c P) j)
theorem qa_lb_ge {P : QA_P} {u j : Nat} (h : qa_c P ≤ j) : qa_lb P u j = false := qa_lf_z h _
def qa_hit (P : QA_P) (i w o : Nat) : Bool := qa_wr P i w && qa_la P o i && !(decide (qa_o P i = 1 ∧ qa_y P i = o) && qa_al P w o)
def qa_mt2 (P : QA_P) (u v i : Nat) : Bool := qa_hit P i u v || qa_hit P i v u
def qa_I (P : QA_P) (u v : Nat) : Bool := decide (u ≠ v) && qa_any (qa_mt2 P u v) (qa_c P)
def qa_jn (P : QA_P) (i : Nat) : Bool := decide (qa_o P i = 1 ∧ qa_x P i ≠ qa_y P i) && qa_al P (qa_x P i) (qa_y P i)
def qa_ab (P : QA_P) (u v i : Nat) : Bool := decide ((qa_x P i = u ∧ qa_y P i = v) ∨ (qa_x P i = v ∧ qa_y P i = u))
def qa_lk (P : QA_P) (u v : Nat) : Bool := qa_any (fun i => qa_jn P i && qa_ab P u v i) (qa_c P)
def qa_N0 (P : QA_P) (u v : Nat) : Bool := qa_I P u v || qa_lk P u v
def qa_fac (P : QA_P) (v : Nat) : Nat := if qa_k P v = 1 then 2 else 1
def qa_one (P : QA_P) (v i : Nat) : Nat := qa_e P i * qa_m P * qa_fac P v
def qa_trm (P : QA_P) (v i : Nat) : Nat := (if qa_x P i = v then qa_one P v i else 0) + (if qa_sec P i v = true then qa_one P v i else 0) + (if qa_thd P i v = true then qa_one P v i else 0)
def qa_pr (P : QA_P) (v p : Nat) : Nat := qa_h P (v * 5 + p) + if p = 4 then qa_sum (qa_trm P v) (qa_c P) else 0
def qa_mv (P : QA_P) (u v i : Nat) : Nat := if (qa_jn P i && qa_ab P u v i) = true then qa_e P i * qa_w P else 0
def qa_mt (P : QA_P) (u v : Nat) : Nat := qa_sum (qa_mv P u v) (qa_c P)
def qa_pc (P : QA_P) (u p v q : Nat) : Nat := if p = q ∧ p ≠ 4 then 0 else qa_mt P u v
def qa_cl (P : QA_P) (u p v q : Nat) : Bool := qa_I P u v && qa_sh P u p v q
def qa_alw (P : QA_P) (b : Nat → Nat) : Bool := qa_all (fun v => qa_fit P v (b v) && qa_all (fun u => !qa_cl P u (b u) v (b v)) v) (qa_v P)
def qa_cost (P : QA_P) (b : Nat → Nat) : Nat := qa_sum (fun v => qa_pr P v (b v) + qa_sum (fun u => qa_pc P u (b u) v (b v)) v) (qa_v P)
def qa_jc (P : QA_P) (b : Nat → Nat) (i : Nat) : Nat := if (qa_jn P i && decide (b (qa_x P i) ≠ b (qa_y P i) ∨ b (qa_x P i) = 4)) = true then qa_e P i * qa_w P else 0
def qa_costY (P : QA_P) (b : Nat → Nat) : Nat := qa_sum (fun v => qa_pr P v (b v)) (qa_v P) + qa_sum (qa_jc P b) (qa_c P)
/-! symmetry -/
theorem qa_al_c (P : QA_P) (u v : Nat) : qa_al P u v = qa_al P v u := decide_eq_decide.mpr ⟨fun h => h.symm, fun h => h.symm⟩
theorem qa_mt2_c (P : QA_P) (u v i : Nat) : qa_mt2 P u v i = qa_mt2 P v u i := Bool.or_comm _ _
theorem qa_I_c (P : QA_P) (u v : Nat) : qa_I P u v = qa_I P v u := by
  unfold qa_I
  rw [qa_any_congr (fun i _ => qa_mt2_c P u v i)]
  exact congrArg (· && _) (decide_eq_decide.mpr ⟨fun h => h.symm, fun h => h.symm⟩)
theorem qa_I_i (P : QA_P) (u : Nat) : qa_I P u u = false := by
  unfold qa_I
  rw [decide_eq_false (by simp), Bool.false_and]
theorem qa_ab_c (P : QA_P) (u v i : Nat) : qa_ab P u v i = qa_ab P v u i := decide_eq_decide.mpr ⟨fun h => h.symm, fun h => h.symm⟩
theorem qa_lk_c (P : QA_P) (u v : Nat) : qa_lk P u v = qa_lk P v u := by
  unfold qa_lk
  exact qa_any_congr (fun i _ => by rw [qa_ab_c])
theorem qa_lk_i (P : QA_P) (u : Nat) : qa_lk P u u = false := by
  refine qa_any_f (fun i _ => qa_tf (fun h => ?_))
  rw [Bool.and_eq_true] at h
  have h1 := h.1
  unfold qa_jn at h1
  rw [Bool.and_eq_true, decide_eq_true_eq] at h1
  have h2 := of_decide_eq_true h.2
  omega
theorem qa_N0_c (P : QA_P) (u v : Nat) : qa_N0 P u v = qa_N0 P v u := by
  unfold qa_N0; rw [qa_I_c, qa_lk_c]
theorem qa_N0_i (P : QA_P) (u : Nat) : qa_N0 P u u = false := by
  unfold qa_N0; rw [qa_I_i, qa_lk_i]; rfl
theorem qa_mt_c (P : QA_P) (u v : Nat) : qa_mt P u v = qa_mt P v u := by
  unfold qa_mt
  exact qa_sum_congr (fun i _ => by unfold qa_mv; rw [qa_ab_c])
theorem qa_sh_c (P : QA_P) (u p v q : Nat) : qa_sh P u p v q = qa_sh P v q u p := qa_any_congr (fun _ _ => Bool.and_comm _ _)
theorem qa_cl_c (P : QA_P) (u p v q : Nat) : qa_cl P u p v q = qa_cl P v q u p := by
  unfold qa_cl; rw [qa_I_c, qa_sh_c]
theorem qa_pc_c (P : QA_P) (u p v q : Nat) : qa_pc P u p v q = qa_pc P v q u p := by
  unfold qa_pc
  rw [qa_mt_c]
  by_cases h : p = q ∧ p ≠ 4
  · rw [if_pos h, if_pos ⟨h.1.symm, h.1 ▸ h.2⟩]
  · rw [if_neg h, if_neg (fun z : q = p ∧ q ≠ 4 => h ⟨z.1.symm, z.1 ▸ z.2⟩)]
theorem qa_sh4 (P : QA_P) (u p v : Nat) : qa_sh P u p v 4 = false :=
  qa_any_f (fun r _ => by rw [show qa_occ P v 4 r = false from decide_eq_false (by omega), Bool.and_false])
end
section
/-! ===== the two ways to sum the moves ===== -/
theorem qa_jn_iff {P : QA_P} {i : Nat} : qa_jn P i = true ↔ (qa_o P i = 1 ∧ qa_x P i ≠ qa_y P i) ∧ qa_al P (qa_x P i) (qa_y P i) = true := by
  unfold qa_jn
  rw [Bool.and_eq_true, decide_eq_true_eq]
def qa_g (P : QA_P) (b : Nat → Nat) (u v i : Nat) : Nat := if b u = b v ∧ b u ≠ 4 then 0 else qa_mv P u v i
theorem qa_pc_g (P : QA_P) (b : Nat → Nat) (u v : Nat) : qa_pc P u (b u) v (b v) = qa_sum (qa_g P b u v) (qa_c P) := by
  unfold qa_pc
  by_cases h : b u = b v ∧ b u ≠ 4
  · rw [if_pos h, qa_sum_z (fun i _ => by unfold qa_g; rw [if_pos h])]
  · rw [if_neg h]
    unfold qa_mt
    exact qa_sum_congr (fun i _ => by unfold qa_g; rw [if_neg h])
/-- a point in the triangle -/
theorem qa_tri (c lo hi n : Nat) (h1 : lo < hi) (h2 : hi < n) : qa_sum (fun v => qa_sum (fun u => if v = hi ∧ u = lo then c else 0) v) n = c := by
  have e : ∀ v, v < n → qa_sum (fun u => if v = hi ∧ u = lo then c else 0) v = if v = hi then c else 0 := by
    intro v _
    by_cases hv : v = hi
    · subst hv
      rw [if_pos rfl, qa_sum_congr (g := fun u => if u = lo then c else 0) (fun u _ => ?_), qa_sum_pt (fun _ => c), if_pos h1]
      by_cases hu : u = lo
      · rw [if_pos ⟨rfl, hu⟩, if_pos hu]
      · rw [if_neg (fun z => hu z.2), if_neg hu]
    · rw [if_neg hv]
      exact qa_sum_z (fun u _ => if_neg (fun z => hv z.1))
  rw [qa_sum_congr e, qa_sum_pt (fun _ => c), if_pos h2]
theorem qa_g_row {P : QA_P} (h : qa_OK P) (b : Nat → Nat) {i : Nat} (hi : i < qa_c P) : qa_sum (fun v => qa_sum (fun u => qa_g P b u v i) v) (qa_v P) = qa_jc P b i := by
  cases hj : qa_jn P i with
  | false =>
    unfold qa_jc
    rw [hj, Bool.false_and, if_neg (by decide)]
    refine qa_sum_z (fun v _ => qa_sum_z (fun u _ => ?_))
    unfold qa_g qa_mv
    rw [hj, Bool.false_and, if_neg (by decide : ¬ (false = true))]
    split <;> rfl
  | true =>
    have hj' := qa_jn_iff.mp hj
    have hx := (h.2.2.2.1 i hi).2.1
    have hy := h.2.2.2.2.1 i hi (by omega) (by omega)
    have hne := hj'.1.2
    rcases Nat.lt_or_gt_of_ne hne with hlt | hlt
    · rw [qa_sum_congr (g := fun v => qa_sum (fun u => if v = qa_y P i ∧ u = qa_x P i then qa_jc P b i else 0) v) (fun v _ => qa_sum_congr (fun u hu => ?_)), qa_tri _ _ _ _ hlt hy]
      unfold qa_g qa_mv qa_jc qa_ab
      simp only [hj, Bool.true_and, decide_eq_true_eq]
      by_cases e : v = qa_y P i ∧ u = qa_x P i
      · obtain ⟨e1, e2⟩ := e
        subst e1 e2
        rw [if_pos (⟨rfl, rfl⟩ : qa_y P i = qa_y P i ∧ qa_x P i = qa_x P i), if_pos (Or.inl ⟨rfl, rfl⟩)]
        by_cases c : b (qa_x P i) = b (qa_y P i) ∧ b (qa_x P i) ≠ 4
        · rw [if_pos c, if_neg (by omega)]
        · rw [if_neg c, if_pos (by omega)]
      · rw [if_neg e, if_neg (by omega : ¬ ((qa_x P i = u ∧ qa_y P i = v) ∨ (qa_x P i = v ∧ qa_y P i = u)))]
        split <;> rfl
    · rw [qa_sum_congr (g := fun v => qa_sum (fun u => if v = qa_x P i ∧ u = qa_y P i then qa_jc P b i else 0) v) (fun v _ => qa_sum_congr (fun u hu => ?_)), qa_tri _ _ _ _ hlt hx]
      unfold qa_g qa_mv qa_jc qa_ab
      simp only [hj, Bool.true_and, decide_eq_true_eq]
      by_cases e : v = qa_x P i ∧ u = qa_y P i
      · obtain ⟨e1, e2⟩ := e
        subst e1 e2
        rw [if_pos (⟨rfl, rfl⟩ : qa_x P i = qa_x P i ∧ qa_y P i = qa_y P i), if_pos (Or.inr ⟨rfl, rfl⟩)]
        by_cases c : b (qa_y P i) = b (qa_x P i) ∧ b (qa_y P i) ≠ 4
        · rw [if_pos c, if_neg (by omega)]
        · rw [if_neg c, if_pos (by omega)]
      · rw [if_neg e, if_neg (by omega : ¬ ((qa_x P i = u ∧ qa_y P i = v) ∨ (qa_x P i = v ∧ qa_y P i = u)))]
        split <;> rfl
theorem qa_cost_eq {P : QA_P} (h : qa_OK P) (b : Nat → Nat) : qa_cost P b = qa_costY P b := by
  unfold qa_cost qa_costY
  rw [qa_sum_add]
  congr 1
  rw [qa_sum_congr (g := fun v => qa_sum (fun i => qa_sum (fun u => qa_g P b u v i) v) (qa_c P)) (fun v _ => ?_), qa_sum_swap]
  · exact qa_sum_congr (fun i hi => qa_g_row h b hi)
  · rw [qa_sum_congr (fun u _ => qa_pc_g P b u v)]
    exact qa_sum_swap (fun u i => qa_g P b u v i) v (qa_c P)
/-! ===== bounds ===== -/
theorem qa_one_le {P : QA_P} (h : qa_OK P) {i : Nat} (hi : i < qa_c P) (v : Nat) : qa_one P v i ≤ 162 := by
  have h1 := (h.2.2.2.1 i hi).2.2
  have h2 := h.1.2.2.1
  have h3 : qa_fac P v ≤ 2 := by unfold qa_fac; split <;> omega
  unfold qa_one
  exact Nat.mul_le_mul (Nat.mul_le_mul h1 h2) h3
theorem qa_trm_le {P : QA_P} (h : qa_OK P) {i : Nat} (hi : i < qa_c P) (v : Nat) : qa_trm P v i ≤ 486 := by
  have h1 := qa_one_le h hi v
  unfold qa_trm
  split <;> split <;> split <;> omega
theorem qa_pr_le {P : QA_P} (h : qa_OK P) {v p : Nat} (hv : v < qa_v P) (hp : p < 5) : qa_pr P v p ≤ 7875 := by
  have h1 := h.2.2.1 (v * 5 + p) (by have := qa_v6 h; omega)
  have h2 : qa_sum (qa_trm P v) (qa_c P) ≤ qa_c P * 486 := qa_sum_bd (fun i hi => qa_trm_le h hi v)
  have h3 := qa_c16 h
  unfold qa_pr
  split <;> omega
theorem qa_ew_le {P : QA_P} (h : qa_OK P) {i : Nat} (hi : i < qa_c P) : qa_e P i * qa_w P ≤ 81 :=
  Nat.mul_le_mul (h.2.2.2.1 i hi).2.2 h.1.2.2.2
theorem qa_mt_le {P : QA_P} (h : qa_OK P) (u v : Nat) : qa_mt P u v ≤ 1296 := by
  have h2 : qa_sum (qa_mv P u v) (qa_c P) ≤ qa_c P * 81 := qa_sum_bd (fun i hi => by
    have := qa_ew_le h hi
    unfold qa_mv
    split <;> omega)
  have h3 := qa_c16 h
  unfold qa_mt
  omega
theorem qa_pc_le {P : QA_P} (h : qa_OK P) (u p v q : Nat) : qa_pc P u p v q ≤ 1296 := by
  have := qa_mt_le h u v
  unfold qa_pc
  split <;> omega
theorem qa_costY_le {P : QA_P} (h : qa_OK P) {b : Nat → Nat} (hb : ∀ v, v < qa_v P → b v < 5) : qa_costY P b ≤ 50000 := by
  have h1 : qa_sum (fun v => qa_pr P v (b v)) (qa_v P) ≤ qa_v P * 7875 := qa_sum_bd (fun v hv => qa_pr_le h hv (hb v hv))
  have h2 : qa_sum (qa_jc P b) (qa_c P) ≤ qa_c P * 81 := qa_sum_bd (fun i hi => by
    have := qa_ew_le h hi
    unfold qa_jc
    split <;> omega)
  have h3 := qa_c16 h
  have h4 := qa_v6 h
  unfold qa_costY
  omega
theorem qa_cost_le {P : QA_P} (h : qa_OK P) {b : Nat → Nat} (hb : ∀ v, v < qa_v P → b v < 5) : qa_cost P b ≤ 50000 := by
  rw [qa_cost_eq h]; exact qa_costY_le h hb
/-! ===== codes ===== -/
def qa_dg (c v : Nat) : Nat := c / 5 ^ v % 5
def qa_code (b : Nat → Nat) (n : Nat) : Nat := qa_sum (fun v => b v * 5 ^ v) n
theorem qa_dg_lt (c v : Nat) : qa_dg c v < 5 := Nat.mod_lt _ (by omega)
theorem qa_code_lt {b : Nat → Nat} {n : Nat} (h : ∀ v, v < n → b v < 5) : qa_code b n < 5 ^ n := by
  induction n with
  | zero => exact Nat.lt_of_lt_of_eq Nat.zero_lt_one (Nat.pow_zero 5).symm
  | succ n ih =>
    have h1 := ih (fun v hv => h v (by omega))
    have h2 : b n * 5 ^ n ≤ 4 * 5 ^ n := Nat.mul_le_mul_right _ (by have := h n (by omega); omega)
    unfold qa_code at h1 ⊢
    rw [qa_sum_s, Nat.pow_succ]
    omega
theorem qa_dg_mod (c n : Nat) : qa_code (qa_dg c) n = c % 5 ^ n := by
  induction n with
  | zero => rw [Nat.pow_zero, Nat.mod_one]; rfl
  | succ n ih =>
    unfold qa_code at ih ⊢
    rw [qa_sum_s, ih, Nat.pow_succ, Nat.mod_mul, Nat.mul_comm (5 ^ n)]
    rfl
theorem qa_dg_code {c n : Nat} (h : c < 5 ^ n) : qa_code (qa_dg c) n = c := by rw [qa_dg_mod, Nat.mod_eq_of_lt h]
theorem qa_code_dg {b : Nat → Nat} {n : Nat} (h : ∀ v, v < n → b v < 5) : ∀ v, v < n → qa_dg (qa_code b n) v = b v := by
  induction n with
  | zero => intro v hv; omega
  | succ n ih =>
    intro v hv
    have h0 := qa_code_lt (n := n) (b := b) (fun v hv => h v (by omega))
    have e : qa_code b (n + 1) = qa_code b n + b n * 5 ^ n := rfl
    unfold qa_dg
    rw [e]
    by_cases c : v = n
    · subst c
      rw [Nat.add_mul_div_right _ _ (Nat.pow_pos (by omega)), Nat.div_eq_of_lt h0, Nat.zero_add, Nat.mod_eq_of_lt (h v (by omega))]
    · have i1 := ih (fun v hv => h v (by omega)) v (by omega)
      obtain ⟨d, rfl⟩ : ∃ d, n = v + 1 + d := ⟨n - v - 1, by omega⟩
      rw [Nat.pow_add, Nat.pow_succ, show b (v + 1 + d) * (5 ^ v * 5 * 5 ^ d) = (b (v + 1 + d) * 5 ^ d * 5) * 5 ^ v by
        simp only [Nat.mul_assoc, Nat.mul_comm, Nat.mul_left_comm]]
      rw [Nat.add_mul_div_right _ _ (Nat.pow_pos (by omega)), Nat.add_mul_mod_self_right]
      exact i1
theorem qa_code_congr {b b' : Nat → Nat} {n : Nat} (h : ∀ v, v < n → b v = b' v) : qa_code b n = qa_code b' n :=
  qa_sum_congr (fun v hv => by rw [h v hv])
theorem qa_pow6 {n : Nat} (h : n ≤ 6) : 5 ^ n ≤ 15625 := Nat.pow_le_pow_right (n := 5) (by omega) h
theorem qa_alw_congr {P : QA_P} {b b' : Nat → Nat} (h : ∀ v, v < qa_v P → b v = b' v) : qa_alw P b = qa_alw P b' := by
  unfold qa_alw
  refine qa_all_congr (fun v hv => ?_)
  have e : qa_all (fun u => !qa_cl P u (b u) v (b v)) v = qa_all (fun u => !qa_cl P u (b' u) v (b' v)) v :=
    qa_all_congr (fun u hu => by rw [h u (by omega), h v hv])
  try dsimp only
  rw [e, h v hv]
theorem qa_cost_congr {P : QA_P} {b b' : Nat → Nat} (h : ∀ v, v < qa_v P → b v = b' v) : qa_cost P b = qa_cost P b' := by
  unfold qa_cost
  refine qa_sum_congr (fun v hv => ?_)
  have e : qa_sum (fun u => qa_pc P u (b u) v (b v)) v = qa_sum (fun u => qa_pc P u (b' u) v (b' v)) v :=
    qa_sum_congr (fun u hu => by rw [h u (by omega), h v hv])
  try dsimp only
  rw [e, h v hv]
end
section
/-! ===== the reduction, pure: what is left, neighbours, pins, vectors, edges ===== -/
abbrev QA_S : Type := (Nat → Bool) × (Nat → Nat → Bool) × (Nat → Nat) × (Nat → Nat → Nat) × (Nat → Nat → Nat → Nat → Nat)
def qa_L (S : QA_S) : Nat → Bool := S.1
def qa_N (S : QA_S) : Nat → Nat → Bool := S.2.1
def qa_pn (S : QA_S) : Nat → Nat := S.2.2.1
def qa_V (S : QA_S) : Nat → Nat → Nat := S.2.2.2.1
def qa_E (S : QA_S) : Nat → Nat → Nat → Nat → Nat := S.2.2.2.2
def qa_ar (S : QA_S) (v u : Nat) : Bool := qa_L S u && decide (u ≠ v) && qa_N S v u
def qa_ln (S : QA_S) (v u : Nat) : Bool := qa_L S u && qa_N S v u
def qa_deg (P : QA_P) (S : QA_S) (v : Nat) : Nat := qa_sum (fun u => (qa_ln S v u).toNat) (qa_v P)
def qa_sf (P : QA_P) (S : QA_S) (v : Nat) : Bool := qa_L S v && decide (qa_deg P S v ≤ 2)
def qa_smp (P : QA_P) (S : QA_S) : Nat := qa_find (qa_sf P S) (qa_v P)
def qa_dn (P : QA_P) (S : QA_S) : Nat → Nat
  | 0 => 9
  | k + 1 => if qa_L S k = true then (if qa_dn P S k = 9 then k else if qa_deg P S (qa_dn P S k) < qa_deg P S k then k else qa_dn P S k) else qa_dn P S k
def qa_pk (P : QA_P) (S : QA_S) : Nat := if qa_smp P S < qa_v P then qa_smp P S else qa_dn P S (qa_v P)
def qa_riv (P : QA_P) (S : QA_S) (v p u : Nat) : Bool := decide (qa_pn S u < 5) && qa_cl P v p u (qa_pn S u)
def qa_op (P : QA_P) (S : QA_S) (v p : Nat) : Bool := qa_fit P v p && qa_all (fun u => !qa_riv P S v p u) (qa_v P)
def qa_pp (P : QA_P) (S : QA_S) (v : Nat) : Nat → Nat
  | 0 => 4
  | k + 1 => if (qa_op P S v (3 - k) && decide (qa_pr P v (3 - k) ≤ qa_pr P v (qa_pp P S v k))) = true then 3 - k else qa_pp P S v k
def qa_mn (f : Nat → Nat) : Nat := min (min (min (min (f 0) (f 1)) (f 2)) (f 3)) (f 4)
def qa_lo (P : QA_P) (S : QA_S) (v : Nat) : Nat := qa_find (qa_ar S v) (qa_v P)
def qa_hf (P : QA_P) (S : QA_S) (v u : Nat) : Bool := qa_ar S v u && decide (u ≠ qa_lo P S v)
def qa_hi (P : QA_P) (S : QA_S) (v : Nat) : Nat := qa_find (qa_hf P S v) (qa_v P)
def qa_k1 (S : QA_S) (v u p : Nat) : Nat := qa_mn (fun r => qa_V S v r + qa_E S v r u p)
def qa_k2 (S : QA_S) (v u p w q : Nat) : Nat := qa_mn (fun r => qa_V S v r + qa_E S v r u p + qa_E S v r w q)
def qa_fL (S : QA_S) (v u : Nat) : Bool := qa_L S u && decide (u ≠ v)
def qa_fN (S : QA_S) (v a b : Nat) : Bool := qa_N S a b || (decide (a ≠ b) && qa_L S a && qa_L S b && qa_N S v a && qa_N S v b)
def qa_fV (P : QA_P) (S : QA_S) (v a p : Nat) : Nat := qa_V S a p + (if qa_lo P S v < qa_v P ∧ qa_hi P S v = qa_v P ∧ a = qa_lo P S v then qa_k1 S v a p else 0)
def qa_fE (P : QA_P) (S : QA_S) (v a p b q : Nat) : Nat := qa_E S a p b q + (if qa_hi P S v < qa_v P ∧ a = qa_lo P S v ∧ b = qa_hi P S v then qa_k2 S v a p b q else 0) + (if qa_hi P S v < qa_v P ∧ a = qa_hi P S v ∧ b = qa_lo P S v then qa_k2 S v b q a p else 0)
def qa_fold (P : QA_P) (S : QA_S) (v : Nat) : QA_S := (qa_fL S v, qa_fN S v, qa_pn S, qa_fV P S v, qa_fE P S v)
def qa_pP (P : QA_P) (S : QA_S) (v u : Nat) : Nat := if u = v then qa_pp P S v 4 else qa_pn S u
def qa_pV (P : QA_P) (S : QA_S) (v a p : Nat) : Nat := qa_V S a p + (if qa_ar S v a = true then qa_E S v (qa_pp P S v 4) a p else 0)
def qa_pin (P : QA_P) (S : QA_S) (v : Nat) : QA_S := (qa_fL S v, qa_N S, qa_pP P S v, qa_pV P S v, qa_E S)
def qa_step (P : QA_P) (S : QA_S) : QA_S := if qa_smp P S < qa_v P then qa_fold P S (qa_smp P S) else qa_pin P S (qa_dn P S (qa_v P))
def qa_V0 (P : QA_P) (v p : Nat) : Nat := if qa_fit P v p = true then qa_pr P v p * 15625 + p * 5 ^ v else 1000000000000
def qa_E0 (P : QA_P) (u p v q : Nat) : Nat := if u = v then 0 else if qa_cl P u p v q = true then 1000000000000 else qa_pc P u p v q * 15625
def qa_S0 (P : QA_P) : QA_S := (fun _ => true, qa_N0 P, fun _ => 5, qa_V0 P, qa_E0 P)
def qa_it (P : QA_P) : Nat → QA_S
  | 0 => qa_S0 P
  | s + 1 => qa_step P (qa_it P s)
/-! what lo, hi, the pick, the minimum are -/
theorem qa_ar_iff {S : QA_S} {v u : Nat} : qa_ar S v u = true ↔ qa_L S u = true ∧ u ≠ v ∧ qa_N S v u = true := by
  unfold qa_ar
  rw [Bool.and_eq_true, Bool.and_eq_true, decide_eq_true_eq, and_assoc]
theorem qa_fL_iff {S : QA_S} {v u : Nat} : qa_fL S v u = true ↔ qa_L S u = true ∧ u ≠ v := by
  unfold qa_fL
  rw [Bool.and_eq_true, decide_eq_true_eq]
theorem qa_lo_t {P : QA_P} {S : QA_S} {v : Nat} (h : qa_lo P S v < qa_v P) : qa_ar S v (qa_lo P S v) = true := qa_find_t h
theorem qa_hi_t {P : QA_P} {S : QA_S} {v : Nat} (h : qa_hi P S v < qa_v P) : qa_ar S v (qa_hi P S v) = true ∧ qa_lo P S v < qa_hi P S v := by
  have h1 : qa_hf P S v (qa_hi P S v) = true := qa_find_t h
  unfold qa_hf at h1
  rw [Bool.and_eq_true, decide_eq_true_eq] at h1
  have h2 : qa_lo P S v ≤ qa_hi P S v := qa_find_lt_of h h1.1
  exact ⟨h1.1, by omega⟩
theorem qa_three {f : Nat → Nat} {n a b c : Nat} (ha : a < b) (hb : b < c) (hc : c < n) (h1 : 1 ≤ f a) (h2 : 1 ≤ f b) (h3 : 1 ≤ f c) : 3 ≤ qa_sum f n := by
  have e : qa_sum (fun i => (if i = a then 1 else 0) + (if i = b then 1 else 0) + (if i = c then 1 else 0)) n = 3 := by
    rw [qa_sum_add, qa_sum_add, qa_sum_pt (fun _ => 1), qa_sum_pt (fun _ => 1), qa_sum_pt (fun _ => 1), if_pos (by omega), if_pos (by omega), if_pos hc]
  rw [← e]
  refine qa_sum_le (fun i _ => ?_)
  by_cases e1 : i = a
  · subst e1; rw [if_pos rfl, if_neg (by omega), if_neg (by omega)]; omega
  · by_cases e2 : i = b
    · subst e2; rw [if_neg e1, if_pos rfl, if_neg (by omega)]; omega
    · by_cases e3 : i = c
      · subst e3; rw [if_neg e1, if_neg e2, if_pos rfl]; omega
      · rw [if_neg e1, if_neg e2, if_neg e3]; omega
/-- at most two around: lo and hi are all of them -/
theorem qa_two {P : QA_P} {S : QA_S} {v : Nat} (hd : qa_deg P S v ≤ 2) {u : Nat} (hu : u < qa_v P) (h : qa_ar S v u = true) : u = qa_lo P S v ∨ (u = qa_hi P S v ∧ qa_hi P S v < qa_v P) := by
  have h0 : qa_lo P S v ≤ u := qa_find_lt_of hu h
  by_cases e : u = qa_lo P S v
  · exact Or.inl e
  · refine Or.inr ?_
    have h1 : qa_hi P S v ≤ u := qa_find_lt_of hu (by unfold qa_hf; rw [h, Bool.true_and, decide_eq_true_eq]; exact e)
    have h2 := qa_hi_t (P := P) (S := S) (v := v) (by omega)
    have h3 := qa_lo_t (P := P) (S := S) (v := v) (by omega)
    refine ⟨?_, by omega⟩
    rcases Nat.lt_or_ge (qa_hi P S v) u with hlt | hge
    · have g : ∀ w, qa_ar S v w = true → 1 ≤ (qa_ln S v w).toNat := by
        intro w hw
        have := qa_ar_iff.mp hw
        unfold qa_ln
        rw [this.1, this.2.2]
        exact Nat.le_refl 1
      have := qa_three (f := fun u => (qa_ln S v u).toNat) (n := qa_v P) h2.2 hlt hu (g _ h3) (g _ h2.1) (g _ h)
      unfold qa_deg at hd
      omega
    · omega
theorem qa_mn_le (f : Nat → Nat) {p : Nat} (hp : p < 5) : qa_mn f ≤ f p := by
  have : p = 0 ∨ p = 1 ∨ p = 2 ∨ p = 3 ∨ p = 4 := by omega
  unfold qa_mn
  rcases this with rfl | rfl | rfl | rfl | rfl <;> omega
theorem qa_mn_eq {f : Nat → Nat} {r : Nat} (hr : r < 5) (h : ∀ p, p < 5 → f r ≤ f p) : qa_mn f = f r := by
  have h0 := qa_mn_le f hr
  have h1 := h 0 (by omega)
  have h2 := h 1 (by omega)
  have h3 := h 2 (by omega)
  have h4 := h 3 (by omega)
  have h5 := h 4 (by omega)
  unfold qa_mn at h0 ⊢
  omega
theorem qa_mn_congr {f g : Nat → Nat} (h : ∀ p, p < 5 → f p = g p) : qa_mn f = qa_mn g := by
  unfold qa_mn
  rw [h 0 (by omega), h 1 (by omega), h 2 (by omega), h 3 (by omega), h 4 (by omega)]
theorem qa_dn_sp (P : QA_P) (S : QA_S) (k : Nat) (hk : k ≤ 9) : (qa_dn P S k = 9 ∧ ∀ j, j < k → qa_L S j = false) ∨ (qa_dn P S k < k ∧ qa_L S (qa_dn P S k) = true) := by
  induction k with
  | zero => exact Or.inl ⟨rfl, fun j h => absurd h (Nat.not_lt_zero j)⟩
  | succ k ih =>
    have e : qa_dn P S (k + 1) = if qa_L S k = true then (if qa_dn P S k = 9 then k else if qa_deg P S (qa_dn P S k) < qa_deg P S k then k else qa_dn P S k) else qa_dn P S k := rfl
    rw [e]
    cases hL : qa_L S k with
    | false =>
      rw [if_neg (by decide)]
      rcases ih (by omega) with ⟨h1, h2⟩ | ⟨h1, h2⟩
      · refine Or.inl ⟨h1, fun j hj => ?_⟩
        by_cases ej : j = k
        · subst ej; exact hL
        · exact h2 j (by omega)
      · exact Or.inr ⟨by omega, h2⟩
    | true =>
      rw [if_pos rfl]
      right
      rcases ih (by omega) with ⟨h1, h2⟩ | ⟨h1, h2⟩
      · rw [if_pos h1]; exact ⟨by omega, hL⟩
      · rw [if_neg (by omega)]
        split
        · exact ⟨by omega, hL⟩
        · exact ⟨by omega, h2⟩
theorem qa_pp_sp (P : QA_P) (S : QA_S) (v k : Nat) : qa_pp P S v k = 4 ∨ (qa_pp P S v k < 4 ∧ qa_op P S v (qa_pp P S v k) = true) := by
  induction k with
  | zero => exact Or.inl rfl
  | succ k ih =>
    have e : qa_pp P S v (k + 1) = if (qa_op P S v (3 - k) && decide (qa_pr P v (3 - k) ≤ qa_pr P v (qa_pp P S v k))) = true then 3 - k else qa_pp P S v k := rfl
    rw [e]
    split
    · rename_i h
      rw [Bool.and_eq_true] at h
      exact Or.inr ⟨by omega, h.1⟩
    · exact ih
theorem qa_fit4 (P : QA_P) (v : Nat) : qa_fit P v 4 = true := decide_eq_true (Or.inl rfl)
theorem qa_pp_fit (P : QA_P) (S : QA_S) (v : Nat) : qa_pp P S v 4 < 5 ∧ qa_fit P v (qa_pp P S v 4) = true := by
  rcases qa_pp_sp P S v 4 with h | ⟨h, h2⟩
  · rw [h]; exact ⟨by omega, qa_fit4 P v⟩
  · unfold qa_op at h2
    rw [Bool.and_eq_true] at h2
    exact ⟨by omega, h2.1⟩
theorem qa_pp_cl (P : QA_P) (S : QA_S) (v : Nat) {u : Nat} (hu : u < qa_v P) (h : qa_pn S u < 5) : qa_cl P v (qa_pp P S v 4) u (qa_pn S u) = false := by
  rcases qa_pp_sp P S v 4 with h1 | ⟨h1, h2⟩
  · rw [h1, qa_cl_c]
    unfold qa_cl
    rw [qa_sh4, Bool.and_false]
  · unfold qa_op at h2
    rw [Bool.and_eq_true, qa_all_iff] at h2
    have := h2.2 u hu
    unfold qa_riv at this
    rw [decide_eq_true h, Bool.true_and, Bool.not_eq_true'] at this
    exact this
/-! ===== invariants of the reduction ===== -/
def qa_INV (P : QA_P) (s : Nat) (S : QA_S) : Prop :=
  (∀ u v, qa_N S u v = qa_N S v u) ∧ (∀ u, qa_N S u u = false) ∧
  (∀ u p v q, qa_E S u p v q = qa_E S v q u p) ∧
  (∀ u p v q, u ≠ v → qa_N S u v = false → qa_E S u p v q = 0) ∧
  (∀ u, u < qa_v P → qa_pn S u < 5 → qa_L S u = false ∧ qa_fit P u (qa_pn S u) = true) ∧
  (∀ u v, u < qa_v P → v < qa_v P → qa_pn S u < 5 → qa_pn S v < 5 → qa_cl P u (qa_pn S u) v (qa_pn S v) = false) ∧
  (∀ v p, v < qa_v P → p < 5 → qa_V S v p ≤ 2 ^ (41 + 3 * s)) ∧
  (∀ u p v q, u < qa_v P → p < 5 → v < qa_v P → q < 5 → qa_E S u p v q ≤ 2 ^ (41 + 3 * s)) ∧
  qa_sum (fun u => (qa_L S u).toNat) (qa_v P) + s = qa_v P ∧
  (∀ u, u < qa_v P → ¬ qa_pn S u < 5 → qa_pn S u = 5)
theorem qa_INV0 {P : QA_P} (h : qa_OK P) : qa_INV P 0 (qa_S0 P) := by
  have hv := qa_v6 h
  refine ⟨qa_N0_c P, qa_N0_i P, ?_, ?_, ?_, ?_, ?_, ?_, ?_, ?_⟩
  · intro u p v q
    show qa_E0 P u p v q = qa_E0 P v q u p
    unfold qa_E0
    by_cases e : u = v
    · rw [if_pos e, if_pos e.symm]
    · rw [if_neg e, if_neg (fun z : v = u => e z.symm), qa_cl_c, qa_pc_c]
  · intro u p v q e hN
    show qa_E0 P u p v q = 0
    have hN' : (qa_I P u v || qa_lk P u v) = false := hN
    rw [Bool.or_eq_false_iff] at hN'
    unfold qa_E0
    rw [if_neg e, show qa_cl P u p v q = false by unfold qa_cl; rw [hN'.1]; rfl, if_neg (by decide)]
    unfold qa_pc
    split
    · omega
    · have : qa_mt P u v = 0 := qa_sum_z (fun i hi => by
        unfold qa_mv
        refine if_neg (fun z => ?_)
        have : qa_lk P u v = true := qa_any_iff.mpr ⟨i, hi, z⟩
        rw [hN'.2] at this
        exact Bool.noConfusion this)
      rw [this]
  · intro u _ h5; exact absurd h5 (by show ¬ (5 < 5); omega)
  · intro u v _ _ h5; exact absurd h5 (by show ¬ (5 < 5); omega)
  · intro v p hv' hp
    show qa_V0 P v p ≤ _
    have h1 := qa_pr_le h hv' hp
    have h2 : 5 ^ v ≤ 15625 := qa_pow6 (by omega)
    have h3 : p * 5 ^ v ≤ 4 * 15625 := Nat.mul_le_mul (by omega) h2
    unfold qa_V0
    split
    · omega
    · decide
  · intro u p v q _ _ _ _
    show qa_E0 P u p v q ≤ _
    have := qa_pc_le h u p v q
    unfold qa_E0
    split
    · exact Nat.zero_le _
    · split
      · decide
      · omega
  · show qa_sum (fun u => 1) (qa_v P) + 0 = _
    rw [qa_sum_cst]; omega
  · intro u _ _; rfl
theorem qa_pk_ok {P : QA_P} {S : QA_S} {s : Nat} (h : qa_OK P) (I : qa_INV P s S) (hs : s < qa_v P) : qa_pk P S < qa_v P ∧ qa_L S (qa_pk P S) = true := by
  have hv := qa_v6 h
  unfold qa_pk
  split
  · rename_i c
    have : qa_sf P S (qa_smp P S) = true := qa_find_t c
    unfold qa_sf at this
    rw [Bool.and_eq_true] at this
    exact ⟨c, this.1⟩
  · rcases qa_dn_sp P S (qa_v P) (by omega) with ⟨_, h2⟩ | h2
    · have : qa_sum (fun u => (qa_L S u).toNat) (qa_v P) = 0 := qa_sum_z (fun i hi => by rw [h2 i hi]; rfl)
      have := I.2.2.2.2.2.2.2.2.1
      omega
    · exact h2
theorem qa_cntL {S : QA_S} {v n : Nat} (hv : v < n) (hL : qa_L S v = true) : qa_sum (fun u => (qa_fL S v u).toNat) n + 1 = qa_sum (fun u => (qa_L S u).toNat) n := by
  have e : qa_sum (fun u => (qa_fL S v u).toNat + (if u = v then 1 else 0)) n = qa_sum (fun u => (qa_L S u).toNat) n := by
    refine qa_sum_congr (fun u _ => ?_)
    unfold qa_fL
    by_cases c : u = v
    · subst c; rw [hL, if_pos rfl, decide_eq_false (by omega)]; rfl
    · rw [if_neg c, decide_eq_true c, Bool.and_true, Nat.add_zero]
  rw [← e, qa_sum_add, qa_sum_pt (fun _ => 1), if_pos hv]
end
section
/-! ===== the invariants last ===== -/
theorem qa_p8 (s : Nat) : 2 ^ (41 + 3 * (s + 1)) = 2 ^ (41 + 3 * s) * 8 := by
  rw [show 41 + 3 * (s + 1) = (41 + 3 * s) + 3 by omega, Nat.pow_add]
theorem qa_fN_c {S : QA_S} (hN : ∀ u v, qa_N S u v = qa_N S v u) (v a b : Nat) : qa_fN S v a b = qa_fN S v b a := by
  unfold qa_fN
  rw [hN a b, show decide (a ≠ b) = decide (b ≠ a) from decide_eq_decide.mpr ⟨fun h => h.symm, fun h => h.symm⟩]
  cases qa_L S a <;> cases qa_L S b <;> cases qa_N S v a <;> cases qa_N S v b <;> cases decide (b ≠ a) <;> rfl
theorem qa_INV_fold {P : QA_P} {S : QA_S} {s v : Nat} (I : qa_INV P s S) (hv : v < qa_v P) (hL : qa_L S v = true) : qa_INV P (s + 1) (qa_fold P S v) := by
  obtain ⟨i1, i2, i3, i4, i5, i6, i7, i8, i9, i10⟩ := I
  refine ⟨qa_fN_c i1 v, ?_, ?_, ?_, ?_, i6, ?_, ?_, ?_, i10⟩
  · intro u
    show qa_fN S v u u = false
    unfold qa_fN
    rw [i2 u, decide_eq_false (by simp)]
    rfl
  · intro a p b q
    show qa_fE P S v a p b q = qa_fE P S v b q a p
    unfold qa_fE
    rw [i3 a p b q]
    by_cases c1 : qa_hi P S v < qa_v P ∧ a = qa_lo P S v ∧ b = qa_hi P S v
    · rw [if_pos c1, if_pos (⟨c1.1, c1.2.2, c1.2.1⟩ : qa_hi P S v < qa_v P ∧ b = qa_hi P S v ∧ a = qa_lo P S v)]
      by_cases c2 : qa_hi P S v < qa_v P ∧ a = qa_hi P S v ∧ b = qa_lo P S v
      · rw [if_pos c2, if_pos (⟨c2.1, c2.2.2, c2.2.1⟩ : qa_hi P S v < qa_v P ∧ b = qa_lo P S v ∧ a = qa_hi P S v)]
        omega
      · rw [if_neg c2, if_neg (fun z : qa_hi P S v < qa_v P ∧ b = qa_lo P S v ∧ a = qa_hi P S v => c2 ⟨z.1, z.2.2, z.2.1⟩)]
        omega
    · rw [if_neg c1, if_neg (fun z : qa_hi P S v < qa_v P ∧ b = qa_hi P S v ∧ a = qa_lo P S v => c1 ⟨z.1, z.2.2, z.2.1⟩)]
      by_cases c2 : qa_hi P S v < qa_v P ∧ a = qa_hi P S v ∧ b = qa_lo P S v
      · rw [if_pos c2, if_pos (⟨c2.1, c2.2.2, c2.2.1⟩ : qa_hi P S v < qa_v P ∧ b = qa_lo P S v ∧ a = qa_hi P S v)]
        omega
      · rw [if_neg c2, if_neg (fun z : qa_hi P S v < qa_v P ∧ b = qa_lo P S v ∧ a = qa_hi P S v => c2 ⟨z.1, z.2.2, z.2.1⟩)]
  · intro a p b q e hN
    have hN' : qa_fN S v a b = false := hN
    unfold qa_fN at hN'
    rw [Bool.or_eq_false_iff] at hN'
    show qa_fE P S v a p b q = 0
    unfold qa_fE
    have no : ∀ x y, x ≠ y → qa_ar S v x = true → qa_ar S v y = true → (decide (x ≠ y) && qa_L S x && qa_L S y && qa_N S v x && qa_N S v y) = true := by
      intro x y exy hx hy
      have hx' := qa_ar_iff.mp hx
      have hy' := qa_ar_iff.mp hy
      rw [decide_eq_true exy, hx'.1, hx'.2.2, hy'.1, hy'.2.2]; rfl
    have n1 : ¬ (qa_hi P S v < qa_v P ∧ a = qa_lo P S v ∧ b = qa_hi P S v) := by
      rintro ⟨c0, c1, c2⟩
      have g := qa_hi_t c0
      have := no a b e (by rw [c1]; exact qa_lo_t (by omega)) (by rw [c2]; exact g.1)
      rw [hN'.2] at this
      exact Bool.noConfusion this
    have n2 : ¬ (qa_hi P S v < qa_v P ∧ a = qa_hi P S v ∧ b = qa_lo P S v) := by
      rintro ⟨c0, c1, c2⟩
      have g := qa_hi_t c0
      have := no a b e (by rw [c1]; exact g.1) (by rw [c2]; exact qa_lo_t (by omega))
      rw [hN'.2] at this
      exact Bool.noConfusion this
    rw [if_neg n1, if_neg n2, i4 a p b q e hN'.1]
  · intro u hu h5
    have := i5 u hu h5
    refine ⟨?_, this.2⟩
    show qa_fL S v u = false
    unfold qa_fL
    rw [this.1, Bool.false_and]
  · intro a p ha hp
    show qa_fV P S v a p ≤ _
    rw [qa_p8]
    have h1 := i7 a p ha hp
    have h2 : qa_k1 S v a p ≤ qa_V S v 0 + qa_E S v 0 a p := qa_mn_le (fun r => qa_V S v r + qa_E S v r a p) (p := 0) (by omega)
    have h3 := i7 v 0 hv (by omega)
    have h4 := i8 v 0 a p hv (by omega) ha hp
    unfold qa_fV
    split <;> omega
  · intro a p b q ha hp hb hq
    show qa_fE P S v a p b q ≤ _
    rw [qa_p8]
    have h1 := i8 a p b q ha hp hb hq
    have h2 : qa_k2 S v a p b q ≤ qa_V S v 0 + qa_E S v 0 a p + qa_E S v 0 b q := qa_mn_le (fun r => qa_V S v r + qa_E S v r a p + qa_E S v r b q) (p := 0) (by omega)
    have h2' : qa_k2 S v b q a p ≤ qa_V S v 0 + qa_E S v 0 b q + qa_E S v 0 a p := qa_mn_le (fun r => qa_V S v r + qa_E S v r b q + qa_E S v r a p) (p := 0) (by omega)
    have h3 := i7 v 0 hv (by omega)
    have h4 := i8 v 0 a p hv (by omega) ha hp
    have h5 := i8 v 0 b q hv (by omega) hb hq
    unfold qa_fE
    split <;> split <;> omega
  · have := qa_cntL (S := S) hv hL
    show qa_sum (fun u => (qa_fL S v u).toNat) (qa_v P) + (s + 1) = qa_v P
    omega
theorem qa_INV_pin {P : QA_P} {S : QA_S} {s v : Nat} (I : qa_INV P s S) (hv : v < qa_v P) (hL : qa_L S v = true) : qa_INV P (s + 1) (qa_pin P S v) := by
  obtain ⟨i1, i2, i3, i4, i5, i6, i7, i8, i9, i10⟩ := I
  have hpf := qa_pp_fit P S v
  refine ⟨i1, i2, i3, i4, ?_, ?_, ?_, ?_, ?_, ?_⟩
  · intro u hu h5
    show qa_fL S v u = false ∧ qa_fit P u (qa_pP P S v u) = true
    have h5' : qa_pP P S v u < 5 := h5
    unfold qa_pP at h5' ⊢
    by_cases e : u = v
    · subst e
      rw [if_pos rfl]
      refine ⟨?_, hpf.2⟩
      unfold qa_fL
      rw [decide_eq_false (by simp), Bool.and_false]
    · rw [if_neg e] at h5' ⊢
      have := i5 u hu h5'
      refine ⟨?_, this.2⟩
      unfold qa_fL
      rw [this.1, Bool.false_and]
  · intro a b ha hb h5 h6
    show qa_cl P a (qa_pP P S v a) b (qa_pP P S v b) = false
    have h5' : qa_pP P S v a < 5 := h5
    have h6' : qa_pP P S v b < 5 := h6
    unfold qa_pP at h5' h6' ⊢
    by_cases e : a = v
    · subst e
      rw [if_pos rfl]
      by_cases e2 : b = a
      · subst e2
        unfold qa_cl
        rw [qa_I_i, Bool.false_and]
      · rw [if_neg e2] at h6' ⊢
        exact qa_pp_cl P S a hb h6'
    · rw [if_neg e] at h5' ⊢
      by_cases e2 : b = v
      · subst e2
        rw [if_pos rfl, qa_cl_c]
        exact qa_pp_cl P S b ha h5'
      · rw [if_neg e2] at h6' ⊢
        exact i6 a b ha hb h5' h6'
  · intro a p ha hp
    show qa_pV P S v a p ≤ _
    rw [qa_p8]
    have h1 := i7 a p ha hp
    have h4 := i8 v (qa_pp P S v 4) a p hv hpf.1 ha hp
    unfold qa_pV
    split <;> omega
  · intro a p b q ha hp hb hq
    rw [qa_p8]
    have h1 : qa_E (qa_pin P S v) a p b q ≤ 2 ^ (41 + 3 * s) := i8 a p b q ha hp hb hq
    omega
  · have := qa_cntL (S := S) hv hL
    show qa_sum (fun u => (qa_fL S v u).toNat) (qa_v P) + (s + 1) = qa_v P
    omega
  · intro u hu h5
    have h5' : ¬ qa_pP P S v u < 5 := h5
    show qa_pP P S v u = 5
    unfold qa_pP at h5' ⊢
    by_cases e : u = v
    · rw [if_pos e] at h5'; exact absurd hpf.1 h5'
    · rw [if_neg e] at h5' ⊢; exact i10 u hu h5'
theorem qa_INV_it {P : QA_P} (h : qa_OK P) : ∀ s, s ≤ qa_v P → qa_INV P s (qa_it P s) := by
  intro s
  induction s with
  | zero => exact fun _ => qa_INV0 h
  | succ s ih =>
    intro hs
    have I := ih (by omega)
    have hk := qa_pk_ok h I (by omega)
    show qa_INV P (s + 1) (qa_step P (qa_it P s))
    unfold qa_pk at hk
    unfold qa_step
    split
    · rename_i c
      rw [if_pos c] at hk
      exact qa_INV_fold I hk.1 hk.2
    · rename_i c
      rw [if_neg c] at hk
      exact qa_INV_pin I hk.1 hk.2
theorem qa_L_st (P : QA_P) (S : QA_S) : qa_L (qa_step P S) = qa_fL S (qa_pk P S) := by
  unfold qa_step qa_pk
  split <;> rfl
/-! what is gone stays as it was -/
theorem qa_fz {P : QA_P} {S : QA_S} (hN : ∀ u, qa_N S u u = false) (v : Nat) (hv : qa_L S v = false ∨ v = qa_pk P S) :
    (∀ p, qa_V (qa_step P S) v p = qa_V S v p) ∧ (∀ p u q, qa_E (qa_step P S) v p u q = qa_E S v p u q) ∧ (∀ u, qa_N (qa_step P S) v u = qa_N S v u) := by
  unfold qa_pk at hv
  unfold qa_step
  split
  · rename_i c
    rw [if_pos c] at hv
    have ha : qa_ar S (qa_smp P S) v = false := qa_tf (fun z => by
      have := qa_ar_iff.mp z
      rcases hv with e | e
      · rw [e] at this; exact Bool.noConfusion this.1
      · exact this.2.1 e)
    have nlo : qa_lo P S (qa_smp P S) < qa_v P → v ≠ qa_lo P S (qa_smp P S) := by
      intro h e
      have := qa_lo_t h
      rw [← e, ha] at this
      exact Bool.noConfusion this
    have nhi : qa_hi P S (qa_smp P S) < qa_v P → v ≠ qa_hi P S (qa_smp P S) := by
      intro h e
      have := (qa_hi_t h).1
      rw [← e, ha] at this
      exact Bool.noConfusion this
    refine ⟨fun p => ?_, fun p u q => ?_, fun u => ?_⟩
    · show qa_fV P S (qa_smp P S) v p = _
      unfold qa_fV
      rw [if_neg (fun z => nlo z.1 z.2.2), Nat.add_zero]
    · show qa_fE P S (qa_smp P S) v p u q = _
      unfold qa_fE
      rw [if_neg (fun z => nlo (by have := qa_hi_t z.1; omega) z.2.1), if_neg (fun z => nhi z.1 z.2.1)]; rfl
    · show qa_fN S (qa_smp P S) v u = _
      unfold qa_fN
      have : (decide (v ≠ u) && qa_L S v && qa_L S u && qa_N S (qa_smp P S) v && qa_N S (qa_smp P S) u) = false := by
        rcases hv with e | e
        · rw [e]; cases decide (v ≠ u) <;> rfl
        · rw [← e, hN v]; cases decide (v ≠ u) <;> cases qa_L S v <;> cases qa_L S u <;> rfl
      rw [this, Bool.or_false]
  · rename_i c
    rw [if_neg c] at hv
    have ha : qa_ar S (qa_dn P S (qa_v P)) v = false := qa_tf (fun z => by
      have := qa_ar_iff.mp z
      rcases hv with e | e
      · rw [e] at this; exact Bool.noConfusion this.1
      · exact this.2.1 e)
    refine ⟨fun p => ?_, fun _ _ _ => rfl, fun _ => rfl⟩
    show qa_pV P S (qa_dn P S (qa_v P)) v p = _
    unfold qa_pV
    rw [ha, if_neg (by decide), Nat.add_zero]
theorem qa_gone {P : QA_P} {s : Nat} : ∀ d u, qa_L (qa_it P s) u = false → qa_L (qa_it P (s + d)) u = false := by
  intro d
  induction d with
  | zero => exact fun _ h => h
  | succ d ih =>
    intro u h
    show qa_L (qa_step P (qa_it P (s + d))) u = false
    rw [qa_L_st]
    unfold qa_fL
    rw [ih u h, Bool.false_and]
theorem qa_out (P : QA_P) (s : Nat) : qa_L (qa_it P (s + 1)) (qa_pk P (qa_it P s)) = false := by
  show qa_L (qa_step P (qa_it P s)) _ = false
  rw [qa_L_st]
  unfold qa_fL
  rw [decide_eq_false (by simp), Bool.and_false]
theorem qa_fzs {P : QA_P} (h : qa_OK P) {s : Nat} : ∀ d, s + d ≤ qa_v P →
    (∀ p, qa_V (qa_it P (s + d)) (qa_pk P (qa_it P s)) p = qa_V (qa_it P s) (qa_pk P (qa_it P s)) p) ∧
    (∀ p u q, qa_E (qa_it P (s + d)) (qa_pk P (qa_it P s)) p u q = qa_E (qa_it P s) (qa_pk P (qa_it P s)) p u q) ∧
    (∀ u, qa_N (qa_it P (s + d)) (qa_pk P (qa_it P s)) u = qa_N (qa_it P s) (qa_pk P (qa_it P s)) u) := by
  intro d
  induction d with
  | zero => exact fun _ => ⟨fun _ => rfl, fun _ _ _ => rfl, fun _ => rfl⟩
  | succ d ih =>
    intro hd
    have i := ih (by omega)
    have I := qa_INV_it h (s + d) (by omega)
    have f := qa_fz (P := P) I.2.1 (qa_pk P (qa_it P s)) (by
      cases d with
      | zero => exact Or.inr rfl
      | succ d =>
        refine Or.inl ?_
        have := qa_gone (P := P) (s := s + 1) d _ (qa_out P s)
        rw [show s + (d + 1) = s + 1 + d by omega]
        exact this)
    exact ⟨fun p => (f.1 p).trans (i.1 p), fun p u q => (f.2.1 p u q).trans (i.2.1 p u q), fun u => (f.2.2 u).trans (i.2.2 u)⟩
/-! pins stay -/
theorem qa_pn_st {P : QA_P} {S : QA_S} {u : Nat} (hu : u ≠ qa_pk P S ∨ qa_smp P S < qa_v P) : qa_pn (qa_step P S) u = qa_pn S u := by
  unfold qa_pk at hu
  unfold qa_step
  split
  · rfl
  · rename_i c
    rw [if_neg c] at hu
    show qa_pP P S _ u = _
    unfold qa_pP
    rcases hu with e | e
    · rw [if_neg e]
    · exact absurd e c
theorem qa_pns {P : QA_P} (h : qa_OK P) {s u : Nat} (hu : qa_L (qa_it P s) u = false) : ∀ d, s + d ≤ qa_v P → qa_pn (qa_it P (s + d)) u = qa_pn (qa_it P s) u := by
  intro d
  induction d with
  | zero => exact fun _ => rfl
  | succ d ih =>
    intro hd
    have I := qa_INV_it h (s + d) (by omega)
    have k := qa_pk_ok h I (by omega)
    refine (qa_pn_st (P := P) (S := qa_it P (s + d)) (Or.inl (fun e => ?_))).trans (ih (by omega))
    have := qa_gone (P := P) d u hu
    rw [e, k.2] at this
    exact Bool.noConfusion this
end
section
/-! ===== the potential: twice the key sum over what is left ===== -/
def qa_KK (n : Nat) (L : Nat → Bool) (V : Nat → Nat → Nat) (E : Nat → Nat → Nat → Nat → Nat) (b : Nat → Nat) : Nat :=
  2 * qa_sum (fun v => if L v = true then V v (b v) else 0) n + qa_sum (fun u => qa_sum (fun v => if (L u && L v && decide (u ≠ v)) = true then E u (b u) v (b v) else 0) n) n
def qa_R (n : Nat) (L : Nat → Bool) (V : Nat → Nat → Nat) (E : Nat → Nat → Nat → Nat → Nat) (b : Nat → Nat) (v r : Nat) : Nat :=
  V v r + qa_sum (fun u => if L u = true then E v r u (b u) else 0) n
def qa_rm (L : Nat → Bool) (v u : Nat) : Bool := L u && decide (u ≠ v)
theorem qa_sum_if (c : Prop) [Decidable c] (f : Nat → Nat) (n : Nat) : qa_sum (fun w => if c then f w else 0) n = if c then qa_sum f n else 0 := by
  by_cases h : c
  · rw [if_pos h]; exact qa_sum_congr (fun i _ => if_pos h)
  · rw [if_neg h]; exact qa_sum_z (fun i _ => if_neg h)
theorem qa_rem {n : Nat} {L : Nat → Bool} {V : Nat → Nat → Nat} {E : Nat → Nat → Nat → Nat → Nat} {b : Nat → Nat} {v : Nat} (hv : v < n) (hL : L v = true) (hE : ∀ u p w q, E u p w q = E w q u p) :
    qa_KK n L V E b = qa_KK n (qa_rm L v) V E b + 2 * qa_R n (qa_rm L v) V E b v (b v) := by
  have q1 : ∀ u, u < n → (if L u = true then V u (b u) else 0) = (if qa_rm L v u = true then V u (b u) else 0) + (if u = v then V u (b u) else 0) := by
    intro u _
    by_cases c : u = v
    · subst c; simp [qa_rm, hL]
    · simp [qa_rm, c]
  have e1 : qa_sum (fun u => if L u = true then V u (b u) else 0) n = qa_sum (fun u => if qa_rm L v u = true then V u (b u) else 0) n + V v (b v) := by
    rw [qa_sum_congr q1, qa_sum_add, qa_sum_pt (fun u => V u (b u)), if_pos hv]
  have q2 : ∀ u, u < n → qa_sum (fun w => if (L u && L w && decide (u ≠ w)) = true then E u (b u) w (b w) else 0) n =
      qa_sum (fun w => if (qa_rm L v u && qa_rm L v w && decide (u ≠ w)) = true then E u (b u) w (b w) else 0) n +
      ((if u = v then qa_sum (fun w => if qa_rm L v w = true then E u (b u) w (b w) else 0) n else 0) + (if qa_rm L v u = true then E u (b u) v (b v) else 0)) := by
    intro u _
    have q3 : ∀ w, w < n → (if (L u && L w && decide (u ≠ w)) = true then E u (b u) w (b w) else 0) =
        (if (qa_rm L v u && qa_rm L v w && decide (u ≠ w)) = true then E u (b u) w (b w) else 0) +
        ((if u = v then (if qa_rm L v w = true then E u (b u) w (b w) else 0) else 0) + (if w = v then (if qa_rm L v u = true then E u (b u) w (b w) else 0) else 0)) := by
      intro w _
      by_cases c : u = v
      · subst c
        by_cases d : w = u
        · subst d; simp [qa_rm]
        · have d' : ¬ u = w := fun z => d z.symm
          simp [qa_rm, hL, d, d']
      · by_cases d : w = v
        · subst d; simp [qa_rm, hL, c]
        · simp [qa_rm, c, d]
    rw [qa_sum_congr q3, qa_sum_add, qa_sum_add, qa_sum_if (u = v), qa_sum_pt (fun w => if qa_rm L v u = true then E u (b u) w (b w) else 0), if_pos hv]
  have e2 : qa_sum (fun u => qa_sum (fun w => if (L u && L w && decide (u ≠ w)) = true then E u (b u) w (b w) else 0) n) n =
      qa_sum (fun u => qa_sum (fun w => if (qa_rm L v u && qa_rm L v w && decide (u ≠ w)) = true then E u (b u) w (b w) else 0) n) n +
      2 * qa_sum (fun w => if qa_rm L v w = true then E v (b v) w (b w) else 0) n := by
    have e3 : qa_sum (fun u => if qa_rm L v u = true then E u (b u) v (b v) else 0) n = qa_sum (fun w => if qa_rm L v w = true then E v (b v) w (b w) else 0) n :=
      qa_sum_congr (fun u _ => by rw [hE u (b u) v (b v)])
    rw [qa_sum_congr q2, qa_sum_add, qa_sum_add, qa_sum_pt (fun u => qa_sum (fun w => if qa_rm L v w = true then E u (b u) w (b w) else 0) n), if_pos hv, e3]
    omega
  unfold qa_KK qa_R
  rw [e1, e2]
  omega
theorem qa_KV {n : Nat} {L : Nat → Bool} {V V' : Nat → Nat → Nat} {E : Nat → Nat → Nat → Nat → Nat} {b W : Nat → Nat} (h : ∀ v, v < n → V' v (b v) = V v (b v) + W v) :
    qa_KK n L V' E b = qa_KK n L V E b + 2 * qa_sum (fun v => if L v = true then W v else 0) n := by
  have q : ∀ v, v < n → (if L v = true then V' v (b v) else 0) = (if L v = true then V v (b v) else 0) + (if L v = true then W v else 0) := by
    intro v hv
    rw [h v hv]
    split <;> rfl
  unfold qa_KK
  rw [qa_sum_congr q, qa_sum_add]
  omega
theorem qa_KE {n : Nat} {L : Nat → Bool} {V : Nat → Nat → Nat} {E E' : Nat → Nat → Nat → Nat → Nat} {b : Nat → Nat} {F : Nat → Nat → Nat} (h : ∀ u v, u < n → v < n → E' u (b u) v (b v) = E u (b u) v (b v) + F u v) :
    qa_KK n L V E' b = qa_KK n L V E b + qa_sum (fun u => qa_sum (fun v => if (L u && L v && decide (u ≠ v)) = true then F u v else 0) n) n := by
  have q : ∀ u, u < n → qa_sum (fun v => if (L u && L v && decide (u ≠ v)) = true then E' u (b u) v (b v) else 0) n =
      qa_sum (fun v => if (L u && L v && decide (u ≠ v)) = true then E u (b u) v (b v) else 0) n + qa_sum (fun v => if (L u && L v && decide (u ≠ v)) = true then F u v else 0) n := by
    intro u hu
    rw [← qa_sum_add]
    refine qa_sum_congr (fun v hv => ?_)
    try dsimp only
    rw [h u v hu hv]
    split <;> rfl
  unfold qa_KK
  rw [qa_sum_congr q, qa_sum_add]
  omega
/-- two mirrored points -/
theorem qa_pts {n lo hi : Nat} {L : Nat → Bool} {k : Nat} (h1 : lo < hi) (h2 : hi < n) (hl : L lo = true) (hh : L hi = true) :
    qa_sum (fun u => qa_sum (fun v => if (L u && L v && decide (u ≠ v)) = true then (if u = lo ∧ v = hi then k else 0) + (if u = hi ∧ v = lo then k else 0) else 0) n) n = 2 * k := by
  have q : ∀ u, u < n → qa_sum (fun v => if (L u && L v && decide (u ≠ v)) = true then (if u = lo ∧ v = hi then k else 0) + (if u = hi ∧ v = lo then k else 0) else 0) n = (if u = lo then k else 0) + (if u = hi then k else 0) := by
    intro u _
    have q3 : ∀ v, v < n → (if (L u && L v && decide (u ≠ v)) = true then (if u = lo ∧ v = hi then k else 0) + (if u = hi ∧ v = lo then k else 0) else 0) = (if v = hi then (if u = lo then k else 0) else 0) + (if v = lo then (if u = hi then k else 0) else 0) := by
      intro v _
      by_cases c1 : u = lo
      · have c2 : ¬ u = hi := by omega
        by_cases d1 : v = hi
        · have d2 : ¬ v = lo := by omega
          have d3 : ¬ u = v := by omega
          subst c1 d1
          simp [hl, hh, d2, c2]
        · rw [if_neg (fun z : u = lo ∧ v = hi => d1 z.2), if_neg (fun z : u = hi ∧ v = lo => c2 z.1), if_neg d1, if_neg c2]; split <;> split <;> rfl
      · by_cases c2 : u = hi
        · by_cases d1 : v = lo
          · have d2 : ¬ v = hi := by omega
            have d3 : ¬ u = v := by omega
            subst c2 d1
            simp [hl, hh, d2, c1]
          · rw [if_neg (fun z : u = lo ∧ v = hi => c1 z.1), if_neg (fun z : u = hi ∧ v = lo => d1 z.2), if_neg c1, if_neg d1]; split <;> split <;> rfl
        · simp [c1, c2]
    rw [qa_sum_congr q3, qa_sum_add, qa_sum_pt (fun _ => if u = lo then k else 0), qa_sum_pt (fun _ => if u = hi then k else 0), if_pos h2, if_pos (by omega : lo < n)]
  rw [qa_sum_congr q, qa_sum_add, qa_sum_pt (fun _ => k), qa_sum_pt (fun _ => k), if_pos h2, if_pos (by omega : lo < n)]
  omega
def qa_K (P : QA_P) (S : QA_S) (b : Nat → Nat) : Nat := qa_KK (qa_v P) (qa_L S) (qa_V S) (qa_E S) b
def qa_RS (P : QA_P) (S : QA_S) (v : Nat) (b : Nat → Nat) (r : Nat) : Nat := qa_R (qa_v P) (qa_fL S v) (qa_V S) (qa_E S) b v r
theorem qa_K_rem {P : QA_P} {S : QA_S} {s v : Nat} (I : qa_INV P s S) (hv : v < qa_v P) (hL : qa_L S v = true) (b : Nat → Nat) :
    qa_K P S b = qa_KK (qa_v P) (qa_fL S v) (qa_V S) (qa_E S) b + 2 * qa_RS P S v b (b v) := qa_rem hv hL I.2.2.1
/-- off the neighbours an edge weighs nothing -/
theorem qa_off {P : QA_P} {S : QA_S} {s v u : Nat} (I : qa_INV P s S) (hu : qa_fL S v u = true) (ha : qa_ar S v u = false) (r q : Nat) : qa_E S v r u q = 0 := by
  have h1 := qa_fL_iff.mp hu
  refine I.2.2.2.1 v r u q (fun e => h1.2 e.symm) (qa_tf (fun z => ?_))
  rw [qa_ar_iff.mpr ⟨h1.1, h1.2, z⟩] at ha
  exact Bool.noConfusion ha
theorem qa_ar_fL {S : QA_S} {v u : Nat} (h : qa_ar S v u = true) : qa_fL S v u = true := by
  have := qa_ar_iff.mp h
  exact qa_fL_iff.mpr ⟨this.1, this.2.1⟩
theorem qa_RS0 {P : QA_P} {S : QA_S} {s v : Nat} (I : qa_INV P s S) (h0 : ¬ qa_lo P S v < qa_v P) (b : Nat → Nat) (r : Nat) : qa_RS P S v b r = qa_V S v r := by
  unfold qa_RS qa_R
  rw [qa_sum_z (fun u hu => ?_), Nat.add_zero]
  split
  · rename_i hf
    refine qa_off I hf (qa_tf (fun z => h0 ?_)) r _
    have : qa_lo P S v ≤ u := qa_find_lt_of hu z
    omega
  · rfl
theorem qa_RS1 {P : QA_P} {S : QA_S} {s v : Nat} (I : qa_INV P s S) (hd : qa_deg P S v ≤ 2) (h0 : qa_lo P S v < qa_v P) (h1 : ¬ qa_hi P S v < qa_v P) (b : Nat → Nat) (r : Nat) :
    qa_RS P S v b r = qa_V S v r + qa_E S v r (qa_lo P S v) (b (qa_lo P S v)) := by
  unfold qa_RS qa_R
  rw [qa_sum_congr (g := fun u => if u = qa_lo P S v then qa_E S v r u (b u) else 0) (fun u hu => ?_), qa_sum_pt (fun u => qa_E S v r u (b u)), if_pos h0]
  by_cases c : u = qa_lo P S v
  · rw [if_pos c, if_pos (by rw [c]; exact qa_ar_fL (qa_lo_t h0))]
  · rw [if_neg c]
    split
    · rename_i hf
      refine qa_off I hf (qa_tf (fun z => ?_)) r _
      rcases qa_two hd hu z with e | e
      · exact c e
      · exact h1 e.2
    · rfl
theorem qa_RS2 {P : QA_P} {S : QA_S} {s v : Nat} (I : qa_INV P s S) (hd : qa_deg P S v ≤ 2) (h1 : qa_hi P S v < qa_v P) (b : Nat → Nat) (r : Nat) :
    qa_RS P S v b r = qa_V S v r + qa_E S v r (qa_lo P S v) (b (qa_lo P S v)) + qa_E S v r (qa_hi P S v) (b (qa_hi P S v)) := by
  have g := qa_hi_t h1
  have h0 : qa_lo P S v < qa_v P := by omega
  unfold qa_RS qa_R
  rw [qa_sum_congr (g := fun u => (if u = qa_lo P S v then qa_E S v r u (b u) else 0) + (if u = qa_hi P S v then qa_E S v r u (b u) else 0)) (fun u hu => ?_), qa_sum_add, qa_sum_pt (fun u => qa_E S v r u (b u)), qa_sum_pt (fun u => qa_E S v r u (b u)), if_pos h0, if_pos h1]
  · omega
  · by_cases c : u = qa_lo P S v
    · rw [if_pos c, if_pos (by rw [c]; exact qa_ar_fL (qa_lo_t h0)), if_neg (by omega), Nat.add_zero]
    · by_cases d : u = qa_hi P S v
      · rw [if_neg c, if_pos d, if_pos (by rw [d]; exact qa_ar_fL g.1), Nat.zero_add]
      · rw [if_neg c, if_neg d]
        split
        · rename_i hf
          refine qa_off I hf (qa_tf (fun z => ?_)) r _
          rcases qa_two hd hu z with e | e
          · exact c e
          · exact d e.1
        · rfl
theorem qa_fold_K {P : QA_P} {S : QA_S} {s v : Nat} (I : qa_INV P s S) (hv : v < qa_v P) (hL : qa_L S v = true) (hd : qa_deg P S v ≤ 2) :
    ∃ c, ∀ b, ∃ k, qa_K P S b = k + 2 * qa_RS P S v b (b v) ∧ qa_K P (qa_fold P S v) b + c = k + 2 * qa_mn (qa_RS P S v b) := by
  by_cases h1 : qa_hi P S v < qa_v P
  · refine ⟨0, fun b => ⟨_, qa_K_rem I hv hL b, ?_⟩⟩
    have g := qa_hi_t h1
    have e1 : qa_mn (qa_RS P S v b) = qa_k2 S v (qa_lo P S v) (b (qa_lo P S v)) (qa_hi P S v) (b (qa_hi P S v)) :=
      qa_mn_congr (fun p _ => qa_RS2 I hd h1 b p)
    have e2 : qa_K P (qa_fold P S v) b = qa_KK (qa_v P) (qa_fL S v) (qa_V S) (qa_fE P S v) b + 2 * qa_sum (fun u => if qa_fL S v u = true then 0 else 0) (qa_v P) :=
      qa_KV (V := qa_V S) (W := fun _ => 0) (fun u _ => by
        show qa_fV P S v u (b u) = _
        unfold qa_fV
        rw [if_neg (fun z => by omega)])
    have e3 : qa_sum (fun u => if qa_fL S v u = true then 0 else 0) (qa_v P) = 0 := qa_sum_z (fun u _ => by split <;> rfl)
    have e4 : qa_KK (qa_v P) (qa_fL S v) (qa_V S) (qa_fE P S v) b = qa_KK (qa_v P) (qa_fL S v) (qa_V S) (qa_E S) b + 2 * qa_k2 S v (qa_lo P S v) (b (qa_lo P S v)) (qa_hi P S v) (b (qa_hi P S v)) := by
      rw [← qa_pts (n := qa_v P) (L := qa_fL S v) g.2 h1 (qa_ar_fL (qa_lo_t (by omega))) (qa_ar_fL g.1)]
      refine qa_KE (fun u w _ _ => ?_)
      unfold qa_fE
      rw [Nat.add_assoc]
      congr 1
      congr 1
      · by_cases c : u = qa_lo P S v ∧ w = qa_hi P S v
        · rw [if_pos c, if_pos ⟨h1, c⟩, c.1, c.2]
        · rw [if_neg c, if_neg (fun z => c z.2)]
      · by_cases c : u = qa_hi P S v ∧ w = qa_lo P S v
        · rw [if_pos c, if_pos ⟨h1, c⟩, c.1, c.2]
        · rw [if_neg c, if_neg (fun z => c z.2)]
    rw [e2, e3, e4, e1]
    omega
  · by_cases h0 : qa_lo P S v < qa_v P
    · refine ⟨0, fun b => ⟨_, qa_K_rem I hv hL b, ?_⟩⟩
      have hn : qa_hi P S v = qa_v P := by have : qa_hi P S v ≤ qa_v P := qa_find_le _ _; omega
      have e1 : qa_mn (qa_RS P S v b) = qa_k1 S v (qa_lo P S v) (b (qa_lo P S v)) :=
        qa_mn_congr (fun p _ => qa_RS1 I hd h0 h1 b p)
      have e2 : qa_K P (qa_fold P S v) b = qa_KK (qa_v P) (qa_fL S v) (qa_V S) (qa_fE P S v) b + 2 * qa_sum (fun u => if qa_fL S v u = true then (if u = qa_lo P S v then qa_k1 S v u (b u) else 0) else 0) (qa_v P) :=
        qa_KV (V := qa_V S) (W := fun u => if u = qa_lo P S v then qa_k1 S v u (b u) else 0) (fun u _ => by
          show qa_fV P S v u (b u) = _
          unfold qa_fV
          by_cases c : u = qa_lo P S v
          · rw [if_pos ⟨h0, hn, c⟩, if_pos c]
          · rw [if_neg (fun z => c z.2.2), if_neg c])
      have e3 : qa_sum (fun u => if qa_fL S v u = true then (if u = qa_lo P S v then qa_k1 S v u (b u) else 0) else 0) (qa_v P) = qa_k1 S v (qa_lo P S v) (b (qa_lo P S v)) := by
        rw [qa_sum_congr (g := fun u => if u = qa_lo P S v then qa_k1 S v u (b u) else 0) (fun u _ => ?_), qa_sum_pt (fun u => qa_k1 S v u (b u)), if_pos h0]
        by_cases c : u = qa_lo P S v
        · rw [if_pos c, if_pos (by rw [c]; exact qa_ar_fL (qa_lo_t h0))]
        · rw [if_neg c]; split <;> rfl
      have e4 : qa_KK (qa_v P) (qa_fL S v) (qa_V S) (qa_fE P S v) b = qa_KK (qa_v P) (qa_fL S v) (qa_V S) (qa_E S) b + 0 := by
        rw [qa_KE (E := qa_E S) (F := fun _ _ => 0) (fun u w _ _ => ?_), qa_sum_z (fun u _ => qa_sum_z (fun w _ => ?_))]
        · (try dsimp only); split <;> rfl
        · unfold qa_fE
          rw [if_neg (fun z => h1 z.1), if_neg (fun z => h1 z.1)]
      rw [e2, e3, e4, e1]
      omega
    · refine ⟨2 * qa_mn (qa_V S v), fun b => ⟨_, qa_K_rem I hv hL b, ?_⟩⟩
      have e1 : qa_mn (qa_RS P S v b) = qa_mn (qa_V S v) := qa_mn_congr (fun p _ => qa_RS0 I h0 b p)
      have e2 : qa_K P (qa_fold P S v) b = qa_KK (qa_v P) (qa_fL S v) (qa_V S) (qa_fE P S v) b + 2 * qa_sum (fun u => if qa_fL S v u = true then 0 else 0) (qa_v P) :=
        qa_KV (V := qa_V S) (W := fun _ => 0) (fun u _ => by
          show qa_fV P S v u (b u) = _
          unfold qa_fV
          rw [if_neg (fun z => h0 z.1)])
      have e3 : qa_sum (fun u => if qa_fL S v u = true then 0 else 0) (qa_v P) = 0 := qa_sum_z (fun u _ => by split <;> rfl)
      have e4 : qa_KK (qa_v P) (qa_fL S v) (qa_V S) (qa_fE P S v) b = qa_KK (qa_v P) (qa_fL S v) (qa_V S) (qa_E S) b + 0 := by
        rw [qa_KE (E := qa_E S) (F := fun _ _ => 0) (fun u w _ _ => ?_), qa_sum_z (fun u _ => qa_sum_z (fun w _ => ?_))]
        · (try dsimp only); split <;> rfl
        · unfold qa_fE
          rw [if_neg (fun z => h1 z.1), if_neg (fun z => h1 z.1)]
      rw [e2, e3, e4, e1]
      omega
theorem qa_pin_K {P : QA_P} {S : QA_S} {s v : Nat} (I : qa_INV P s S) (hv : v < qa_v P) (hL : qa_L S v = true) (b : Nat → Nat) (hb : b v = qa_pp P S v 4) :
    qa_K P S b = qa_K P (qa_pin P S v) b + 2 * qa_V S v (qa_pp P S v 4) := by
  have e2 : qa_K P (qa_pin P S v) b = qa_KK (qa_v P) (qa_fL S v) (qa_V S) (qa_E S) b + 2 * qa_sum (fun u => if qa_fL S v u = true then (if qa_ar S v u = true then qa_E S v (qa_pp P S v 4) u (b u) else 0) else 0) (qa_v P) :=
    qa_KV (V := qa_V S) (W := fun u => if qa_ar S v u = true then qa_E S v (qa_pp P S v 4) u (b u) else 0) (fun u _ => rfl)
  have e3 : qa_sum (fun u => if qa_fL S v u = true then (if qa_ar S v u = true then qa_E S v (qa_pp P S v 4) u (b u) else 0) else 0) (qa_v P) = qa_sum (fun u => if qa_fL S v u = true then qa_E S v (qa_pp P S v 4) u (b u) else 0) (qa_v P) := by
    refine qa_sum_congr (fun u _ => ?_)
    try dsimp only
    split
    · rename_i hf
      split
      · rfl
      · rename_i ha
        exact (qa_off I hf (qa_tf ha) _ _).symm
    · rfl
  rw [qa_K_rem I hv hL b, e2, e3, hb]
  unfold qa_RS qa_R
  omega
/-- the choice that is best at each removal is best of all that agree with the pins -/
theorem qa_opt {P : QA_P} (h : qa_OK P) {a b : Nat → Nat} (ha : ∀ v, v < qa_v P → a v < 5) (hb : ∀ v, v < qa_v P → b v < 5)
    (hf : ∀ s, s < qa_v P → qa_smp P (qa_it P s) < qa_v P → ∀ p, p < 5 → qa_RS P (qa_it P s) (qa_pk P (qa_it P s)) a (a (qa_pk P (qa_it P s))) ≤ qa_RS P (qa_it P s) (qa_pk P (qa_it P s)) a p)
    (hp : ∀ s, s < qa_v P → ¬ qa_smp P (qa_it P s) < qa_v P → a (qa_pk P (qa_it P s)) = qa_pp P (qa_it P s) (qa_pk P (qa_it P s)) 4 ∧ b (qa_pk P (qa_it P s)) = qa_pp P (qa_it P s) (qa_pk P (qa_it P s)) 4) :
    qa_K P (qa_S0 P) a ≤ qa_K P (qa_S0 P) b := by
  have key : ∀ s, s ≤ qa_v P → ∃ C, qa_K P (qa_S0 P) a ≤ qa_K P (qa_it P s) a + C ∧ qa_K P (qa_it P s) b + C ≤ qa_K P (qa_S0 P) b := by
    intro s
    induction s with
    | zero => exact fun _ => ⟨0, Nat.le_refl _, Nat.le_refl _⟩
    | succ s ih =>
      intro hs
      obtain ⟨C, c1, c2⟩ := ih (by omega)
      have I := qa_INV_it h s (by omega)
      have hk := qa_pk_ok h I (by omega)
      have f := hf s (by omega)
      have p := hp s (by omega)
      have e : qa_it P (s + 1) = qa_step P (qa_it P s) := rfl
      rw [e]
      generalize qa_it P s = S at *
      unfold qa_pk at hk f p
      unfold qa_step
      by_cases c : qa_smp P S < qa_v P
      · rw [if_pos c] at hk f ⊢
        have hd : qa_deg P S (qa_smp P S) ≤ 2 := by
          have : qa_sf P S (qa_smp P S) = true := qa_find_t c
          unfold qa_sf at this
          rw [Bool.and_eq_true, decide_eq_true_eq] at this
          exact this.2
        obtain ⟨c', q⟩ := qa_fold_K I hk.1 hk.2 hd
        refine ⟨C + c', ?_, ?_⟩
        · obtain ⟨k, q1, q2⟩ := q a
          have := qa_mn_eq (f := qa_RS P S (qa_smp P S) a) (ha _ hk.1) (f c)
          omega
        · obtain ⟨k, q1, q2⟩ := q b
          have := qa_mn_le (qa_RS P S (qa_smp P S) b) (hb _ hk.1)
          omega
      · rw [if_neg c] at hk p ⊢
        have q1 := qa_pin_K I hk.1 hk.2 a (p c).1
        have q2 := qa_pin_K I hk.1 hk.2 b (p c).2
        exact ⟨C + 2 * qa_V S (qa_dn P S (qa_v P)) (qa_pp P S (qa_dn P S (qa_v P)) 4), by omega, by omega⟩
  obtain ⟨C, c1, c2⟩ := key (qa_v P) (Nat.le_refl _)
  have I := qa_INV_it h (qa_v P) (Nat.le_refl _)
  have z : ∀ d, qa_K P (qa_it P (qa_v P)) d = 0 := by
    intro d
    have cnt : qa_sum (fun u => (qa_L (qa_it P (qa_v P)) u).toNat) (qa_v P) = 0 := by have := I.2.2.2.2.2.2.2.2.1; omega
    have l : ∀ u, u < qa_v P → qa_L (qa_it P (qa_v P)) u = false := by
      intro u hu
      have := qa_sum_ge (f := fun u => (qa_L (qa_it P (qa_v P)) u).toNat) hu
      cases e : qa_L (qa_it P (qa_v P)) u with
      | false => rfl
      | true => (try dsimp only at this); rw [e, cnt] at this; exact absurd this (by decide)
    unfold qa_K qa_KK
    rw [qa_sum_z (fun v hv => by rw [l v hv]; rfl), qa_sum_z (fun u hu => qa_sum_z (fun v _ => by rw [l u hu]; rfl))]
  rw [z a] at c1
  rw [z b] at c2
  omega
end
section
/-! ===== the first potential is cost and code ===== -/
theorem qa_half (f : Nat → Nat → Nat) (hf : ∀ u v, f u v = f v u) (n : Nat) :
    qa_sum (fun u => qa_sum (fun v => if (true && true && decide (u ≠ v)) = true then f u v else 0) n) n = 2 * qa_sum (fun v => qa_sum (fun u => f u v) v) n := by
  induction n with
  | zero => rfl
  | succ n ih =>
    have e1 : ∀ u, u < n → qa_sum (fun v => if (true && true && decide (u ≠ v)) = true then f u v else 0) (n + 1) = qa_sum (fun v => if (true && true && decide (u ≠ v)) = true then f u v else 0) n + f u n := by
      intro u hu
      rw [qa_sum_s, decide_eq_true (by omega : u ≠ n), if_pos (by decide)]
    have e2 : qa_sum (fun v => if (true && true && decide (n ≠ v)) = true then f n v else 0) (n + 1) = qa_sum (fun u => f u n) n := by
      rw [qa_sum_s, decide_eq_false (by simp : ¬ n ≠ n), if_neg (by decide), Nat.add_zero]
      refine qa_sum_congr (fun v hv => ?_)
      rw [decide_eq_true (by omega : n ≠ v), if_pos (by decide), hf]
    rw [qa_sum_s, e2, qa_sum_congr e1, qa_sum_add, ih, qa_sum_s]
    omega
theorem qa_K0 {P : QA_P} (h : qa_OK P) (b : Nat → Nat) : qa_K P (qa_S0 P) b = 2 * (qa_sum (fun v => qa_V0 P v (b v)) (qa_v P) + qa_sum (fun v => qa_sum (fun u => qa_E0 P u (b u) v (b v)) v) (qa_v P)) := by
  have hE := (qa_INV0 h).2.2.1
  have e := qa_half (fun u v => qa_E0 P u (b u) v (b v)) (fun u v => hE u (b u) v (b v)) (qa_v P)
  have e1 : qa_K P (qa_S0 P) b = 2 * qa_sum (fun v => if true = true then qa_V0 P v (b v) else 0) (qa_v P) + qa_sum (fun u => qa_sum (fun v => if (true && true && decide (u ≠ v)) = true then qa_E0 P u (b u) v (b v) else 0) (qa_v P)) (qa_v P) := rfl
  rw [e1, e, qa_sum_congr (g := fun v => qa_V0 P v (b v)) (fun v _ => if_pos rfl)]
  omega
theorem qa_alw_iff {P : QA_P} {b : Nat → Nat} : qa_alw P b = true ↔ ∀ v, v < qa_v P → qa_fit P v (b v) = true ∧ ∀ u, u < v → qa_cl P u (b u) v (b v) = false := by
  unfold qa_alw
  rw [qa_all_iff]
  constructor
  · intro h v hv
    have := h v hv
    rw [Bool.and_eq_true, qa_all_iff] at this
    refine ⟨this.1, fun u hu => ?_⟩
    have := this.2 u hu
    rwa [Bool.not_eq_true'] at this
  · intro h v hv
    have := h v hv
    rw [Bool.and_eq_true, qa_all_iff]
    refine ⟨this.1, fun u hu => ?_⟩
    rw [Bool.not_eq_true']
    exact this.2 u hu
theorem qa_K0_a {P : QA_P} (h : qa_OK P) {b : Nat → Nat} (hb : qa_alw P b = true) : qa_K P (qa_S0 P) b = 2 * (qa_cost P b * 15625 + qa_code b (qa_v P)) := by
  rw [qa_K0 h]
  have ha := qa_alw_iff.mp hb
  have e1 : qa_sum (fun v => qa_V0 P v (b v)) (qa_v P) = qa_sum (fun v => qa_pr P v (b v)) (qa_v P) * 15625 + qa_code b (qa_v P) := by
    rw [← qa_sum_mul]
    unfold qa_code
    rw [← qa_sum_add]
    refine qa_sum_congr (fun v hv => ?_)
    unfold qa_V0
    rw [if_pos (ha v hv).1]
  have e2 : qa_sum (fun v => qa_sum (fun u => qa_E0 P u (b u) v (b v)) v) (qa_v P) = qa_sum (fun v => qa_sum (fun u => qa_pc P u (b u) v (b v)) v) (qa_v P) * 15625 := by
    rw [← qa_sum_mul]
    refine qa_sum_congr (fun v hv => ?_)
    try dsimp only
    rw [← qa_sum_mul]
    refine qa_sum_congr (fun u hu => ?_)
    unfold qa_E0
    rw [if_neg (by omega), (ha v hv).2 u hu, if_neg (by decide)]
  rw [e1, e2]
  unfold qa_cost
  rw [qa_sum_add]
  omega
theorem qa_K0_n {P : QA_P} (h : qa_OK P) {b : Nat → Nat} (hb : qa_alw P b = false) : 2000000000000 ≤ qa_K P (qa_S0 P) b := by
  rw [qa_K0 h]
  have hn : ¬ (∀ v, v < qa_v P → qa_fit P v (b v) = true ∧ ∀ u, u < v → qa_cl P u (b u) v (b v) = false) := fun z => by
    rw [qa_alw_iff.mpr z] at hb
    exact Bool.noConfusion hb
  by_cases c : ∀ v, v < qa_v P → qa_fit P v (b v) = true
  · have : ∃ v, v < qa_v P ∧ ∃ u, u < v ∧ qa_cl P u (b u) v (b v) = true := Classical.byContradiction (fun z => hn (fun v hv => ⟨c v hv, fun u hu => qa_tf (fun y => z ⟨v, hv, u, hu, y⟩)⟩))
    obtain ⟨v, hv, u, hu, e⟩ := this
    have h1 := qa_sum_ge (f := fun v => qa_sum (fun u => qa_E0 P u (b u) v (b v)) v) hv
    have h2 := qa_sum_ge (f := fun u => qa_E0 P u (b u) v (b v)) hu
    have h3 : qa_E0 P u (b u) v (b v) = 1000000000000 := by
      unfold qa_E0
      rw [if_neg (by omega), if_pos e]
    try dsimp only at h1 h2
    omega
  · have : ∃ v, v < qa_v P ∧ qa_fit P v (b v) = false := Classical.byContradiction (fun z => c (fun v hv => qa_ft (fun y => z ⟨v, hv, y⟩)))
    obtain ⟨v, hv, e⟩ := this
    have h1 := qa_sum_ge (f := fun v => qa_V0 P v (b v)) hv
    have h3 : qa_V0 P v (b v) = 1000000000000 := by
      unfold qa_V0
      rw [if_neg (by rw [e]; decide)]
    try dsimp only at h1
    omega
/-! ===== the last key of a removed variable ===== -/
def qa_F (P : QA_P) : QA_S := qa_it P (qa_v P)
def qa_key (P : QA_P) (V : Nat → Nat → Nat) (E : Nat → Nat → Nat → Nat → Nat) (m : Nat → Bool) (b : Nat → Nat) (v p : Nat) : Nat := V v p + qa_sum (fun u => if m u = true then E v p u (b u) else 0) (qa_v P)
theorem qa_key_F {P : QA_P} (h : qa_OK P) {s : Nat} (hs : s < qa_v P) (b : Nat → Nat) (r : Nat) :
    qa_key P (qa_V (qa_F P)) (qa_E (qa_F P)) (fun u => qa_N (qa_F P) (qa_pk P (qa_it P s)) u && qa_L (qa_it P (s + 1)) u) b (qa_pk P (qa_it P s)) r = qa_RS P (qa_it P s) (qa_pk P (qa_it P s)) b r := by
  have I := qa_INV_it h s (by omega)
  have f := qa_fzs h (s := s) (qa_v P - s) (by omega)
  rw [show s + (qa_v P - s) = qa_v P by omega] at f
  unfold qa_key qa_RS qa_R qa_F
  rw [f.1 r]
  congr 1
  refine qa_sum_congr (fun u hu => ?_)
  try dsimp only
  have eL : qa_L (qa_it P (s + 1)) = qa_fL (qa_it P s) (qa_pk P (qa_it P s)) := qa_L_st P (qa_it P s)
  simp only [f.2.1, f.2.2, eL]
  cases e1 : qa_fL (qa_it P s) (qa_pk P (qa_it P s)) u with
  | false => simp
  | true =>
    cases e2 : qa_N (qa_it P s) (qa_pk P (qa_it P s)) u with
    | true => simp
    | false =>
      have : qa_E (qa_it P s) (qa_pk P (qa_it P s)) r u (b u) = 0 := by
        refine qa_off I e1 (qa_tf (fun z => ?_)) r (b u)
        have := (qa_ar_iff.mp z).2.2
        rw [e2] at this
        exact Bool.noConfusion this
      simp [this]
theorem qa_F_pin {P : QA_P} (h : qa_OK P) {s : Nat} (hs : s < qa_v P) :
    (qa_smp P (qa_it P s) < qa_v P → qa_pn (qa_F P) (qa_pk P (qa_it P s)) = 5) ∧ (¬ qa_smp P (qa_it P s) < qa_v P → qa_pn (qa_F P) (qa_pk P (qa_it P s)) = qa_pp P (qa_it P s) (qa_pk P (qa_it P s)) 4) := by
  have I := qa_INV_it h s (by omega)
  have hk := qa_pk_ok h I hs
  have q := qa_pns h (qa_out P s) (qa_v P - (s + 1)) (by omega)
  rw [show s + 1 + (qa_v P - (s + 1)) = qa_v P by omega] at q
  have e : qa_it P (s + 1) = qa_step P (qa_it P s) := rfl
  rw [e] at q
  unfold qa_F
  rw [q]
  refine ⟨fun c => ?_, fun c => ?_⟩
  · rw [qa_pn_st (Or.inr c)]
    refine I.2.2.2.2.2.2.2.2.2 _ hk.1 (fun z => ?_)
    have := (I.2.2.2.2.1 _ hk.1 z).1
    rw [hk.2] at this
    exact Bool.noConfusion this
  · unfold qa_step
    rw [if_neg c]
    show qa_pP P (qa_it P s) _ _ = _
    unfold qa_pP qa_pk
    rw [if_neg c, if_pos rfl]
/-! agreeing with the pins -/
def qa_agr (P : QA_P) (b : Nat → Nat) : Prop := ∀ v, v < qa_v P → qa_pn (qa_F P) v < 5 → b v = qa_pn (qa_F P) v
/-- X's places: pinned ones at their pins, the others best against what was removed later -/
def qa_chs (P : QA_P) (a : Nat → Nat) : Prop := (∀ v, v < qa_v P → a v < 5) ∧ qa_agr P a ∧
  ∀ s, s < qa_v P → ¬ qa_pn (qa_F P) (qa_pk P (qa_it P s)) < 5 → ∀ p, p < 5 →
    qa_key P (qa_V (qa_F P)) (qa_E (qa_F P)) (fun u => qa_N (qa_F P) (qa_pk P (qa_it P s)) u && qa_L (qa_it P (s + 1)) u) a (qa_pk P (qa_it P s)) (a (qa_pk P (qa_it P s))) ≤
    qa_key P (qa_V (qa_F P)) (qa_E (qa_F P)) (fun u => qa_N (qa_F P) (qa_pk P (qa_it P s)) u && qa_L (qa_it P (s + 1)) u) a (qa_pk P (qa_it P s)) p
theorem qa_chs_opt {P : QA_P} (h : qa_OK P) {a : Nat → Nat} (H : qa_chs P a) {b : Nat → Nat} (hb : ∀ v, v < qa_v P → b v < 5) (hg : qa_agr P b) : qa_K P (qa_S0 P) a ≤ qa_K P (qa_S0 P) b := by
  refine qa_opt h H.1 hb (fun s hs c p hp => ?_) (fun s hs c => ?_)
  · have f := (qa_F_pin h hs).1 c
    have := H.2.2 s hs (by omega) p hp
    rwa [qa_key_F h hs, qa_key_F h hs] at this
  · have hk := qa_pk_ok h (qa_INV_it h s (by omega)) hs
    have f := (qa_F_pin h hs).2 c
    have h5 := (qa_pp_fit P (qa_it P s) (qa_pk P (qa_it P s))).1
    rw [← f] at h5 ⊢
    exact ⟨H.2.1 _ hk.1 h5, hg _ hk.1 h5⟩
/-- some allowed assignment agrees with the pins -/
def qa_saf (P : QA_P) (v : Nat) : Nat := if qa_pn (qa_F P) v < 5 then qa_pn (qa_F P) v else 4
theorem qa_saf_ok {P : QA_P} (h : qa_OK P) : (∀ v, qa_saf P v < 5) ∧ qa_agr P (qa_saf P) ∧ qa_alw P (qa_saf P) = true := by
  have I := qa_INV_it h (qa_v P) (Nat.le_refl _)
  refine ⟨fun v => ?_, fun v _ h5 => if_pos h5, qa_alw_iff.mpr (fun v hv => ⟨?_, fun u hu => ?_⟩)⟩
  · unfold qa_saf; split <;> omega
  · unfold qa_saf
    split
    · rename_i h5; exact (I.2.2.2.2.1 v hv h5).2
    · exact qa_fit4 P v
  · unfold qa_saf
    by_cases c1 : qa_pn (qa_F P) v < 5
    · by_cases c2 : qa_pn (qa_F P) u < 5
      · rw [if_pos c1, if_pos c2]
        exact I.2.2.2.2.2.1 u v (by omega) hv c2 c1
      · rw [if_neg c2, qa_cl_c]
        unfold qa_cl
        rw [qa_sh4, Bool.and_false]
    · rw [if_neg c1]
      unfold qa_cl
      rw [qa_sh4, Bool.and_false]
/-- X's choice is Y's: the least cost, then the least code -/
theorem qa_same {P : QA_P} (h : qa_OK P) {a : Nat → Nat} (H : qa_chs P a) {c : Nat} (hc : c < 5 ^ qa_v P) (hg : qa_agr P (qa_dg c)) (ha : qa_alw P (qa_dg c) = true)
    (hm : ∀ d, d < 5 ^ qa_v P → qa_agr P (qa_dg d) → qa_alw P (qa_dg d) = true → qa_cost P (qa_dg c) < qa_cost P (qa_dg d) ∨ (qa_cost P (qa_dg c) = qa_cost P (qa_dg d) ∧ c ≤ d)) :
    ∀ v, v < qa_v P → a v = qa_dg c v := by
  have h6 := qa_pow6 (qa_v6 h)
  have k1 := qa_chs_opt h H (fun v _ => qa_dg_lt c v) hg
  rw [qa_K0_a h ha, qa_dg_code hc] at k1
  have k2 := qa_cost_le h (b := qa_dg c) (fun v _ => qa_dg_lt c v)
  have k3 : qa_alw P a = true := qa_ft (fun z => by
    have := qa_K0_n h z
    omega)
  rw [qa_K0_a h k3] at k1
  have k4 : ∀ v, v < qa_v P → qa_dg (qa_code a (qa_v P)) v = a v := qa_code_dg H.1
  have k5 := qa_code_lt H.1
  have k6 := hm (qa_code a (qa_v P)) k5 (fun v hv h5 => (k4 v hv).trans (H.2.1 v hv h5)) ((qa_alw_congr k4).trans k3)
  rw [qa_cost_congr k4] at k6
  have k7 : qa_code a (qa_v P) = c := by omega
  intro v hv
  rw [← k4 v hv, k7]
end
section
/-! ===== numbers and masks ===== -/
theorem qa_i5 (v p : Nat) : nI v * 5 + nI p = nI (v * 5 + p) := by
  show nI v * nI 5 + nI p = _
  rw [pk_mul, nI_add]
theorem qa_i54 (v : Nat) : nI v * 5 + 4 = nI (v * 5 + 4) := qa_i5 v 4
theorem qa_i6 (u v : Nat) : nI u * 6 + nI v = nI (u * 6 + v) := by
  show nI u * nI 6 + nI v = _
  rw [pk_mul, nI_add]
def qa_ix (u p v q : Nat) : Nat := (u * 6 + v) * 25 + p * 5 + q
theorem qa_ie (u p v q : Nat) : ((((nI u * 6) + nI v) * 25) + (nI p * 5)) + nI q = nI (qa_ix u p v q) := by
  show ((((nI u * nI 6) + nI v) * nI 25) + (nI p * nI 5)) + nI q = _
  rw [pk_mul, nI_add, pk_mul, pk_mul, nI_add, nI_add]
  rfl
theorem qa_ix_lt {u p v q : Nat} (hu : u < 6) (hp : p < 5) (hv : v < 6) (hq : q < 5) : qa_ix u p v q < 900 := by
  unfold qa_ix; omega
theorem qa_ix_inj {u p v q u' p' v' q' : Nat} (hp : p < 5) (hv : v < 6) (hq : q < 5) (hp' : p' < 5) (hv' : v' < 6) (hq' : q' < 5) (h : qa_ix u p v q = qa_ix u' p' v' q') : u = u' ∧ p = p' ∧ v = v' ∧ q = q' := by
  unfold qa_ix at h; omega
theorem qa_bt1 (i : Nat) (hi : i < 32) : bt 1 i = decide (i = 0) := (by decide +kernel : ∀ i, i < 32 → bt 1 i = decide (i = 0)) i hi
theorem qa_bt3 (i : Nat) (hi : i < 32) : bt 3 i = decide (i < 2) := (by decide +kernel : ∀ i, i < 32 → bt 3 i = decide (i < 2)) i hi
theorem qa_bb (b : Bool) {i : Nat} (hi : i < 32) : bt (qa_b b) i = (decide (i = 0) && b) := by
  cases b
  · rw [qa_bf, b_0, Bool.and_false]
  · rw [qa_bt, qa_bt1 i hi, Bool.and_true]
theorem qa_bit (m : Int32) {v : Nat} (hv : v < 32) : (m >>> (nI v &&& 31)) &&& 1 = qa_b (bt m v) := by
  apply b_ext
  intro i hi
  rw [b_and, b_sshr v hv m hi, qa_bt1 i hi, qa_bb _ hi]
  by_cases e : i = 0
  · subst e; rw [if_pos (by omega), Nat.add_zero, Bool.and_comm]
  · rw [decide_eq_false e, Bool.and_false, Bool.false_and]
theorem qa_s1 {v : Nat} (hv : v < 32) {i : Nat} (hi : i < 32) : bt ((1 : Int32) <<< (nI v &&& 31)) i = decide (i = v) := by
  rw [b_shl v hv 1 hi]
  by_cases h : v ≤ i
  · rw [decide_eq_true h, Bool.true_and, qa_bt1 _ (by omega)]
    exact decide_eq_decide.mpr ⟨fun h => by omega, fun h => by omega⟩
  · rw [decide_eq_false h, Bool.false_and, decide_eq_false (by omega)]
theorem qa_s3 {v : Nat} (hv : v < 32) {i : Nat} (hi : i < 32) : bt ((3 : Int32) <<< (nI v &&& 31)) i = decide (i = v ∨ i = v + 1) := by
  rw [b_shl v hv 3 hi]
  by_cases h : v ≤ i
  · rw [decide_eq_true h, Bool.true_and, qa_bt3 _ (by omega)]
    exact decide_eq_decide.mpr ⟨fun h => by omega, fun h => by omega⟩
  · rw [decide_eq_false h, Bool.false_and, decide_eq_false (by omega)]
theorem qa_xn (x : Int32) {i : Nat} (hi : i < 32) : bt (x ^^^ (-1)) i = !bt x i := by
  rw [b_xor, b_m1 i hi, Bool.xor_true]
/-- a mask of variables -/
def qa_mk (n : Nat) (m : Int32) (f : Nat → Bool) : Prop := ∀ i, i < 32 → bt m i = (decide (i < n) && f i)
theorem qa_mk_b {n : Nat} {m : Int32} {f : Nat → Bool} (h : qa_mk n m f) {v : Nat} (hv : v < n) (hn : n ≤ 6) : bt m v = f v := by
  rw [h v (by omega), decide_eq_true hv, Bool.true_and]
theorem qa_mk_0 (n : Nat) : qa_mk n 0 (fun _ => false) := fun i _ => by rw [b_0, Bool.and_false]
theorem qa_mk_congr {n : Nat} {m : Int32} {f g : Nat → Bool} (h : qa_mk n m f) (e : ∀ i, i < n → f i = g i) : qa_mk n m g := by
  intro i hi
  rw [h i hi]
  by_cases c : i < n
  · rw [e i c]
  · rw [decide_eq_false c, Bool.false_and, Bool.false_and]
theorem qa_mk_or {n : Nat} {m m' : Int32} {f g : Nat → Bool} (h : qa_mk n m f) (h' : qa_mk n m' g) : qa_mk n (m ||| m') (fun i => f i || g i) := by
  intro i hi
  rw [b_or, h i hi, h' i hi, Bool.and_or_distrib_left]
theorem qa_mk_and {n : Nat} {m m' : Int32} {f g : Nat → Bool} (h : qa_mk n m f) (h' : qa_mk n m' g) : qa_mk n (m &&& m') (fun i => f i && g i) := by
  intro i hi
  rw [b_and, h i hi, h' i hi]
  show _ = (decide (i < n) && (f i && g i))
  cases decide (i < n) <;> cases f i <;> rfl
theorem qa_mk_1 {n v : Nat} (hv : v < n) (hn : n ≤ 6) : qa_mk n ((1 : Int32) <<< (nI v &&& 31)) (fun i => decide (i = v)) := by
  intro i hi
  rw [qa_s1 (by omega) hi]
  show _ = (decide (i < n) && decide (i = v))
  by_cases c : i = v
  · rw [decide_eq_true c, decide_eq_true (by omega)]; rfl
  · rw [decide_eq_false c, Bool.and_false]
theorem qa_mk_off {n : Nat} {m : Int32} {f : Nat → Bool} (h : qa_mk n m f) {v : Nat} (hv : v < 32) : qa_mk n (m &&& (((1 : Int32) <<< (nI v &&& 31)) ^^^ (-1))) (fun i => f i && decide (i ≠ v)) := by
  intro i hi
  rw [b_and, qa_xn _ hi, qa_s1 hv hi, h i hi, Bool.and_assoc]
  show _ = (decide (i < n) && (f i && decide (¬ i = v)))
  rw [decide_not]
theorem qa_mk_full : ∀ n, n ≤ 6 → qa_mk n (((1 : Int32) <<< (nI n &&& 31)) - 1) (fun _ => true) := by
  intro n hn i hi
  have : n = 0 ∨ n = 1 ∨ n = 2 ∨ n = 3 ∨ n = 4 ∨ n = 5 ∨ n = 6 := by omega
  rw [Bool.and_true]
  rcases this with rfl | rfl | rfl | rfl | rfl | rfl | rfl
  · exact (by decide +kernel : ∀ i, i < 32 → bt (((1 : Int32) <<< (nI 0 &&& 31)) - 1) i = decide (i < 0)) i hi
  · exact (by decide +kernel : ∀ i, i < 32 → bt (((1 : Int32) <<< (nI 1 &&& 31)) - 1) i = decide (i < 1)) i hi
  · exact (by decide +kernel : ∀ i, i < 32 → bt (((1 : Int32) <<< (nI 2 &&& 31)) - 1) i = decide (i < 2)) i hi
  · exact (by decide +kernel : ∀ i, i < 32 → bt (((1 : Int32) <<< (nI 3 &&& 31)) - 1) i = decide (i < 3)) i hi
  · exact (by decide +kernel : ∀ i, i < 32 → bt (((1 : Int32) <<< (nI 4 &&& 31)) - 1) i = decide (i < 4)) i hi
  · exact (by decide +kernel : ∀ i, i < 32 → bt (((1 : Int32) <<< (nI 5 &&& 31)) - 1) i = decide (i < 5)) i hi
  · exact (by decide +kernel : ∀ i, i < 32 → bt (((1 : Int32) <<< (nI 6 &&& 31)) - 1) i = decide (i < 6)) i hi
theorem qa_z0 {m : Int32} : m = 0 ↔ ∀ i, i < 32 → bt m i = false := by
  constructor
  · intro h i _; rw [h, b_0]
  · intro h; exact b_ext (fun i hi => by rw [h i hi, b_0])
theorem qa_mk_z {n : Nat} {m : Int32} {f : Nat → Bool} (h : qa_mk n m f) (hn : n ≤ 6) : m = 0 ↔ ∀ i, i < n → f i = false := by
  rw [qa_z0]
  constructor
  · intro z i hi; rw [← qa_mk_b h hi hn]; exact z i (by omega)
  · intro z i hi
    rw [h i hi]
    by_cases c : i < n
    · rw [z i c, Bool.and_false]
    · rw [decide_eq_false c, Bool.false_and]
theorem qa_cnt_ext {n : Nat} (f : Nat → Bool) (hn : n ≤ 6) : qa_sum (fun u => (decide (u < n) && f u).toNat) 6 = qa_sum (fun u => (f u).toNat) n := by
  have e : ∀ k, qa_sum (fun u => (decide (u < n) && f u).toNat) (n + k) = qa_sum (fun u => (f u).toNat) n := by
    intro k
    induction k with
    | zero => exact qa_sum_congr (fun i hi => by rw [decide_eq_true (show i < n from hi), Bool.true_and])
    | succ k ih =>
      rw [← Nat.add_assoc, qa_sum_s, ih, decide_eq_false (by omega), Bool.false_and]
      rfl
  have := e (6 - n)
  rwa [show n + (6 - n) = 6 by omega] at this
theorem qa_bn (b : Bool) : qa_b b = nI b.toNat := by cases b <;> rfl
/-- an array whose first k cells are written -/
def qa_fill (a : Nat → Int32) (w : Nat → Int32) (k : Nat) : Nat → Int32 := fun j => if j < k then w j else a j
theorem qa_fill0 (a w : Nat → Int32) : qa_fill a w 0 = a := funext (fun j => if_neg (Nat.not_lt_zero j))
theorem qa_fillS (a w : Nat → Int32) (k : Nat) : upd (qa_fill a w k) k (w k) = qa_fill a w (k + 1) := by
  funext j
  by_cases e : j = k
  · subst e; rw [pk_us]; exact (if_pos (by omega)).symm
  · rw [pk_un e]
    unfold qa_fill
    by_cases c : j < k
    · rw [if_pos c, if_pos (by omega)]
    · rw [if_neg c, if_neg (by omega)]
theorem qa_fill_lt {a w : Nat → Int32} {k j : Nat} (h : j < k) : qa_fill a w k j = w j := if_pos h
/-! loops that count up, the state given by the counter; or with a state that an invariant holds -/
theorem qa_up (W : Nat → Nat → Prop) (e : Nat) (hx : ∀ n, W (n + 1) e) (hs : ∀ n j, j < e → W n (j + 1) → W (n + 1) j) : ∃ n, W n 0 := by
  have : ∀ d j, j + d = e → W (d + 1) j := by
    intro d
    induction d with
    | zero => intro j h; have : j = e := by omega
              subst this; exact hx 0
    | succ d ih => intro j h; exact hs (d + 1) j (by omega) (ih (j + 1) (by omega))
  exact ⟨e + 1, this e 0 (by omega)⟩
theorem qa_up' (W : Nat → Nat → Prop) (e i0 : Nat) (h0 : i0 ≤ e) (hx : ∀ n, W (n + 1) e) (hs : ∀ n j, i0 ≤ j → j < e → W n (j + 1) → W (n + 1) j) : ∃ n, W n i0 := by
  have : ∀ d j, i0 ≤ j → j + d = e → W (d + 1) j := by
    intro d
    induction d with
    | zero => intro j _ h; have : j = e := by omega
              subst this; exact hx 0
    | succ d ih => intro j h1 h; exact hs (d + 1) j h1 (by omega) (ih (j + 1) (by omega) (by omega))
  exact ⟨e - i0 + 1, this (e - i0) i0 (Nat.le_refl _) (by omega)⟩
theorem qa_upF (W : Nat → Nat → (Nat → Int32) → Prop) (a w : Nat → Int32) (e : Nat) (hx : ∀ n, W (n + 1) e (qa_fill a w e))
    (hs : ∀ n j, j < e → W n (j + 1) (upd (qa_fill a w j) j (w j)) → W (n + 1) j (qa_fill a w j)) : ∃ n, W n 0 a := by
  obtain ⟨n, h⟩ := qa_up (fun n j => W n j (qa_fill a w j)) e hx (fun n j hj h => hs n j hj (by rw [qa_fillS]; exact h))
  exact ⟨n, by (try dsimp only at h); rwa [qa_fill0] at h⟩
theorem qa_p1 {c : Prop} [Decidable c] (hc : c) {post : Int32 → Prop} (h : post (qa_b (decide c))) : post 1 := by
  rw [decide_eq_true hc] at h; exact h
theorem qa_p0 {c : Prop} [Decidable c] (hc : ¬ c) {post : Int32 → Prop} (h : post (qa_b (decide c))) : post 0 := by
  rw [decide_eq_false hc] at h; exact h
def qa_cp (a l g : Int32) : Int32 := if l ≤ a then (if a ≤ g then a else g) else l
theorem qa_cp_in (a : Int32) {l g : Nat} (h : l ≤ g) (hg : g < 2 ^ 31) : ∃ j, l ≤ j ∧ j ≤ g ∧ qa_cp a (nI l) (nI g) = nI j := by
  unfold qa_cp
  by_cases h1 : nI l ≤ a
  · rw [if_pos h1]
    by_cases h2 : a ≤ nI g
    · rw [if_pos h2]
      have h0 : ¬ a < 0 := fun z => by
        have := Int32.lt_of_le_of_lt h1 z
        exact nI_pos (by omega) this
      obtain ⟨j, hj, rfl⟩ := nI_of h0
      rw [nI_leI (by omega) hj] at h1
      rw [nI_leI hj hg] at h2
      exact ⟨j, h1, h2, rfl⟩
    · rw [if_neg h2]; exact ⟨g, h, Nat.le_refl _, rfl⟩
  · rw [if_neg h1]; exact ⟨l, Nat.le_refl _, h, rfl⟩
theorem qa_in {n N : Nat} (h : n < N) (hN : N < 2 ^ 31 := by omega) : vp_in (nI n) N := vp_in_nI h hN
end
section
/-! ===== X: the small methods ===== -/
section
variable {P : QA_P} {mV mI mC vC nV nC cW sT sK pM oC : Int32} {sC fO : Int64} {aK aC aO aX aY aZ aW aB aA aI aM aP aN aR aL aT aG aS aU : Nat → Int32} {aV aE : Nat → Int64}
theorem qx_clamp {post : Int32 → Prop} {p0 p1 p2 : Int32} (h : post (qa_cp p0 p1 p2)) : wpX_clamp post (mV, mI, mC, vC, sC, fO, nV, nC, cW, sT, sK, pM, oC, aK, aC, aO, aX, aY, aZ, aW, aB, aA, aI, aM, aP, aN, aV, aE, aR, aL, aT, aG, aS, aU) p0 p1 p2 := by
  unfold wpX_clamp
  unfold qa_cp at h
  refine br_c (fun c => br_c (fun d => ?_) (fun d => ?_)) (fun c => ?_)
  · rwa [if_pos c, if_pos d] at h
  · rwa [if_pos c, if_neg d] at h
  · rwa [if_neg c] at h
theorem qx_clear {post : SX → Prop} (h : post (mV, mI, mC, vC, sC, fO, nV, nC, cW, sT, sK, pM, 0, aK, aC, aO, aX, aY, aZ, aW, aB, aA, aI, aM, aP, aN, aV, aE, aR, aL, aT, (qa_fill aG (fun _ => 0) 4), (qa_fill aS (fun _ => 0) 6), aU)) : wpX_clearMachine post (mV, mI, mC, vC, sC, fO, nV, nC, cW, sT, sK, pM, oC, aK, aC, aO, aX, aY, aZ, aW, aB, aA, aI, aM, aP, aN, aV, aE, aR, aL, aT, aG, aS, aU) := by
  unfold wpX_clearMachine
  refine qa_upF (fun n j a => wX_clearMachine_7 post mV mI mC vC sC fO nV nC cW sT sK pM 0 n (nI j) aK aC aO aX aY aZ aW aB aA aI aM aP aN aV aE aR aL aT a aS aU) aG (fun _ => 0) 4 (fun n => ?_) (fun n j hj ih => ?_)
  · refine pk_le 4 4 (fun _ => ?_) (fun h => absurd h (by omega))
    refine qa_upF (fun n j a => wX_clearMachine_27 post mV mI mC vC sC fO nV nC cW sT sK pM 0 n (nI j) aK aC aO aX aY aZ aW aB aA aI aM aP aN aV aE aR aL aT (qa_fill aG (fun _ => 0) 4) a aU) aS (fun _ => 0) 6 (fun n => ?_) (fun n j hj ih => ?_)
    · exact pk_le 6 6 (fun _ => h) (fun h => absurd h (by omega))
    · exact pk_le 6 j (fun h => absurd h (by omega)) (fun _ => ⟨pk_in j 6 hj, nm_r (by rw [nI_clamp (by omega)]) (nm_r (nI_1 j) ih)⟩)
  · exact pk_le 4 j (fun h => absurd h (by omega)) (fun _ => ⟨pk_in j 4 hj, nm_r (by rw [nI_clamp (by omega), qa_vs0]) (nm_r (nI_1 j) ih)⟩)
theorem qx_drop {post : SX → Prop} (h : post (mV, mI, mC, vC, sC, fO, nV, nC, cW, 0, sK, 0, 0, aK, aC, aO, aX, aY, aZ, aW, aB, aA, aI, aM, aP, aN, aV, aE, aR, aL, aT, (qa_fill aG (fun _ => 0) 4), (qa_fill aS (fun _ => 0) 6), aU)) : wpX_drop post (mV, mI, mC, vC, sC, fO, nV, nC, cW, sT, sK, pM, oC, aK, aC, aO, aX, aY, aZ, aW, aB, aA, aI, aM, aP, aN, aV, aE, aR, aL, aT, aG, aS, aU) := by
  unfold wpX_drop
  exact qx_clear h
theorem qx_isVar0 {post : Int32 → Prop} {w : Int32} (hw : w < 0 ∨ nV ≤ w) (h : post 0) : wpX_isVariable post (mV, mI, mC, vC, sC, fO, nV, nC, cW, sT, sK, pM, oC, aK, aC, aO, aX, aY, aZ, aW, aB, aA, aI, aM, aP, aN, aV, aE, aR, aL, aT, aG, aS, aU) w := by
  unfold wpX_isVariable
  refine br_c (fun _ => h) (fun c => br_t ?_ h)
  rcases hw with d | d
  · exact absurd d c
  · exact d
theorem qx_isVar1 {post : Int32 → Prop} {j : Nat} (hj : j < qa_v P) (hv : qa_v P ≤ 6) (h : post 1) : wpX_isVariable post (mV, mI, mC, vC, sC, fO, (nI (qa_v P)), nC, cW, sT, sK, pM, oC, aK, aC, aO, aX, aY, aZ, aW, aB, aA, aI, aM, aP, aN, aV, aE, aR, aL, aT, aG, aS, aU) (nI j) := by
  unfold wpX_isVariable
  exact br_f (nI_pos (by omega)) (pk_le (qa_v P) j (fun e => absurd e (by omega)) (fun _ => h))
theorem qx_isPlace {post : Int32 → Prop} {k q : Nat} (hk : k ≤ 2) (hq : q < 2 ^ 31) (h : post (qa_b (decide (q = 4 ∨ (q < 4 ∧ (k = 0 ∨ (k = 1 ∧ (q = 0 ∨ q = 2)) ∨ (k = 2 ∧ q < 2))))))) : wpX_isPlace post (mV, mI, mC, vC, sC, fO, nV, nC, cW, sT, sK, pM, oC, aK, aC, aO, aX, aY, aZ, aW, aB, aA, aI, aM, aP, aN, aV, aE, aR, aL, aT, aG, aS, aU) (nI k) (nI q) := by
  unfold wpX_isPlace
  refine pk_eq q 4 (fun e => qa_p1 (by omega) h) (fun e => ?_)
  refine br_f (nI_pos hq) ?_
  refine pk_le q 3 (fun e3 => ?_) (fun e3 => qa_p0 (by omega) h)
  refine pk_eq k 1 (fun k1 => ?_) (fun k1 => ?_)
  · exact pk_eq q 0 (fun e => qa_p1 (by omega) h) (fun e => pk_eq q 2 (fun e => qa_p1 (by omega) h) (fun e => qa_p0 (by omega) h))
  · exact pk_eq k 0 (fun e => qa_p1 (by omega) h) (fun e => pk_le 2 q (fun e => qa_p0 (by omega) h) (fun e => qa_p1 (by omega) h))
theorem qx_isPlaceN {post : Int32 → Prop} {k w : Int32} (hw : w < 0) (h : post 0) : wpX_isPlace post (mV, mI, mC, vC, sC, fO, nV, nC, cW, sT, sK, pM, oC, aK, aC, aO, aX, aY, aZ, aW, aB, aA, aI, aM, aP, aN, aV, aE, aR, aL, aT, aG, aS, aU) k w := by
  unfold wpX_isPlace
  refine br_f (fun e => ?_) (br_t hw h)
  rw [e] at hw
  exact absurd hw (by decide)
theorem qx_has {post : Int32 → Prop} {m : Int32} {v : Nat} (hv : v < 32) (h : post (qa_b (bt m v))) : wpX_has post (mV, mI, mC, vC, sC, fO, nV, nC, cW, sT, sK, pM, oC, aK, aC, aO, aX, aY, aZ, aW, aB, aA, aI, aM, aP, aN, aV, aE, aR, aL, aT, aG, aS, aU) m (nI v) := by
  unfold wpX_has
  refine br_c (fun c => ?_) (fun c => ?_)
  · rw [qa_bit m hv, qa_b0] at c
    rw [c] at h
    exact h
  · rw [qa_bit m hv, qa_b0] at c
    rw [qa_ft c] at h
    exact h
theorem qx_occ {post : Int32 → Prop} (hP : qa_PG P aK aC aO aX aY aZ aW) {v q : Nat} (hv : v < qa_v P) (hq : q < 5) (h : ∀ m, (∀ r, r < 32 → bt m r = qa_occ P v q r) → post m) : wpX_occupied post (mV, mI, mC, vC, sC, fO, nV, nC, cW, sT, sK, pM, oC, aK, aC, aO, aX, aY, aZ, aW, aB, aA, aI, aM, aP, aN, aV, aE, aR, aL, aT, aG, aS, aU) (nI v) (nI q) := by
  have h6 := qa_v6 hP.1
  have hk := qa_gK hP hv
  unfold wpX_occupied
  refine pk_eq q 4 (fun e => h 0 (fun r hr => ?_)) (fun e => ?_)
  · rw [b_0]; exact (decide_eq_false (by omega)).symm
  · refine ⟨pk_in v 6 (by omega), ?_⟩
    rw [nI_clamp (by omega), hk.1]
    refine pk_eq (qa_k P v) 1 (fun k1 => h _ (fun r hr => ?_)) (fun k1 => h _ (fun r hr => ?_))
    · rw [qa_s3 (by omega) hr]
      exact decide_eq_decide.mpr (by omega)
    · rw [qa_s1 (by omega) hr]
      exact decide_eq_decide.mpr (by omega)
/-- masks of registers meet when two places share one -/
theorem qa_sh_m {P : QA_P} {u p v q : Nat} {m m' : Int32} (hm : ∀ r, r < 32 → bt m r = qa_occ P u p r) (hm' : ∀ r, r < 32 → bt m' r = qa_occ P v q r) : (m &&& m') = 0 ↔ qa_sh P u p v q = false := by
  rw [qa_z0]
  constructor
  · intro h
    refine qa_any_f (fun r hr => ?_)
    have := h r (by omega)
    rwa [b_and, hm r (by omega), hm' r (by omega)] at this
  · intro h r hr
    rw [b_and, hm r hr, hm' r hr]
    refine qa_tf (fun z => ?_)
    rw [Bool.and_eq_true] at z
    have z1 := of_decide_eq_true z.1
    have z2 := of_decide_eq_true z.2
    have : qa_sh P u p v q = true := by
      refine qa_any_iff.mpr ?_
      by_cases c : r < 4
      · exact ⟨r, c, by rw [Bool.and_eq_true]; exact z⟩
      · exact ⟨3, by omega, by rw [Bool.and_eq_true]; exact ⟨decide_eq_true (by omega), decide_eq_true (by omega)⟩⟩
    rw [h] at this
    exact Bool.noConfusion this
theorem qx_clash {post : Int32 → Prop} (hP : qa_PG P aK aC aO aX aY aZ aW) {u p v q : Nat} (hu : u < qa_v P) (hp : p < 5) (hv : v < qa_v P) (hq : q < 5) (hI : bt (aI u) v = qa_I P u v) (h : post (qa_b (qa_cl P u p v q))) : wpX_clash post (mV, mI, mC, vC, sC, fO, nV, nC, cW, sT, sK, pM, oC, aK, aC, aO, aX, aY, aZ, aW, aB, aA, aI, aM, aP, aN, aV, aE, aR, aL, aT, aG, aS, aU) (nI u) (nI p) (nI v) (nI q) := by
  have h6 := qa_v6 hP.1
  unfold wpX_clash
  refine ⟨pk_in u 6 (by omega), ?_⟩
  rw [nI_clamp (by omega)]
  refine qx_has (by omega) ?_
  rw [hI]
  unfold qa_cl at h
  refine qa_br (fun e => ?_) (fun e => ?_)
  · rw [e, Bool.false_and] at h; exact h
  · rw [e, Bool.true_and] at h
    refine qx_occ hP hu hp (fun m hm => qx_occ hP hv hq (fun m' hm' => ?_))
    refine br_c (fun c => ?_) (fun c => ?_)
    · rw [qa_sh_m hm hm'] at c
      rw [c] at h; exact h
    · rw [qa_sh_m hm hm'] at c
      rw [qa_ft c] at h; exact h
theorem qx_pairCost {post : Int32 → Prop} {P : QA_P} {u p v q : Nat} (hu : u < 6) (hp : p < 5) (hv : v < 6) (hq : q < 5) (hM : aM (u * 6 + v) = nI (qa_mt P u v)) (h : post (nI (qa_pc P u p v q))) : wpX_pairCost post (mV, mI, mC, vC, sC, fO, nV, nC, cW, sT, sK, pM, oC, aK, aC, aO, aX, aY, aZ, aW, aB, aA, aI, aM, aP, aN, aV, aE, aR, aL, aT, aG, aS, aU) (nI u) (nI p) (nI v) (nI q) := by
  have g : ¬ (p = q ∧ p ≠ 4) → wX_pairCost_15 post (nI u) (nI v) mV mI mC vC sC fO nV nC cW sT sK pM oC aK aC aO aX aY aZ aW aB aA aI aM aP aN aV aE aR aL aT aG aS aU := by
    intro c
    unfold wX_pairCost_15
    rw [qa_i6]
    refine ⟨qa_in (by omega), ?_⟩
    rw [nI_clamp (by omega), hM]
    unfold qa_pc at h
    rwa [if_neg c] at h
  unfold wpX_pairCost
  refine pk_eq p q (fun e => pk_eq p 4 (fun e4 => g (by omega)) (fun e4 => ?_)) (fun e => g (by omega))
  unfold qa_pc at h
  rw [if_pos ⟨e, e4⟩] at h
  exact h
theorem qx_isLink {post : Int32 → Prop} (hP : qa_PG P aK aC aO aX aY aZ aW) {i : Nat} (hi : i < qa_c P) (h : post (qa_b (qa_jn P i))) : wpX_isLink post (mV, mI, mC, vC, sC, fO, nV, nC, cW, sT, sK, pM, oC, aK, aC, aO, aX, aY, aZ, aW, aB, aA, aI, aM, aP, aN, aV, aE, aR, aL, aT, aG, aS, aU) (nI i) := by
  have h6 := qa_v6 hP.1
  have h16 := qa_c16 hP.1
  have hO := qa_gO hP hi
  have hX := qa_gX hP hi
  unfold wpX_isLink
  refine ⟨pk_in i 16 (by omega), ?_⟩
  rw [nI_clamp (by omega), hO.1, hX.1]
  unfold qa_jn at h
  refine pk_eq (qa_o P i) 1 (fun o1 => ?_) (fun o1 => ?_)
  · have hY := qa_gY hP hi (by omega) (by omega)
    refine ⟨pk_in i 16 (by omega), pk_in i 16 (by omega), ?_⟩
    rw [hY.1]
    refine pk_eq (qa_x P i) (qa_y P i) (fun e => ?_) (fun e => ?_)
    · rw [decide_eq_false (by omega), Bool.false_and] at h
      exact h
    · rw [decide_eq_true ⟨o1, e⟩, Bool.true_and] at h
      unfold qa_al at h
      have kx := qa_gK hP hX.2
      have ky := qa_gK hP hY.2
      refine ⟨pk_in i 16 (by omega), pk_in (qa_x P i) 6 (by omega), ?_⟩
      rw [nI_clamp (n := qa_x P i) (by omega), kx.1]
      have g : ∀ z : Int32, (∀ b : Bool, z = qa_b b → (b = true ↔ qa_k P (qa_x P i) = 1) → wX_isLink_47 post (nI i) z mV mI mC vC sC fO nV nC cW sT sK pM oC aK aC aO aX aY aZ aW aB aA aI aM aP aN aV aE aR aL aT aG aS aU) := by
        intro z b hz hb
        subst hz
        unfold wX_isLink_47
        refine ⟨pk_in i 16 (by omega), ?_⟩
        rw [nI_clamp (n := i) (by omega), hY.1]
        refine ⟨pk_in (qa_y P i) 6 (by omega), ?_⟩
        rw [nI_clamp (n := qa_y P i) (by omega), ky.1]
        refine pk_eq (qa_k P (qa_y P i)) 1 (fun k1 => ?_) (fun k1 => ?_)
        · unfold wX_isLink_67
          cases b
          · exact br_f (by decide) (qa_p0 (by rw [← hb, k1]; simp) h)
          · exact br_t (by decide) (qa_p1 (by rw [← hb, k1]; simp) h)
        · unfold wX_isLink_67
          cases b
          · exact br_t (by decide) (qa_p1 (by rw [← hb]; simp [k1]) h)
          · exact br_f (by decide) (qa_p0 (by rw [← hb]; simp [k1]) h)
      refine pk_eq (qa_k P (qa_x P i)) 1 (fun k1 => g 1 true rfl (by simp [k1])) (fun k1 => g 0 false rfl (by simp [k1]))
  · rw [decide_eq_false (by omega), Bool.false_and] at h
    exact h
theorem qx_neededAt {post : Int32 → Prop} {P : QA_P} {j : Nat} (h16 : qa_c P ≤ 16) (hj : j < 100) (h : post (if j < qa_c P then aB j else 0)) : wpX_neededAt post (mV, mI, mC, vC, sC, fO, nV, (nI (qa_c P)), cW, sT, sK, pM, oC, aK, aC, aO, aX, aY, aZ, aW, aB, aA, aI, aM, aP, aN, aV, aE, aR, aL, aT, aG, aS, aU) (nI j) := by
  unfold wpX_neededAt
  refine pk_le (qa_c P) j (fun e => ?_) (fun e => ⟨pk_in j 16 (by omega), ?_⟩)
  · rwa [if_neg (by omega)] at h
  · rw [nI_clamp (by omega)]
    rwa [if_pos e] at h
theorem qx_readMask {post : Int32 → Prop} (hP : qa_PG P aK aC aO aX aY aZ aW) {i : Nat} (hi : i < qa_c P) (h : ∀ m, qa_mk (qa_v P) m (qa_rd P i) → post m) : wpX_readMask post (mV, mI, mC, vC, sC, fO, nV, nC, cW, sT, sK, pM, oC, aK, aC, aO, aX, aY, aZ, aW, aB, aA, aI, aM, aP, aN, aV, aE, aR, aL, aT, aG, aS, aU) (nI i) := by
  have h6 := qa_v6 hP.1
  have h16 := qa_c16 hP.1
  have hO := qa_gO hP hi
  have hX := qa_gX hP hi
  unfold wpX_readMask
  refine ⟨pk_in i 16 (by omega), ?_⟩
  rw [nI_clamp (by omega), hO.1, hX.1]
  refine nm_e ?_
  have nY : ¬ (1 ≤ qa_o P i ∧ qa_o P i ≤ 4) → ∀ u, qa_sec P i u = false := fun c u => decide_eq_false (by omega)
  have nZ : ¬ (2 ≤ qa_o P i ∧ qa_o P i ≤ 4) → ∀ u, qa_thd P i u = false := fun c u => decide_eq_false (by omega)
  have m1 := qa_mk_1 hX.2 h6
  have gx : 6 ≤ qa_o P i → qa_mk (qa_v P) ((1 : Int32) <<< (nI (qa_x P i) &&& 31)) (qa_rd P i) := by
    intro c
    refine qa_mk_congr m1 (fun u _ => ?_)
    unfold qa_rd
    rw [nY (by omega), nZ (by omega), Bool.false_or, Bool.false_or]
    exact decide_eq_decide.mpr (by omega)
  refine pk_eq (qa_o P i) 6 (fun o => ⟨pk_in i 16 (by omega), h _ (gx (by omega))⟩) (fun o6 => ?_)
  refine pk_eq (qa_o P i) 7 (fun o => ⟨pk_in i 16 (by omega), h _ (gx (by omega))⟩) (fun o7 => ?_)
  have nX : ∀ u, decide (6 ≤ qa_o P i ∧ qa_x P i = u) = false := fun u => decide_eq_false (by omega)
  refine pk_eq (qa_o P i) 1 (fun o => ⟨pk_in i 16 (by omega), ?_⟩) (fun o1 => ?_)
  · have hY := qa_gY hP hi (by omega) (by omega)
    rw [hY.1]
    refine h _ (qa_mk_congr (qa_mk_1 hY.2 h6) (fun u _ => ?_))
    unfold qa_rd
    rw [nX, nZ (by omega), Bool.or_false, Bool.or_false]
    exact decide_eq_decide.mpr (by omega)
  · have z0 : ¬ (2 ≤ qa_o P i ∧ qa_o P i ≤ 4) → post 0 := by
      intro c
      refine h _ (qa_mk_congr (qa_mk_0 _) (fun u _ => ?_))
      unfold qa_rd
      rw [nX, nZ (by omega), nY (by omega)]; rfl
    refine pk_lt (qa_o P i) 2 (fun o => z0 (by omega)) (fun o2 => pk_lt 4 (qa_o P i) (fun o => z0 (by omega)) (fun o4 => ⟨pk_in i 16 (by omega), pk_in i 16 (by omega), ?_⟩))
    have hY := qa_gY hP hi (by omega) (by omega)
    have hZ := qa_gZ hP hi (by omega) (by omega)
    rw [hY.1, hZ.1]
    refine h _ (qa_mk_congr (qa_mk_or (qa_mk_1 hY.2 h6) (qa_mk_1 hZ.2 h6)) (fun u _ => ?_))
    unfold qa_rd
    rw [nX, Bool.or_false]
    congr 1
    · exact decide_eq_decide.mpr (by omega)
    · exact decide_eq_decide.mpr (by omega)
end
end
section
/-! ===== X: what is needed ===== -/
section
variable {P : QA_P} {mV mI mC vC nV nC cW sT sK pM oC : Int32} {sC fO : Int64} {aK aC aO aX aY aZ aW aB aA aI aM aP aN aR aL aT aG aS aU : Nat → Int32} {aV aE : Nat → Int64}
theorem qx_findNeeded {post : SX → Prop} (hP : qa_PG P aK aC aO aX aY aZ aW) (h : ∀ aB' aA', (∀ j, j < qa_c P → qa_mk (qa_v P) (aA' j) (fun u => qa_la P u j)) → post (mV, mI, (nI (qa_m P)), (nI (qa_w P)), 15625, 1000000000000, (nI (qa_v P)), (nI (qa_c P)), cW, sT, sK, pM, oC, aK, aC, aO, aX, aY, aZ, aW, aB', aA', aI, aM, aP, aN, aV, aE, aR, aL, aT, aG, aS, aU)) : wpX_findNeeded post (mV, mI, (nI (qa_m P)), (nI (qa_w P)), 15625, 1000000000000, (nI (qa_v P)), (nI (qa_c P)), cW, sT, sK, pM, oC, aK, aC, aO, aX, aY, aZ, aW, aB, aA, aI, aM, aP, aN, aV, aE, aR, aL, aT, aG, aS, aU) := by
  have h6 := qa_v6 hP.1
  have h16 := qa_c16 hP.1
  unfold wpX_findNeeded
  refine nm_e ⟨qa_c P + 1, ?_⟩
  refine pk_loopD (fun n e (s : (Nat → Int32) × (Nat → Int32)) => wX_findNeeded_7 post mV mI (nI (qa_m P)) (nI (qa_w P)) 15625 1000000000000 (nI (qa_v P)) (nI (qa_c P)) cW sT sK pM oC n (nI e - 1) aK aC aO aX aY aZ aW s.1 s.2 aI aM aP aN aV aE aR aL aT aG aS aU)
    (fun e s => e ≤ qa_c P ∧ ∀ j, e ≤ j → j < qa_c P → qa_mk (qa_v P) (s.1 j) (fun u => qa_lb P u j) ∧ qa_mk (qa_v P) (s.2 j) (fun u => qa_la P u j))
    (fun n s hI => ?_) (fun n i s hI ih => ?_) (qa_c P) (aB, aA) ⟨Nat.le_refl _, fun j h1 h2 => absurd h1 (by omega)⟩
  · exact br_t (by decide) (h _ _ (fun j hj => (hI.2 j (by omega) hj).2))
  · obtain ⟨hi', hJ⟩ := hI
    have hi : i < qa_c P := by omega
    have hO := qa_gO hP hi
    have hX := qa_gX hP hi
    have bk : ∀ j, i + 1 ≤ j → qa_mk (qa_v P) (if j < qa_c P then s.1 j else 0) (fun u => qa_lb P u j) := by
      intro j hj
      by_cases c : j < qa_c P
      · rw [if_pos c]; exact (hJ j hj c).1
      · rw [if_neg c]; exact qa_mk_congr (qa_mk_0 _) (fun u _ => (qa_lb_ge (by omega)).symm)
    have k : ∀ m z, qa_mk (qa_v P) m (fun u => qa_la P u i) → qa_mk (qa_v P) z (fun u => !qa_wr P i u && qa_la P u i) →
        wX_findNeeded_80 post (wX_findNeeded_7 post mV mI (nI (qa_m P)) (nI (qa_w P)) 15625 1000000000000 (nI (qa_v P)) (nI (qa_c P)) cW sT sK pM oC n) (nI i) z mV mI (nI (qa_m P)) (nI (qa_w P)) 15625 1000000000000 (nI (qa_v P)) (nI (qa_c P)) cW sT sK pM oC aK aC aO aX aY aZ aW s.1 (upd s.2 i m) aI aM aP aN aV aE aR aL aT aG aS aU := by
      intro m z hm hz
      unfold wX_findNeeded_80
      refine qx_readMask hP hi (fun mr hmr => ⟨pk_in i 16 (by omega), ?_⟩)
      rw [nI_clamp (by omega)]
      refine nm_e (nm_r (Int32.sub_eq_add_neg (nI i) 1).symm (ih (upd s.1 i (z ||| mr), upd s.2 i m) ⟨by omega, fun j h1 h2 => ?_⟩))
      by_cases e : j = i
      · subst e
        try dsimp only
        rw [pk_us, pk_us]
        refine ⟨qa_mk_congr (qa_mk_or hz hmr) (fun u _ => ?_), hm⟩
        rw [qa_lb_eq, decide_eq_true h2, Bool.true_and, Bool.or_comm]
      · try dsimp only
        rw [pk_un e, pk_un e]
        exact hJ j (by omega) h2
    have g : ∀ m, qa_mk (qa_v P) m (fun u => qa_la P u i) → wX_findNeeded_47 post (wX_findNeeded_7 post mV mI (nI (qa_m P)) (nI (qa_w P)) 15625 1000000000000 (nI (qa_v P)) (nI (qa_c P)) cW sT sK pM oC n) (nI i) m mV mI (nI (qa_m P)) (nI (qa_w P)) 15625 1000000000000 (nI (qa_v P)) (nI (qa_c P)) cW sT sK pM oC aK aC aO aX aY aZ aW s.1 s.2 aI aM aP aN aV aE aR aL aT aG aS aU := by
      intro m hm
      unfold wX_findNeeded_47
      refine ⟨pk_in i 16 (by omega), ?_⟩
      rw [nI_clamp (by omega)]
      refine nm_e ⟨pk_in i 16 (by omega), ?_⟩
      rw [hO.1]
      refine pk_lt 5 (qa_o P i) (fun o5 => k m m hm (qa_mk_congr hm (fun u _ => ?_))) (fun o5 => ⟨pk_in i 16 (by omega), ?_⟩)
      · rw [show qa_wr P i u = false from decide_eq_false (by omega)]; rfl
      · rw [hX.1]
        refine k m _ hm (qa_mk_congr (qa_mk_off hm (by omega)) (fun u _ => ?_))
        rw [Bool.and_comm]
        congr 1
        unfold qa_wr
        rw [← decide_not]
        exact decide_eq_decide.mpr (by omega)
    show wX_findNeeded_7 post mV mI (nI (qa_m P)) (nI (qa_w P)) 15625 1000000000000 (nI (qa_v P)) (nI (qa_c P)) cW sT sK pM oC (n + 1) (nI (i + 1) - 1) aK aC aO aX aY aZ aW s.1 s.2 aI aM aP aN aV aE aR aL aT aG aS aU
    rw [nI_pred]
    refine br_f (nI_pos (by omega)) ?_
    rw [nI_1 i]
    refine qx_neededAt h16 (by omega) ⟨pk_in i 16 (by omega), ?_⟩
    rw [nI_clamp (by omega), hO.1]
    refine pk_eq (qa_o P i) 7 (fun o7 => ⟨pk_in i 16 (by omega), ?_⟩) (fun o7 => g _ (qa_mk_congr (bk (i + 1) (by omega)) (fun u _ => ?_)))
    · have hS := qa_gS hP hi o7
      rw [hS.1, nI_add]
      refine qx_neededAt h16 (by omega) (nm_e (g _ (qa_mk_congr (qa_mk_or (bk (i + 1) (by omega)) (bk (i + 1 + qa_y P i) (by omega))) (fun u _ => ?_))))
      unfold qa_la
      rw [decide_eq_true o7, Bool.true_and]
    · unfold qa_la
      rw [decide_eq_false o7, Bool.false_and, Bool.or_false]
end
/-! ===== X: interference ===== -/
def qa_mf (P : QA_P) (i o : Nat) : Bool := qa_hit P i (qa_x P i) o && decide (o ≠ qa_x P i)
def qa_I1 (P : QA_P) (i u v : Nat) : Bool := decide (u ≠ v) && qa_any (qa_mt2 P u v) i
theorem qa_hit_x {P : QA_P} {i a v : Nat} : qa_hit P i a v = (decide (a = qa_x P i) && qa_hit P i (qa_x P i) v) := by
  by_cases c : a = qa_x P i
  · subst c; rw [decide_eq_true rfl, Bool.true_and]
  · rw [decide_eq_false c, Bool.false_and]
    unfold qa_hit
    rw [show qa_wr P i a = false from decide_eq_false (by omega)]; rfl
theorem qa_I1_s (P : QA_P) (i a v : Nat) : qa_I1 P (i + 1) a v = (qa_I1 P i a v || (decide (a = qa_x P i) && qa_mf P i v) || (qa_mf P i a && decide (v = qa_x P i))) := by
  unfold qa_I1 qa_mf
  rw [qa_any_s]
  have e : qa_mt2 P a v i = ((decide (a = qa_x P i) && qa_hit P i (qa_x P i) v) || (decide (v = qa_x P i) && qa_hit P i (qa_x P i) a)) := by
    unfold qa_mt2
    rw [qa_hit_x (a := a), qa_hit_x (a := v)]
  rw [e]
  by_cases c : a = v
  · subst c
    rw [decide_eq_false (by simp : ¬ a ≠ a)]
    by_cases d : a = qa_x P i
    · rw [decide_eq_false (by omega : ¬ a ≠ qa_x P i)]
      cases qa_hit P i (qa_x P i) a <;> cases decide (a = qa_x P i) <;> rfl
    · rw [decide_eq_false d]
      cases qa_hit P i (qa_x P i) a <;> cases decide (a ≠ qa_x P i) <;> rfl
  · rw [decide_eq_true (c : a ≠ v), Bool.true_and, Bool.true_and]
    by_cases d : a = qa_x P i
    · rw [decide_eq_true d, decide_eq_false (by omega : ¬ v = qa_x P i), decide_eq_true (by omega : v ≠ qa_x P i), decide_eq_false (by omega : ¬ a ≠ qa_x P i)]
      cases qa_any (qa_mt2 P a v) i <;> cases qa_hit P i (qa_x P i) v <;> cases qa_hit P i (qa_x P i) a <;> rfl
    · rw [decide_eq_false d, decide_eq_true (by omega : a ≠ qa_x P i)]
      cases qa_any (qa_mt2 P a v) i <;> cases qa_hit P i (qa_x P i) v <;> cases qa_hit P i (qa_x P i) a <;> cases decide (v = qa_x P i) <;> cases decide (v ≠ qa_x P i) <;> rfl
theorem qa_mf_off {P : QA_P} {i : Nat} (h : ¬ qa_o P i ≤ 5) (o : Nat) : qa_mf P i o = false := by
  unfold qa_mf qa_hit
  rw [show qa_wr P i (qa_x P i) = false from decide_eq_false (by omega)]; rfl
theorem qa_mf_jn {P : QA_P} {i : Nat} (h5 : qa_o P i ≤ 5) (hj : qa_jn P i = true) (o : Nat) : ((qa_la P o i && decide (o ≠ qa_x P i)) && decide (o ≠ qa_y P i)) = qa_mf P i o := by
  have j := qa_jn_iff.mp hj
  unfold qa_mf qa_hit
  rw [show qa_wr P i (qa_x P i) = true from decide_eq_true (by omega)]
  by_cases c : o = qa_y P i
  · subst c
    rw [decide_eq_true (⟨j.1.1, rfl⟩ : qa_o P i = 1 ∧ qa_y P i = qa_y P i), j.2, decide_eq_false (by simp : ¬ qa_y P i ≠ qa_y P i)]
    cases qa_la P (qa_y P i) i <;> cases decide (qa_y P i ≠ qa_x P i) <;> rfl
  · rw [decide_eq_false (by omega : ¬ (qa_o P i = 1 ∧ qa_y P i = o)), decide_eq_true (c : o ≠ qa_y P i)]
    cases qa_la P o i <;> cases decide (o ≠ qa_x P i) <;> rfl
theorem qa_mf_nj {P : QA_P} {i : Nat} (h5 : qa_o P i ≤ 5) (hj : qa_jn P i = false) (o : Nat) : (qa_la P o i && decide (o ≠ qa_x P i)) = qa_mf P i o := by
  unfold qa_mf qa_hit
  rw [show qa_wr P i (qa_x P i) = true from decide_eq_true (by omega)]
  by_cases c : o = qa_x P i
  · rw [decide_eq_false (by omega : ¬ o ≠ qa_x P i), Bool.and_false, Bool.and_false]
  · have : (decide (qa_o P i = 1 ∧ qa_y P i = o) && qa_al P (qa_x P i) o) = false := qa_tf (fun z => by
      rw [Bool.and_eq_true, decide_eq_true_eq] at z
      have : qa_jn P i = true := qa_jn_iff.mpr ⟨⟨z.1.1, by omega⟩, by rw [z.1.2]; exact z.2⟩
      rw [hj] at this
      exact Bool.noConfusion this)
    rw [this]
    cases qa_la P o i <;> cases decide (o ≠ qa_x P i) <;> rfl
section
variable {P : QA_P} {mV mI mC vC nV nC cW sT sK pM oC : Int32} {sC fO : Int64} {aK aC aO aX aY aZ aW aB aA aI aM aP aN aR aL aT aG aS aU : Nat → Int32} {aV aE : Nat → Int64}
theorem qx_findInterference {post : SX → Prop} (hP : qa_PG P aK aC aO aX aY aZ aW) (hA : ∀ j, j < qa_c P → qa_mk (qa_v P) (aA j) (fun u => qa_la P u j)) (h : ∀ aI', (∀ u, u < qa_v P → qa_mk (qa_v P) (aI' u) (qa_I P u)) → post (mV, mI, (nI (qa_m P)), (nI (qa_w P)), 15625, 1000000000000, (nI (qa_v P)), (nI (qa_c P)), cW, sT, sK, pM, oC, aK, aC, aO, aX, aY, aZ, aW, aB, aA, aI', aM, aP, aN, aV, aE, aR, aL, aT, aG, aS, aU)) : wpX_findInterference post (mV, mI, (nI (qa_m P)), (nI (qa_w P)), 15625, 1000000000000, (nI (qa_v P)), (nI (qa_c P)), cW, sT, sK, pM, oC, aK, aC, aO, aX, aY, aZ, aW, aB, aA, aI, aM, aP, aN, aV, aE, aR, aL, aT, aG, aS, aU) := by
  have h6 := qa_v6 hP.1
  have h16 := qa_c16 hP.1
  unfold wpX_findInterference
  refine qa_upF (fun n j a => wX_findInterference_2 post mV mI (nI (qa_m P)) (nI (qa_w P)) 15625 1000000000000 (nI (qa_v P)) (nI (qa_c P)) cW sT sK pM oC n (nI j) aK aC aO aX aY aZ aW aB aA a aM aP aN aV aE aR aL aT aG aS aU) aI (fun _ => 0) 6 (fun n => ?_) (fun n j hj ih => ?_)
  · refine pk_le 6 6 (fun _ => ?_) (fun h => absurd h (by omega))
    refine loop_0 (fun n j a => wX_findInterference_23 post mV mI (nI (qa_m P)) (nI (qa_w P)) 15625 1000000000000 (nI (qa_v P)) (nI (qa_c P)) cW sT sK pM oC n (nI j) aK aC aO aX aY aZ aW aB aA a aM aP aN aV aE aR aL aT aG aS aU) (fun i a => ∀ u, u < qa_v P → qa_mk (qa_v P) (a u) (qa_I1 P i u)) (qa_c P) (qa_fill aI (fun _ => 0) 6) ?_ (fun n s hs => ?_) (fun n i s hi hs ih => ?_)
    · intro u hu
      rw [qa_fill_lt (by omega)]
      exact qa_mk_congr (qa_mk_0 _) (fun v _ => (Bool.and_false _).symm)
    · exact pk_le (qa_c P) (qa_c P) (fun _ => h s hs) (fun h => absurd h (by omega))
    · refine pk_le (qa_c P) i (fun h => absurd h (by omega)) (fun _ => ⟨pk_in i 16 (by omega), ?_⟩)
      have hO := qa_gO hP hi
      have hX := qa_gX hP hi
      have mA := hA i hi
      rw [nI_clamp (by omega), hO.1]
      refine pk_le (qa_o P i) 5 (fun o5 => ⟨pk_in i 16 (by omega), ?_⟩) (fun o5 => nm_r (nI_1 i) (ih s (fun u hu => qa_mk_congr (hs u hu) (fun v _ => ?_))))
      · rw [hX.1]
        refine nm_e ⟨pk_in i 16 (by omega), nm_e ?_⟩
        have g : ∀ m, qa_mk (qa_v P) m (qa_mf P i) → wX_findInterference_85 post (wX_findInterference_23 post mV mI (nI (qa_m P)) (nI (qa_w P)) 15625 1000000000000 (nI (qa_v P)) (nI (qa_c P)) cW sT sK pM oC n) (nI i) (nI (qa_x P i)) m mV mI (nI (qa_m P)) (nI (qa_w P)) 15625 1000000000000 (nI (qa_v P)) (nI (qa_c P)) cW sT sK pM oC aK aC aO aX aY aZ aW aB aA s aM aP aN aV aE aR aL aT aG aS aU := by
          intro m hm
          have hx6 : qa_x P i < 6 := by omega
          unfold wX_findInterference_85
          refine ⟨pk_in (qa_x P i) 6 hx6, pk_in (qa_x P i) 6 hx6, ?_⟩
          rw [nI_clamp (by omega)]
          refine nm_e ?_
          refine loop_0 (fun k u a => wX_findInterference_98 post (wX_findInterference_23 post mV mI (nI (qa_m P)) (nI (qa_w P)) 15625 1000000000000 (nI (qa_v P)) (nI (qa_c P)) cW sT sK pM oC n) (nI i) (nI (qa_x P i)) m mV mI (nI (qa_m P)) (nI (qa_w P)) 15625 1000000000000 (nI (qa_v P)) (nI (qa_c P)) cW sT sK pM oC k (nI u) aK aC aO aX aY aZ aW aB aA a aM aP aN aV aE aR aL aT aG aS aU)
            (fun w a => ∀ u, u < qa_v P → qa_mk (qa_v P) (a u) (fun v => qa_I1 P i u v || (decide (u = qa_x P i) && qa_mf P i v) || (decide (u < w) && (qa_mf P i u && decide (v = qa_x P i))))) (qa_v P) _ ?_ (fun k t ht => ?_) (fun k w t hw ht ih2 => ?_)
          · intro u hu
            by_cases e : u = qa_x P i
            · rw [e, pk_us]
              refine qa_mk_congr (qa_mk_or (hs _ hX.2) hm) (fun v _ => ?_)
              rw [decide_eq_true rfl, decide_eq_false (by omega : ¬ qa_x P i < 0), Bool.true_and, Bool.false_and, Bool.or_false]
            · rw [pk_un e]
              refine qa_mk_congr (hs u hu) (fun v _ => ?_)
              rw [decide_eq_false e, decide_eq_false (by omega : ¬ u < 0), Bool.false_and, Bool.false_and, Bool.or_false, Bool.or_false]
          · refine pk_le (qa_v P) (qa_v P) (fun _ => nm_r (nI_1 i) (ih t (fun u hu => qa_mk_congr (ht u hu) (fun v _ => ?_)))) (fun h => absurd h (by omega))
            rw [qa_I1_s, decide_eq_true hu, Bool.true_and]
          · refine pk_le (qa_v P) w (fun h => absurd h (by omega)) (fun _ => qx_has (by omega) ?_)
            rw [qa_mk_b hm hw h6]
            refine qa_br (fun e => nm_r (nI_1 w) (ih2 t (fun u hu => qa_mk_congr (ht u hu) (fun v _ => ?_)))) (fun e => ⟨pk_in w 6 (by omega), pk_in w 6 (by omega), ?_⟩)
            · congr 1
              by_cases c : u = w
              · subst c; rw [e, Bool.false_and, Bool.and_false, Bool.and_false]
              · rw [show decide (u < w) = decide (u < w + 1) from decide_eq_decide.mpr (by omega)]
            · rw [nI_clamp (by omega)]
              refine nm_e (nm_r (nI_1 w) (ih2 _ (fun u hu => ?_)))
              by_cases c : u = w
              · subst c
                rw [pk_us]
                refine qa_mk_congr (qa_mk_or (ht u hu) (qa_mk_1 hX.2 h6)) (fun v _ => ?_)
                rw [e, decide_eq_true (by omega : u < u + 1), decide_eq_false (by omega : ¬ u < u)]
                rw [Bool.false_and, Bool.or_false, Bool.true_and, Bool.true_and]
              · rw [pk_un c]
                refine qa_mk_congr (ht u hu) (fun v _ => ?_)
                rw [show decide (u < w) = decide (u < w + 1) from decide_eq_decide.mpr (by omega)]
        refine qx_isLink hP hi (qa_br (fun e => g _ (qa_mk_congr (qa_mk_off mA (by omega)) (fun o _ => qa_mf_nj o5 e o))) (fun e => ⟨pk_in i 16 (by omega), ?_⟩))
        have j := qa_jn_iff.mp e
        have hY := qa_gY hP hi (by omega) (by omega)
        rw [hY.1]
        exact nm_e (g _ (qa_mk_congr (qa_mk_off (qa_mk_off mA (by omega)) (by omega)) (fun o _ => qa_mf_jn o5 e o)))
      · rw [qa_I1_s, qa_mf_off (by omega), qa_mf_off (by omega), Bool.and_false, Bool.or_false, Bool.false_and, Bool.or_false]
  · exact pk_le 6 j (fun h => absurd h (by omega)) (fun _ => ⟨pk_in j 6 hj, nm_r (by rw [nI_clamp (by omega)]) (nm_r (nI_1 j) ih)⟩)
end
end
section
/-! ===== X: prices and moves ===== -/
def qa_PI (P : QA_P) (s : Nat → Int32) (g : Nat → Nat) : Prop := ∀ v p, v < qa_v P → p < 5 → s (v * 5 + p) = nI (qa_h P (v * 5 + p) + if p = 4 then g v else 0)
theorem qa_PI_add {P : QA_P} {s : Nat → Int32} {g : Nat → Nat} (h : qa_PI P s g) {x : Nat} (hx : x < qa_v P) (k : Nat) : qa_PI P (upd s (x * 5 + 4) (s (x * 5 + 4) + nI k)) (fun v => g v + if x = v then k else 0) := by
  intro v p hv hp
  show _ = nI (_ + if p = 4 then g v + (if x = v then k else 0) else 0)
  by_cases c : x = v ∧ p = 4
  · obtain ⟨rfl, rfl⟩ := c
    rw [pk_us, h x 4 hx (by omega), if_pos rfl, if_pos rfl, if_pos rfl, nI_add, Nat.add_assoc]
  · rw [pk_un (by omega), h v p hv hp]
    by_cases d : p = 4
    · rw [if_pos d, if_pos d, if_neg (by omega), Nat.add_zero]
    · rw [if_neg d, if_neg d]
theorem qa_PI_congr {P : QA_P} {s : Nat → Int32} {g g' : Nat → Nat} (h : qa_PI P s g) (e : ∀ v, v < qa_v P → g v = g' v) : qa_PI P s g' := by
  intro v p hv hp
  rw [h v p hv hp, e v hv]
section
variable {P : QA_P} {mV mI mC vC nV nC cW sT sK pM oC : Int32} {sC fO : Int64} {aK aC aO aX aY aZ aW aB aA aI aM aP aN aR aL aT aG aS aU : Nat → Int32} {aV aE : Nat → Int64}
theorem qx_priceOp {post : SX → Prop} (hP : qa_PG P aK aC aO aX aY aZ aW) {x w : Nat} (hx : x < qa_v P) (h : post (mV, mI, (nI (qa_m P)), (nI (qa_w P)), 15625, 1000000000000, (nI (qa_v P)), (nI (qa_c P)), cW, sT, sK, pM, oC, aK, aC, aO, aX, aY, aZ, aW, aB, aA, aI, aM, (upd aP (x * 5 + 4) (aP (x * 5 + 4) + nI (w * qa_m P * qa_fac P x))), aN, aV, aE, aR, aL, aT, aG, aS, aU)) : wpX_priceOperand post (mV, mI, (nI (qa_m P)), (nI (qa_w P)), 15625, 1000000000000, (nI (qa_v P)), (nI (qa_c P)), cW, sT, sK, pM, oC, aK, aC, aO, aX, aY, aZ, aW, aB, aA, aI, aM, aP, aN, aV, aE, aR, aL, aT, aG, aS, aU) (nI x) (nI w) := by
  have h6 := qa_v6 hP.1
  have hk := qa_gK hP hx
  have g : wX_priceOperand_15 post (nI x) (nI w) (nI (qa_fac P x)) mV mI (nI (qa_m P)) (nI (qa_w P)) 15625 1000000000000 (nI (qa_v P)) (nI (qa_c P)) cW sT sK pM oC aK aC aO aX aY aZ aW aB aA aI aM aP aN aV aE aR aL aT aG aS aU := by
    unfold wX_priceOperand_15
    rw [qa_i54, pk_mul, pk_mul]
    refine ⟨qa_in (by omega), qa_in (by omega), ?_⟩
    rw [nI_clamp (by omega)]
    exact nm_e h
  unfold wpX_priceOperand
  refine ⟨pk_in x 6 (by omega), ?_⟩
  rw [nI_clamp (by omega), hk.1]
  unfold qa_fac at g
  refine pk_eq (qa_k P x) 1 (fun e => ?_) (fun e => ?_)
  · rw [if_pos e] at g; exact g
  · rw [if_neg e] at g; exact g
theorem qx_findPrices {post : SX → Prop} (hP : qa_PG P aK aC aO aX aY aZ aW) (h : ∀ aP', (∀ v p, v < qa_v P → p < 5 → aP' (v * 5 + p) = nI (qa_pr P v p)) → post (mV, mI, (nI (qa_m P)), (nI (qa_w P)), 15625, 1000000000000, (nI (qa_v P)), (nI (qa_c P)), cW, sT, sK, pM, oC, aK, aC, aO, aX, aY, aZ, aW, aB, aA, aI, aM, aP', aN, aV, aE, aR, aL, aT, aG, aS, aU)) : wpX_findPrices post (mV, mI, (nI (qa_m P)), (nI (qa_w P)), 15625, 1000000000000, (nI (qa_v P)), (nI (qa_c P)), cW, sT, sK, pM, oC, aK, aC, aO, aX, aY, aZ, aW, aB, aA, aI, aM, aP, aN, aV, aE, aR, aL, aT, aG, aS, aU) := by
  have h6 := qa_v6 hP.1
  have h16 := qa_c16 hP.1
  unfold wpX_findPrices
  refine qa_upF (fun n j a => wX_findPrices_2 post mV mI (nI (qa_m P)) (nI (qa_w P)) 15625 1000000000000 (nI (qa_v P)) (nI (qa_c P)) cW sT sK pM oC n (nI j) aK aC aO aX aY aZ aW aB aA aI aM a aN aV aE aR aL aT aG aS aU) aP aC 30 (fun n => ?_) (fun n j hj ih => ?_)
  · refine pk_le 30 30 (fun _ => ?_) (fun h => absurd h (by omega))
    refine loop_0 (fun n j a => wX_findPrices_28 post n (nI j) mV mI (nI (qa_m P)) (nI (qa_w P)) 15625 1000000000000 (nI (qa_v P)) (nI (qa_c P)) cW sT sK pM oC aK aC aO aX aY aZ aW aB aA aI aM a aN aV aE aR aL aT aG aS aU) (fun i a => qa_PI P a (fun v => qa_sum (qa_trm P v) i)) (qa_c P) (qa_fill aP aC 30) ?_ (fun n s hs => ?_) (fun n i s hi hs ih => ?_)
    · intro v p hv hp
      rw [qa_fill_lt (by omega), (qa_gC hP (by omega)).1]
      split <;> rfl
    · exact pk_le (qa_c P) (qa_c P) (fun _ => h s (fun v p hv hp => hs v p hv hp)) (fun h => absurd h (by omega))
    · have hO := qa_gO hP hi
      have hX := qa_gX hP hi
      have hW := qa_gW hP hi
      refine pk_le (qa_c P) i (fun h => absurd h (by omega)) (fun _ => ⟨pk_in i 16 (by omega), pk_in i 16 (by omega), ?_⟩)
      rw [nI_clamp (by omega), hX.1, hW.1]
      have h1 := qa_PI_add hs hX.2 (qa_e P i * qa_m P * qa_fac P (qa_x P i))
      -- the third operand
      have k3 : ∀ t g, qa_PI P t g → (∀ v, v < qa_v P → g v + (if qa_thd P i v = true then qa_one P v i else 0) = qa_sum (qa_trm P v) (i + 1)) → wX_findPrices_88 post (wX_findPrices_28 post n) (nI i) mV mI (nI (qa_m P)) (nI (qa_w P)) 15625 1000000000000 (nI (qa_v P)) (nI (qa_c P)) cW sT sK pM oC aK aC aO aX aY aZ aW aB aA aI aM t aN aV aE aR aL aT aG aS aU := by
        intro t g ht hg
        unfold wX_findPrices_88
        refine ⟨pk_in i 16 (by omega), ?_⟩
        rw [nI_clamp (by omega), hO.1, hW.1]
        have off : ¬ (2 ≤ qa_o P i ∧ qa_o P i ≤ 4) → ∀ v, v < qa_v P → g v = qa_sum (qa_trm P v) (i + 1) := by
          intro c v hv
          have := hg v hv
          rwa [show qa_thd P i v = false from decide_eq_false (by omega), if_neg (by decide), Nat.add_zero] at this
        refine pk_lt (qa_o P i) 2 (fun o => nm_r (nI_1 i) (ih t (qa_PI_congr ht (off (by omega))))) (fun o2 => ⟨pk_in i 16 (by omega), ?_⟩)
        refine pk_lt 4 (qa_o P i) (fun o => nm_r (nI_1 i) (ih t (qa_PI_congr ht (off (by omega))))) (fun o4 => ⟨pk_in i 16 (by omega), pk_in i 16 (by omega), ?_⟩)
        have hZ := qa_gZ hP hi o2 o4
        rw [hZ.1]
        refine qx_priceOp hP hZ.2 (nm_r (nI_1 i) (ih _ (qa_PI_congr (qa_PI_add ht hZ.2 _) (fun v hv => ?_))))
        rw [← hg v hv]
        congr 1
        by_cases c : qa_z P i = v
        · rw [if_pos c, if_pos (show qa_thd P i v = true from decide_eq_true ⟨o2, o4, c⟩), ← c]; rfl
        · rw [if_neg c, if_neg (fun z => c (of_decide_eq_true z).2.2)]
      have e1 : ∀ v, qa_sum (qa_trm P v) (i + 1) = (qa_sum (qa_trm P v) i + (if qa_x P i = v then qa_e P i * qa_m P * qa_fac P (qa_x P i) else 0)) + (if qa_sec P i v = true then qa_one P v i else 0) + (if qa_thd P i v = true then qa_one P v i else 0) := by
        intro v
        rw [qa_sum_s]
        have : (if qa_x P i = v then qa_e P i * qa_m P * qa_fac P (qa_x P i) else 0) = (if qa_x P i = v then qa_one P v i else 0) := by
          by_cases c : qa_x P i = v
          · rw [if_pos c, if_pos c, c]; rfl
          · rw [if_neg c, if_neg c]
        rw [this]
        unfold qa_trm
        omega
      refine qx_priceOp hP hX.2 ⟨pk_in i 16 (by omega), ?_⟩
      rw [hO.1]
      have off : ¬ (1 ≤ qa_o P i ∧ qa_o P i ≤ 4) → ∀ v, v < qa_v P → (qa_sum (qa_trm P v) i + (if qa_x P i = v then qa_e P i * qa_m P * qa_fac P (qa_x P i) else 0)) + (if qa_thd P i v = true then qa_one P v i else 0) = qa_sum (qa_trm P v) (i + 1) := by
        intro c v _
        rw [e1 v, show qa_sec P i v = false from decide_eq_false (by omega), if_neg (by decide : ¬ false = true), Nat.add_zero]
      refine pk_lt (qa_o P i) 1 (fun o => k3 _ _ h1 (off (by omega))) (fun o1 => ⟨pk_in i 16 (by omega), ?_⟩)
      refine pk_lt 4 (qa_o P i) (fun o => k3 _ _ h1 (off (by omega))) (fun o4 => ⟨pk_in i 16 (by omega), pk_in i 16 (by omega), ?_⟩)
      have hY := qa_gY hP hi o1 o4
      rw [hY.1, hW.1]
      refine qx_priceOp hP hY.2 (k3 _ _ (qa_PI_add h1 hY.2 _) (fun v _ => ?_))
      rw [e1 v]
      congr 2
      by_cases c : qa_y P i = v
      · rw [if_pos c, if_pos (show qa_sec P i v = true from decide_eq_true ⟨o1, o4, c⟩), ← c]; rfl
      · rw [if_neg c, if_neg (fun z => c (of_decide_eq_true z).2.2)]
  · exact pk_le 30 j (fun h => absurd h (by omega)) (fun _ => ⟨pk_in j 30 hj, pk_in j 30 hj, nm_r (by rw [nI_clamp (by omega)]) (nm_r (nI_1 j) ih)⟩)
/-! moves -/
def qa_MI (P : QA_P) (i : Nat) (s : (Nat → Int32) × (Nat → Int32)) : Prop :=
  (∀ u v, u < qa_v P → v < qa_v P → s.1 (u * 6 + v) = nI (qa_sum (qa_mv P u v) i)) ∧
  (∀ u, u < qa_v P → qa_mk (qa_v P) (s.2 u) (fun v => qa_I P u v || qa_any (fun j => qa_jn P j && qa_ab P u v j) i))
theorem qa_MI_no {P : QA_P} {i : Nat} {s : (Nat → Int32) × (Nat → Int32)} (h : qa_MI P i s) (hj : qa_jn P i = false) : qa_MI P (i + 1) s := by
  refine ⟨fun u v hu hv => ?_, fun u hu => qa_mk_congr (h.2 u hu) (fun v _ => ?_)⟩
  · rw [h.1 u v hu hv, qa_sum_s]
    unfold qa_mv
    rw [hj, Bool.false_and, if_neg (by decide), Nat.add_zero]
  · rw [qa_any_s, hj, Bool.false_and, Bool.or_false]
theorem qa_MI_yes {P : QA_P} {i : Nat} {s : (Nat → Int32) × (Nat → Int32)} (h6 : qa_v P ≤ 6) (h : qa_MI P i s) (hj : qa_jn P i = true) (hx : qa_x P i < qa_v P) (hy : qa_y P i < qa_v P) :
    qa_MI P (i + 1) (upd (upd s.1 (qa_x P i * 6 + qa_y P i) (s.1 (qa_x P i * 6 + qa_y P i) + nI (qa_e P i * qa_w P))) (qa_y P i * 6 + qa_x P i) (upd s.1 (qa_x P i * 6 + qa_y P i) (s.1 (qa_x P i * 6 + qa_y P i) + nI (qa_e P i * qa_w P)) (qa_y P i * 6 + qa_x P i) + nI (qa_e P i * qa_w P)),
      upd (upd s.2 (qa_x P i) (s.2 (qa_x P i) ||| ((1 : Int32) <<< (nI (qa_y P i) &&& 31)))) (qa_y P i) (upd s.2 (qa_x P i) (s.2 (qa_x P i) ||| ((1 : Int32) <<< (nI (qa_y P i) &&& 31))) (qa_y P i) ||| ((1 : Int32) <<< (nI (qa_x P i) &&& 31)))) := by
  have ne := (qa_jn_iff.mp hj).1.2
  refine ⟨fun u v hu hv => ?_, fun u hu => ?_⟩
  · try dsimp only
    rw [qa_sum_s]
    have e : qa_mv P u v i = if (qa_x P i = u ∧ qa_y P i = v) ∨ (qa_x P i = v ∧ qa_y P i = u) then qa_e P i * qa_w P else 0 := by
      unfold qa_mv qa_ab
      simp only [hj, Bool.true_and, decide_eq_true_eq]
    rw [e]
    by_cases c1 : qa_x P i = u ∧ qa_y P i = v
    · obtain ⟨rfl, rfl⟩ := c1
      rw [pk_un (by omega), pk_us, h.1 _ _ hu hv, nI_add, if_pos (Or.inl ⟨rfl, rfl⟩)]
    · by_cases c2 : qa_x P i = v ∧ qa_y P i = u
      · obtain ⟨rfl, rfl⟩ := c2
        rw [pk_us, pk_un (by omega), h.1 _ _ hu hv, nI_add, if_pos (Or.inr ⟨rfl, rfl⟩)]
      · rw [pk_un (by omega), pk_un (by omega), h.1 u v hu hv, if_neg (by omega), Nat.add_zero]
  · try dsimp only
    have e : ∀ v, (qa_jn P i && qa_ab P u v i) = decide ((qa_x P i = u ∧ qa_y P i = v) ∨ (qa_x P i = v ∧ qa_y P i = u)) := by
      intro v
      unfold qa_ab
      rw [hj, Bool.true_and]
    by_cases c1 : u = qa_y P i
    · subst c1
      rw [pk_us, pk_un (by omega)]
      refine qa_mk_congr (qa_mk_or (h.2 _ hu) (qa_mk_1 hx h6)) (fun v _ => ?_)
      rw [qa_any_s, e v, ← Bool.or_assoc]
      congr 1
      exact decide_eq_decide.mpr (by omega)
    · rw [pk_un c1]
      by_cases c2 : u = qa_x P i
      · subst c2
        rw [pk_us]
        refine qa_mk_congr (qa_mk_or (h.2 _ hu) (qa_mk_1 hy h6)) (fun v _ => ?_)
        rw [qa_any_s, e v, ← Bool.or_assoc]
        congr 1
        exact decide_eq_decide.mpr (by omega)
      · rw [pk_un c2]
        refine qa_mk_congr (h.2 _ hu) (fun v _ => ?_)
        rw [qa_any_s, e v, decide_eq_false (by omega), Bool.or_false]
theorem qx_findMoves {post : SX → Prop} (hP : qa_PG P aK aC aO aX aY aZ aW) (hI : ∀ u, u < qa_v P → qa_mk (qa_v P) (aI u) (qa_I P u)) (h : ∀ aM' aN', (∀ u v, u < qa_v P → v < qa_v P → aM' (u * 6 + v) = nI (qa_mt P u v)) → (∀ u, u < qa_v P → qa_mk (qa_v P) (aN' u) (qa_N0 P u)) → post (mV, mI, (nI (qa_m P)), (nI (qa_w P)), 15625, 1000000000000, (nI (qa_v P)), (nI (qa_c P)), cW, sT, sK, pM, oC, aK, aC, aO, aX, aY, aZ, aW, aB, aA, aI, aM', aP, aN', aV, aE, aR, aL, aT, aG, aS, aU)) : wpX_findMoves post (mV, mI, (nI (qa_m P)), (nI (qa_w P)), 15625, 1000000000000, (nI (qa_v P)), (nI (qa_c P)), cW, sT, sK, pM, oC, aK, aC, aO, aX, aY, aZ, aW, aB, aA, aI, aM, aP, aN, aV, aE, aR, aL, aT, aG, aS, aU) := by
  have h6 := qa_v6 hP.1
  have h16 := qa_c16 hP.1
  unfold wpX_findMoves
  refine qa_upF (fun n j a => wX_findMoves_2 post mV mI (nI (qa_m P)) (nI (qa_w P)) 15625 1000000000000 (nI (qa_v P)) (nI (qa_c P)) cW sT sK pM oC n (nI j) aK aC aO aX aY aZ aW aB aA aI a aP aN aV aE aR aL aT aG aS aU) aM (fun _ => 0) 36 (fun n => ?_) (fun n j hj ih => ?_)
  · refine pk_le 36 36 (fun _ => ?_) (fun h => absurd h (by omega))
    refine qa_upF (fun n j a => wX_findMoves_23 post mV mI (nI (qa_m P)) (nI (qa_w P)) 15625 1000000000000 (nI (qa_v P)) (nI (qa_c P)) cW sT sK pM oC n (nI j) aK aC aO aX aY aZ aW aB aA aI (qa_fill aM (fun _ => 0) 36) aP a aV aE aR aL aT aG aS aU) aN aI 6 (fun n => ?_) (fun n j hj ih => ?_)
    · refine pk_le 6 6 (fun _ => ?_) (fun h => absurd h (by omega))
      refine loop_0 (fun n j (s : (Nat → Int32) × (Nat → Int32)) => wX_findMoves_49 post mV mI (nI (qa_m P)) (nI (qa_w P)) 15625 1000000000000 (nI (qa_v P)) (nI (qa_c P)) cW sT sK pM oC n (nI j) aK aC aO aX aY aZ aW aB aA aI s.1 aP s.2 aV aE aR aL aT aG aS aU) (qa_MI P) (qa_c P) (qa_fill aM (fun _ => 0) 36, qa_fill aN aI 6) ?_ (fun n s hs => ?_) (fun n i s hi hs ih => ?_)
      · refine ⟨fun u v hu hv => ?_, fun u hu => ?_⟩
        · show qa_fill aM (fun _ => 0) 36 (u * 6 + v) = _
          exact qa_fill_lt (by omega)
        · show qa_mk (qa_v P) (qa_fill aN aI 6 u) _
          rw [qa_fill_lt (by omega)]
          exact qa_mk_congr (hI u hu) (fun v _ => (Bool.or_false _).symm)
      · exact pk_le (qa_c P) (qa_c P) (fun _ => h _ _ hs.1 hs.2) (fun h => absurd h (by omega))
      · refine pk_le (qa_c P) i (fun h => absurd h (by omega)) (fun _ => ?_)
        refine qx_isLink hP hi (qa_br (fun e => nm_r (nI_1 i) (ih s (qa_MI_no hs e))) (fun e => ⟨pk_in i 16 (by omega), ?_⟩))
        have j := qa_jn_iff.mp e
        have hX := qa_gX hP hi
        have hY := qa_gY hP hi (by omega) (by omega)
        have hW := qa_gW hP hi
        have F := ih _ (qa_MI_yes h6 hs e hX.2 hY.2)
        rw [nI_clamp (by omega), hX.1]
        refine nm_e ⟨pk_in i 16 (by omega), ?_⟩
        rw [hY.1]
        refine nm_e ?_
        rw [qa_i6, qa_i6, hW.1, pk_mul]
        refine ⟨qa_in (by omega), pk_in i 16 (by omega), qa_in (by omega), ?_⟩
        rw [nI_clamp (by omega)]
        refine nm_e ⟨qa_in (by omega), pk_in i 16 (by omega), qa_in (by omega), ?_⟩
        rw [nI_clamp (by omega)]
        refine nm_e ⟨qa_in (by omega), qa_in (by omega), ?_⟩
        rw [nI_clamp (by omega)]
        refine nm_e ⟨qa_in (by omega), qa_in (by omega), ?_⟩
        rw [nI_clamp (by omega)]
        exact nm_e (nm_r (nI_1 i) F)
    · exact pk_le 6 j (fun h => absurd h (by omega)) (fun _ => ⟨pk_in j 6 hj, pk_in j 6 hj, nm_r (by rw [nI_clamp (by omega)]) (nm_r (nI_1 j) ih)⟩)
  · exact pk_le 36 j (fun h => absurd h (by omega)) (fun _ => ⟨pk_in j 36 hj, nm_r (by rw [nI_clamp (by omega)]) (nm_r (nI_1 j) ih)⟩)
end
end
section
/-! ===== X: the problem is built ===== -/
def qa_ED (P : QA_P) (a : Nat → Int64) (E : Nat → Nat → Nat → Nat → Nat) : Prop := ∀ u p v q, u < qa_v P → p < 5 → v < qa_v P → q < 5 → a (qa_ix u p v q) = lN (E u p v q)
def qa_VD (P : QA_P) (a : Nat → Int64) (V : Nat → Nat → Nat) : Prop := ∀ v p, v < qa_v P → p < 5 → a (v * 5 + p) = lN (V v p)
theorem qa_ED_congr {P : QA_P} {a : Nat → Int64} {E E' : Nat → Nat → Nat → Nat → Nat} (h : qa_ED P a E) (e : ∀ u p v q, u < qa_v P → p < 5 → v < qa_v P → q < 5 → E u p v q = E' u p v q) : qa_ED P a E' := by
  intro u p v q hu hp hv hq
  rw [h u p v q hu hp hv hq, e u p v q hu hp hv hq]
theorem qa_VD_congr {P : QA_P} {a : Nat → Int64} {V V' : Nat → Nat → Nat} (h : qa_VD P a V) (e : ∀ v p, v < qa_v P → p < 5 → V v p = V' v p) : qa_VD P a V' := by
  intro v p hv hp
  rw [h v p hv hp, e v p hv hp]
def qa_add (E : Nat → Nat → Nat → Nat → Nat) (u p v q k : Nat) (a pa b pb : Nat) : Nat := E a pa b pb + (if a = u ∧ pa = p ∧ b = v ∧ pb = q then k else 0) + (if a = v ∧ pa = q ∧ b = u ∧ pb = p then k else 0)
theorem qa_ED_add {P : QA_P} {aE : Nat → Int64} {E : Nat → Nat → Nat → Nat → Nat} (h6 : qa_v P ≤ 6) (h : qa_ED P aE E) {u p v q : Nat} (hu : u < qa_v P) (hp : p < 5) (hv : v < qa_v P) (hq : q < 5) (k : Nat) :
    qa_ED P (vp_updL (vp_updL aE (qa_ix u p v q) (aE (qa_ix u p v q) + lN k)) (qa_ix v q u p) (vp_updL aE (qa_ix u p v q) (aE (qa_ix u p v q) + lN k) (qa_ix v q u p) + lN k)) (qa_add E u p v q k) := by
  intro a pa b pb ha hpa hb hpb
  unfold qa_add
  by_cases c2 : a = v ∧ pa = q ∧ b = u ∧ pb = p
  · obtain ⟨rfl, rfl, rfl, rfl⟩ := c2
    rw [pk_uLs, if_pos (⟨rfl, rfl, rfl, rfl⟩ : a = a ∧ pa = pa ∧ b = b ∧ pb = pb)]
    by_cases c1 : a = b ∧ pa = pb ∧ b = a ∧ pb = pa
    · obtain ⟨rfl, rfl, _, _⟩ := c1
      rw [pk_uLs, if_pos (⟨rfl, rfl, rfl, rfl⟩ : a = a ∧ pa = pa ∧ a = a ∧ pa = pa), h a pa a pa ha hpa ha hpa, lN_add, lN_add]
    · rw [if_neg c1, pk_uLn (fun e => ?_), h a pa b pb ha hpa hb hpb, lN_add]
      · rfl
      · have := qa_ix_inj hpa (by omega) hpb hpb (by omega) hpa e
        exact c1 this
  · rw [if_neg c2, pk_uLn (fun e => c2 (qa_ix_inj hpa (by omega) hpb hq (by omega) hp e))]
    by_cases c1 : a = u ∧ pa = p ∧ b = v ∧ pb = q
    · obtain ⟨rfl, rfl, rfl, rfl⟩ := c1
      rw [pk_uLs, if_pos (⟨rfl, rfl, rfl, rfl⟩ : a = a ∧ pa = pa ∧ b = b ∧ pb = pb), h a pa b pb ha hpa hb hpb, lN_add]
      rfl
    · rw [if_neg c1, pk_uLn (fun e => c1 (qa_ix_inj hpa (by omega) hpb hp (by omega) hq e)), h a pa b pb ha hpa hb hpb]
      rfl
/-- pairs (pa, pb) ahead of (pu, pv) -/
def qa_D (pu pv pa pb : Nat) : Bool := decide (pa < pu ∨ (pa = pu ∧ pb < pv))
def qa_bd (E : Nat → Nat → Nat → Nat → Nat) (u v : Nat) (key : Nat → Nat → Nat) (D : Nat → Nat → Bool) (a pa b pb : Nat) : Nat :=
  E a pa b pb + (if a = u ∧ b = v ∧ D pa pb = true then key pa pb else 0) + (if a = v ∧ b = u ∧ D pb pa = true then key pb pa else 0)
theorem qa_D_s {pu pv pa pb : Nat} : qa_D pu (pv + 1) pa pb = true ↔ (qa_D pu pv pa pb = true ∨ (pa = pu ∧ pb = pv)) := by
  unfold qa_D
  rw [decide_eq_true_eq, decide_eq_true_eq]
  omega
theorem qa_bd_s (E : Nat → Nat → Nat → Nat → Nat) {u v : Nat} (huv : u ≠ v) (key : Nat → Nat → Nat) (pu pv a pa b pb : Nat) :
    qa_add (qa_bd E u v key (qa_D pu pv)) u pu v pv (key pu pv) a pa b pb = qa_bd E u v key (qa_D pu (pv + 1)) a pa b pb := by
  have hn : ¬ qa_D pu pv pu pv = true := by
    unfold qa_D
    rw [decide_eq_true_eq]
    omega
  unfold qa_add qa_bd
  by_cases c1 : a = u ∧ b = v
  · have c2 : ¬ a = v := by omega
    obtain ⟨rfl, rfl⟩ := c1
    have n1 : ∀ X : Prop, ¬ (a = b ∧ X) := fun X z => c2 z.1
    rw [if_neg (n1 _), if_neg (n1 _), if_neg (n1 _)]
    by_cases e : pa = pu ∧ pb = pv
    · obtain ⟨rfl, rfl⟩ := e
      rw [if_neg (fun z => hn z.2.2), if_pos (⟨rfl, rfl, rfl, rfl⟩ : a = a ∧ pa = pa ∧ b = b ∧ pb = pb), if_pos ⟨rfl, rfl, qa_D_s.mpr (Or.inr ⟨rfl, rfl⟩)⟩]; rfl
    · rw [if_neg (fun z : a = a ∧ pa = pu ∧ b = b ∧ pb = pv => e ⟨z.2.1, z.2.2.2⟩)]
      by_cases d : qa_D pu pv pa pb = true
      · rw [if_pos ⟨rfl, rfl, d⟩, if_pos ⟨rfl, rfl, qa_D_s.mpr (Or.inl d)⟩]
      · rw [if_neg (fun z => d z.2.2), if_neg (fun z => (qa_D_s.mp z.2.2).elim d e)]
  · rw [if_neg (fun z : a = u ∧ b = v ∧ _ => c1 ⟨z.1, z.2.1⟩), if_neg (fun z : a = u ∧ b = v ∧ _ => c1 ⟨z.1, z.2.1⟩), if_neg (fun z : a = u ∧ pa = pu ∧ b = v ∧ pb = pv => c1 ⟨z.1, z.2.2.1⟩)]
    by_cases c2 : a = v ∧ b = u
    · obtain ⟨rfl, rfl⟩ := c2
      by_cases e : pb = pu ∧ pa = pv
      · obtain ⟨rfl, rfl⟩ := e
        rw [if_neg (fun z => hn z.2.2), if_pos (⟨rfl, rfl, rfl, rfl⟩ : a = a ∧ pa = pa ∧ b = b ∧ pb = pb), if_pos ⟨rfl, rfl, qa_D_s.mpr (Or.inr ⟨rfl, rfl⟩)⟩]
      · rw [if_neg (fun z : a = a ∧ pa = pv ∧ b = b ∧ pb = pu => e ⟨z.2.2.2, z.2.1⟩)]
        by_cases d : qa_D pu pv pb pa = true
        · rw [if_pos ⟨rfl, rfl, d⟩, if_pos ⟨rfl, rfl, qa_D_s.mpr (Or.inl d)⟩]; rfl
        · rw [if_neg (fun z => d z.2.2), if_neg (fun z => (qa_D_s.mp z.2.2).elim d e)]
    · rw [if_neg (fun z : a = v ∧ b = u ∧ _ => c2 ⟨z.1, z.2.1⟩), if_neg (fun z : a = v ∧ b = u ∧ _ => c2 ⟨z.1, z.2.1⟩), if_neg (fun z : a = v ∧ pa = pv ∧ b = u ∧ pb = pu => c2 ⟨z.1, z.2.2.1⟩)]
theorem qa_bd_D {E : Nat → Nat → Nat → Nat → Nat} {u v : Nat} {key : Nat → Nat → Nat} {D D' : Nat → Nat → Bool} (h : ∀ x y, x < 5 → y < 5 → D x y = D' x y) {a pa b pb : Nat} (hpa : pa < 5) (hpb : pb < 5) : qa_bd E u v key D a pa b pb = qa_bd E u v key D' a pa b pb := by
  unfold qa_bd
  rw [h pa pb hpa hpb, h pb pa hpb hpa]
theorem qa_D_roll (pu x y : Nat) (hy : y < 5) : qa_D pu 5 x y = qa_D (pu + 1) 0 x y := decide_eq_decide.mpr (by omega)
theorem qa_D_00 (x y : Nat) : qa_D 0 0 x y = false := decide_eq_false (by omega)
theorem qa_D_50 (x y : Nat) (hx : x < 5) : qa_D 5 0 x y = true := decide_eq_true (by omega)
theorem qa_bd_0 (E : Nat → Nat → Nat → Nat → Nat) (u v : Nat) (key : Nat → Nat → Nat) (a pa b pb : Nat) : E a pa b pb = qa_bd E u v key (qa_D 0 0) a pa b pb := by
  unfold qa_bd
  rw [if_neg (fun z => by rw [qa_D_00] at z; exact Bool.noConfusion z.2.2), if_neg (fun z => by rw [qa_D_00] at z; exact Bool.noConfusion z.2.2)]; rfl
def qa_be (E : Nat → Nat → Nat → Nat → Nat) (u v : Nat) (key : Nat → Nat → Nat) (a pa b pb : Nat) : Nat :=
  E a pa b pb + (if a = u ∧ b = v then key pa pb else 0) + (if a = v ∧ b = u then key pb pa else 0)
theorem qa_bd_e (E : Nat → Nat → Nat → Nat → Nat) (u v : Nat) (key : Nat → Nat → Nat) {a pa b pb : Nat} (hpa : pa < 5) (hpb : pb < 5) : qa_bd E u v key (qa_D 5 0) a pa b pb = qa_be E u v key a pa b pb := by
  unfold qa_bd qa_be
  rw [qa_D_50 pa pb hpa, qa_D_50 pb pa hpb]
  congr 1
  · congr 1
    by_cases c : a = u ∧ b = v
    · rw [if_pos c, if_pos ⟨c.1, c.2, rfl⟩]
    · rw [if_neg c, if_neg (fun z => c ⟨z.1, z.2.1⟩)]
  · by_cases c : a = v ∧ b = u
    · rw [if_pos c, if_pos ⟨c.1, c.2, rfl⟩]
    · rw [if_neg c, if_neg (fun z => c ⟨z.1, z.2.1⟩)]
def qa_kE (P : QA_P) (u v pa pb : Nat) : Nat := if qa_cl P u pa v pb = true then 1000000000000 else qa_pc P u pa v pb * 15625
section
variable {P : QA_P} {mV mI mC vC nV nC cW sT sK pM oC : Int32} {sC fO : Int64} {aK aC aO aX aY aZ aW aB aA aI aM aP aN aR aL aT aG aS aU : Nat → Int32} {aV aE : Nat → Int64}
theorem qx_edge {post : Int32 → Prop} {u p v q : Nat} (h : post (nI (qa_ix u p v q))) : wpX_edgeIndex post (mV, mI, mC, vC, sC, fO, nV, nC, cW, sT, sK, pM, oC, aK, aC, aO, aX, aY, aZ, aW, aB, aA, aI, aM, aP, aN, aV, aE, aR, aL, aT, aG, aS, aU) (nI u) (nI p) (nI v) (nI q) := by
  unfold wpX_edgeIndex
  rw [← qa_ie] at h
  exact h
theorem qx_addEdge {post : SX → Prop} {E : Nat → Nat → Nat → Nat → Nat} (h6 : qa_v P ≤ 6) (hE : qa_ED P aE E) {u p v q : Nat} (hu : u < qa_v P) (hp : p < 5) (hv : v < qa_v P) (hq : q < 5) {k : Nat}
    (h : ∀ a', qa_ED P a' (qa_add E u p v q k) → post (mV, mI, mC, vC, sC, fO, nV, nC, cW, sT, sK, pM, oC, aK, aC, aO, aX, aY, aZ, aW, aB, aA, aI, aM, aP, aN, aV, a', aR, aL, aT, aG, aS, aU)) : wpX_addEdge post (mV, mI, mC, vC, sC, fO, nV, nC, cW, sT, sK, pM, oC, aK, aC, aO, aX, aY, aZ, aW, aB, aA, aI, aM, aP, aN, aV, aE, aR, aL, aT, aG, aS, aU) (nI u) (nI p) (nI v) (nI q) (lN k) := by
  have l1 := qa_ix_lt (by omega : u < 6) hp (by omega : v < 6) hq
  have l2 := qa_ix_lt (by omega : v < 6) hq (by omega : u < 6) hp
  unfold wpX_addEdge
  refine qx_edge ⟨qa_in l1, qa_in l1, ?_⟩
  rw [nI_clamp (by omega)]
  refine nm_e (qx_edge ⟨qa_in l2, qa_in l2, ?_⟩)
  rw [nI_clamp (by omega)]
  exact nm_e (h _ (qa_ED_add h6 hE hu hp hv hq k))
theorem qx_buildEdge {post : SX → Prop} (hP : qa_PG P aK aC aO aX aY aZ aW) {E : Nat → Nat → Nat → Nat → Nat} (hE : qa_ED P aE E) (hI : ∀ u, u < qa_v P → qa_mk (qa_v P) (aI u) (qa_I P u)) (hM : ∀ u v, u < qa_v P → v < qa_v P → aM (u * 6 + v) = nI (qa_mt P u v))
    {u v : Nat} (huv : u < v) (hv : v < qa_v P) (h : ∀ a', qa_ED P a' (qa_be E u v (qa_kE P u v)) → post (mV, mI, mC, vC, sC, fO, nV, nC, cW, sT, sK, pM, oC, aK, aC, aO, aX, aY, aZ, aW, aB, aA, aI, aM, aP, aN, aV, a', aR, aL, aT, aG, aS, aU)) : wpX_buildEdge post (mV, mI, mC, vC, sC, fO, nV, nC, cW, sT, sK, pM, oC, aK, aC, aO, aX, aY, aZ, aW, aB, aA, aI, aM, aP, aN, aV, aE, aR, aL, aT, aG, aS, aU) (nI u) (nI v) := by
  have h6 := qa_v6 hP.1
  have hu : u < qa_v P := by omega
  unfold wpX_buildEdge
  refine loop_0 (fun n j a => wX_buildEdge_2 post (nI u) (nI v) n (nI j) mV mI mC vC sC fO nV nC cW sT sK pM oC aK aC aO aX aY aZ aW aB aA aI aM aP aN aV a aR aL aT aG aS aU) (fun j a => qa_ED P a (qa_bd E u v (qa_kE P u v) (qa_D j 0))) 5 aE ?_ (fun n a ha => ?_) (fun n j a hj ha ih => ?_)
  · exact qa_ED_congr hE (fun a pa b pb _ _ _ _ => qa_bd_0 E u v _ a pa b pb)
  · exact pk_le 5 5 (fun _ => h a (qa_ED_congr ha (fun x px y py _ h1 _ h2 => qa_bd_e E u v _ h1 h2))) (fun h => absurd h (by omega))
  · refine pk_le 5 j (fun h => absurd h (by omega)) (fun _ => ?_)
    refine loop_0 (fun k i a => wX_buildEdge_10 post (wX_buildEdge_2 post (nI u) (nI v) n) (nI u) (nI v) (nI j) k (nI i) mV mI mC vC sC fO nV nC cW sT sK pM oC aK aC aO aX aY aZ aW aB aA aI aM aP aN aV a aR aL aT aG aS aU) (fun i a => qa_ED P a (qa_bd E u v (qa_kE P u v) (qa_D j i))) 5 a ha (fun k a ha => ?_) (fun k i a hi ha ih2 => ?_)
    · exact pk_le 5 5 (fun _ => nm_r (nI_1 j) (ih a (qa_ED_congr ha (fun x px y py _ h1 _ h2 => qa_bd_D (fun r s _ hs => qa_D_roll j r s hs) h1 h2)))) (fun h => absurd h (by omega))
    · refine pk_le 5 i (fun h => absurd h (by omega)) (fun _ => ?_)
      refine qx_pairCost (P := P) (by omega) hj (by omega) hi (hM u v hu hv) ?_
      have g : ∀ z : Nat, z = qa_kE P u v j i → wX_buildEdge_49 post (wX_buildEdge_2 post (nI u) (nI v) n) (wX_buildEdge_10 post (wX_buildEdge_2 post (nI u) (nI v) n) (nI u) (nI v) (nI j) k) (nI u) (nI v) (nI j) (nI i) (lN z) mV mI mC vC sC fO nV nC cW sT sK pM oC aK aC aO aX aY aZ aW aB aA aI aM aP aN aV a aR aL aT aG aS aU := by
        intro z hz
        subst hz
        unfold wX_buildEdge_49
        exact qx_addEdge h6 ha hu hj hv hi (fun a' ha' => nm_r (nI_1 i) (ih2 a' (qa_ED_congr ha' (fun x px y py _ _ _ _ => qa_bd_s E (by omega) _ j i x px y py))))
      have e : (nI (qa_pc P u j v i)).toInt64 * 15625 = lN (qa_pc P u j v i * 15625) := by
        rw [nI_l (by have := qa_pc_le hP.1 u j v i; omega)]
        exact lN_mul _ 15625
      rw [e]
      refine nm_e (qx_clash hP hu hj hv hi (qa_mk_b (hI u hu) hv h6) (qa_br (fun c => g _ ?_) (fun c => g _ ?_)))
      · unfold qa_kE; rw [c, if_neg (by decide)]
      · unfold qa_kE; rw [c, if_pos rfl]
end
theorem qa_E0_c (P : QA_P) (u p v q : Nat) : qa_E0 P u p v q = qa_E0 P v q u p := by
  unfold qa_E0
  by_cases e : u = v
  · rw [if_pos e, if_pos e.symm]
  · rw [if_neg e, if_neg (fun z : v = u => e z.symm), qa_cl_c, qa_pc_c]
/-- the edges among those ahead of v, and of v with those ahead of w -/
def qa_Ev (P : QA_P) (v w a pa b pb : Nat) : Nat := if (a < v ∧ b < v) ∨ (a = v ∧ b < w) ∨ (b = v ∧ a < w) then qa_E0 P a pa b pb else 0
theorem qa_Ev_s {P : QA_P} {v w : Nat} (hw : w < v) (a pa b pb : Nat) : qa_be (qa_Ev P v w) w v (qa_kE P w v) a pa b pb = qa_Ev P v (w + 1) a pa b pb := by
  unfold qa_be qa_Ev
  by_cases c1 : a = w ∧ b = v
  · obtain ⟨rfl, rfl⟩ := c1
    rw [if_neg (by omega), if_pos (⟨rfl, rfl⟩ : a = a ∧ b = b), if_neg (by omega), if_pos (by omega)]
    unfold qa_E0 qa_kE
    rw [if_neg (by omega : ¬ a = b), Nat.zero_add, Nat.add_zero]
  · rw [if_neg c1]
    by_cases c2 : a = v ∧ b = w
    · obtain ⟨rfl, rfl⟩ := c2
      rw [if_neg (by omega), if_pos (⟨rfl, rfl⟩ : a = a ∧ b = b), if_pos (by omega), qa_E0_c]
      unfold qa_E0 qa_kE
      rw [if_neg (by omega : ¬ b = a), Nat.zero_add]
    · rw [if_neg c2, Nat.add_zero, Nat.add_zero]
      by_cases c3 : (a < v ∧ b < v) ∨ (a = v ∧ b < w) ∨ (b = v ∧ a < w)
      · rw [if_pos c3, if_pos (by omega)]
      · rw [if_neg c3, if_neg (by omega)]
theorem qa_Ev_roll {P : QA_P} (v a pa b pb : Nat) : qa_Ev P v v a pa b pb = qa_Ev P (v + 1) 0 a pa b pb := by
  unfold qa_Ev
  by_cases e : a = b
  · have z : qa_E0 P a pa b pb = 0 := by unfold qa_E0; rw [if_pos e]
    rw [z]; split <;> split <;> rfl
  · by_cases c3 : (a < v ∧ b < v) ∨ (a = v ∧ b < v) ∨ (b = v ∧ a < v)
    · rw [if_pos c3, if_pos (by omega)]
    · rw [if_neg c3, if_neg (by omega)]
def qa_fillL (a : Nat → Int64) (w : Nat → Int64) (k : Nat) : Nat → Int64 := fun j => if j < k then w j else a j
theorem qa_upFL (W : Nat → Nat → (Nat → Int64) → Prop) (a w : Nat → Int64) (e : Nat) (hx : ∀ n, W (n + 1) e (qa_fillL a w e))
    (hs : ∀ n j, j < e → W n (j + 1) (vp_updL (qa_fillL a w j) j (w j)) → W (n + 1) j (qa_fillL a w j)) : ∃ n, W n 0 a := by
  have z : qa_fillL a w 0 = a := funext (fun j => if_neg (Nat.not_lt_zero j))
  have s : ∀ k, vp_updL (qa_fillL a w k) k (w k) = qa_fillL a w (k + 1) := by
    intro k
    funext j
    by_cases e : j = k
    · subst e; rw [pk_uLs]; exact (if_pos (by omega)).symm
    · rw [pk_uLn e]
      unfold qa_fillL
      by_cases c : j < k
      · rw [if_pos c, if_pos (by omega)]
      · rw [if_neg c, if_neg (by omega)]
  obtain ⟨n, h⟩ := qa_up (fun n j => W n j (qa_fillL a w j)) e hx (fun n j hj h => hs n j hj (by rw [s]; exact h))
  exact ⟨n, by (try dsimp only at h); rwa [z] at h⟩
section
variable {P : QA_P} {mV mI mC vC nV nC cW sT sK pM oC : Int32} {sC fO : Int64} {aK aC aO aX aY aZ aW aB aA aI aM aP aN aR aL aT aG aS aU : Nat → Int32} {aV aE : Nat → Int64}
theorem qx_buildProblem {post : SX → Prop} (hP : qa_PG P aK aC aO aX aY aZ aW) (hI : ∀ u, u < qa_v P → qa_mk (qa_v P) (aI u) (qa_I P u)) (hM : ∀ u v, u < qa_v P → v < qa_v P → aM (u * 6 + v) = nI (qa_mt P u v)) (hp : ∀ v p, v < qa_v P → p < 5 → aP (v * 5 + p) = nI (qa_pr P v p))
    (h : ∀ aV' aE', qa_VD P aV' (qa_V0 P) → qa_ED P aE' (qa_E0 P) → post (mV, mI, (nI (qa_m P)), (nI (qa_w P)), 15625, 1000000000000, (nI (qa_v P)), (nI (qa_c P)), cW, sT, sK, pM, oC, aK, aC, aO, aX, aY, aZ, aW, aB, aA, aI, aM, aP, aN, aV', aE', aR, aL, aT, aG, aS, aU)) : wpX_buildProblem post (mV, mI, (nI (qa_m P)), (nI (qa_w P)), 15625, 1000000000000, (nI (qa_v P)), (nI (qa_c P)), cW, sT, sK, pM, oC, aK, aC, aO, aX, aY, aZ, aW, aB, aA, aI, aM, aP, aN, aV, aE, aR, aL, aT, aG, aS, aU) := by
  have h6 := qa_v6 hP.1
  unfold wpX_buildProblem
  refine qa_upFL (fun n j a => wX_buildProblem_2 post mV mI (nI (qa_m P)) (nI (qa_w P)) 15625 1000000000000 (nI (qa_v P)) (nI (qa_c P)) cW sT sK pM oC n (nI j) aK aC aO aX aY aZ aW aB aA aI aM aP aN aV a aR aL aT aG aS aU) aE (fun _ => 0) 900 (fun n => ?_) (fun n j hj ih => ?_)
  · refine pk_le 900 900 (fun _ => ?_) (fun h => absurd h (by omega))
    refine loop_0 (fun n j (s : (Nat → Int64) × (Nat → Int64)) => wX_buildProblem_26 post n (lN (5 ^ j)) (nI j) mV mI (nI (qa_m P)) (nI (qa_w P)) 15625 1000000000000 (nI (qa_v P)) (nI (qa_c P)) cW sT sK pM oC aK aC aO aX aY aZ aW aB aA aI aM aP aN s.1 s.2 aR aL aT aG aS aU)
      (fun v s => (∀ u p, u < v → p < 5 → s.1 (u * 5 + p) = lN (qa_V0 P u p)) ∧ qa_ED P s.2 (qa_Ev P v 0)) (qa_v P) (aV, qa_fillL aE (fun _ => 0) 900) ?_ (fun n s hs => ?_) (fun n v s hv hs ih => ?_)
    · refine ⟨fun u p hu => absurd hu (by omega), fun u p v q hu hp' hv hq => ?_⟩
      have l1 := qa_ix_lt (by omega : u < 6) hp' (by omega : v < 6) hq
      unfold qa_Ev
      rw [if_neg (by omega)]
      exact if_pos l1
    · refine pk_le (qa_v P) (qa_v P) (fun _ => h _ _ (fun u p hu hp' => hs.1 u p hu hp') (qa_ED_congr hs.2 (fun a pa b pb ha _ hb _ => if_pos (by omega)))) (fun h => absurd h (by omega))
    · refine pk_le (qa_v P) v (fun h => absurd h (by omega)) (fun _ => ?_)
      refine loop_0 (fun k p a => wX_buildProblem_37 post (wX_buildProblem_26 post n) (lN (5 ^ v)) (nI v) mV mI (nI (qa_m P)) (nI (qa_w P)) 15625 1000000000000 (nI (qa_v P)) (nI (qa_c P)) cW sT sK pM oC k (nI p) aK aC aO aX aY aZ aW aB aA aI aM aP aN a s.2 aR aL aT aG aS aU)
        (fun p a => (∀ u q, u < v → q < 5 → a (u * 5 + q) = lN (qa_V0 P u q)) ∧ ∀ q, q < p → a (v * 5 + q) = lN (qa_V0 P v q)) 5 s.1 ⟨hs.1, fun q hq => absurd hq (by omega)⟩ (fun k a ha => ?_) (fun k p a hp' ha ih2 => ?_)
      · refine pk_le 5 5 (fun _ => ?_) (fun h => absurd h (by omega))
        refine loop_0 (fun k u b => wX_buildProblem_110 post (wX_buildProblem_26 post n) (lN (5 ^ v)) (nI v) k (nI u) mV mI (nI (qa_m P)) (nI (qa_w P)) 15625 1000000000000 (nI (qa_v P)) (nI (qa_c P)) cW sT sK pM oC aK aC aO aX aY aZ aW aB aA aI aM aP aN a b aR aL aT aG aS aU) (fun u b => qa_ED P b (qa_Ev P v u)) v s.2 hs.2 (fun k b hb => ?_) (fun k u b hu hb ih3 => ?_)
        · refine pk_le v v (fun _ => nm_r (e' := lN (5 ^ (v + 1))) ?_ (nm_r (nI_1 v) (ih (a, b) ⟨fun u q hu hq => ?_, qa_ED_congr hb (fun x px y py _ _ _ _ => qa_Ev_roll v x px y py)⟩))) (fun h => absurd h (by omega))
          · exact lN_mul _ 5
          · by_cases c : u = v
            · subst c; exact ha.2 q hq
            · exact ha.1 u q (by omega) hq
        · refine pk_le v u (fun h => absurd h (by omega)) (fun _ => ?_)
          exact qx_buildEdge hP hb hI hM hu hv (fun b' hb' => nm_r (nI_1 u) (ih3 b' (qa_ED_congr hb' (fun x px y py _ _ _ _ => qa_Ev_s hu x px y py))))
      · have hk := qa_gK hP hv
        have ep : (aP (v * 5 + p)).toInt64 * 15625 + (nI p).toInt64 * lN (5 ^ v) = lN (qa_pr P v p * 15625 + p * 5 ^ v) := by
          rw [hp v p hv hp', nI_l (by have := qa_pr_le hP.1 hv hp'; omega), nI_l (by omega), lN_mul, show lN (qa_pr P v p) * 15625 = lN (qa_pr P v p * 15625) from lN_mul _ 15625, lN_add]
        have st : ∀ x, x = lN (qa_V0 P v p) → (∀ u q, u < v → q < 5 → vp_updL a (v * 5 + p) x (u * 5 + q) = lN (qa_V0 P u q)) ∧ ∀ q, q < p + 1 → vp_updL a (v * 5 + p) x (v * 5 + q) = lN (qa_V0 P v q) := by
          intro x hx
          refine ⟨fun u q hu hq => ?_, fun q hq => ?_⟩
          · rw [pk_uLn (by omega)]; exact ha.1 u q hu hq
          · by_cases c : q = p
            · subst c; rw [pk_uLs]; exact hx
            · rw [pk_uLn (by omega)]; exact ha.2 q (by omega)
        refine pk_le 5 p (fun h => absurd h (by omega)) (fun _ => ?_)
        rw [qa_i5]
        refine ⟨qa_in (by omega), ?_⟩
        rw [nI_clamp (n := v * 5 + p) (by omega), ep]
        refine nm_e ⟨pk_in v 6 (by omega), ?_⟩
        rw [nI_clamp (n := v) (by omega), hk.1]
        refine qx_isPlace hk.2 (by omega) (qa_br (fun e => ⟨qa_in (by omega), nm_e (nm_r (nI_1 p) (ih2 _ (st _ ?_)))⟩) (fun e => ⟨qa_in (by omega), nm_e (nm_r (nI_1 p) (ih2 _ (st _ ?_)))⟩))
        · unfold qa_V0 qa_fit; rw [e, if_neg (by decide)]; rfl
        · unfold qa_V0 qa_fit; rw [e, if_pos rfl]
  · exact pk_le 900 j (fun h => absurd h (by omega)) (fun _ => ⟨pk_in j 900 hj, nm_r (by rw [nI_clamp (by omega)]) (nm_r (nI_1 j) ih)⟩)
end
end
section
/-! ===== X: counting, picking, pinning ===== -/
theorem qa_dw (W : Nat → Nat → Prop) (e : Nat) (hx : ∀ n, W (n + 1) 0) (hs : ∀ n i, i < e → W n i → W (n + 1) (i + 1)) : W (e + 1) e := by
  have : ∀ d, d ≤ e → W (d + 1) d := by
    intro d
    induction d with
    | zero => exact fun _ => hx 0
    | succ d ih => exact fun h => hs (d + 1) d (by omega) (ih (by omega))
  exact this e (Nat.le_refl _)
theorem qa_deg_le (P : QA_P) (S : QA_S) (v : Nat) : qa_deg P S v ≤ qa_v P := by
  have : qa_deg P S v ≤ qa_v P * 1 := qa_sum_bd (fun i _ => by cases qa_ln S v i <;> decide)
  omega
theorem qa_sh_r {P : QA_P} {u p v q r : Nat} (h1 : qa_occ P u p r = true) (h2 : qa_occ P v q r = true) : qa_sh P u p v q = true := by
  have z1 := of_decide_eq_true h1
  have z2 := of_decide_eq_true h2
  refine qa_any_iff.mpr ?_
  by_cases c : r < 4
  · exact ⟨r, c, by rw [Bool.and_eq_true]; exact ⟨h1, h2⟩⟩
  · exact ⟨3, by omega, by rw [Bool.and_eq_true]; exact ⟨decide_eq_true (by omega), decide_eq_true (by omega)⟩⟩
theorem qa_open {P : QA_P} {S : QA_S} {v p : Nat} {m t : Int32} (hm : ∀ r, r < 32 → bt m r = qa_occ P v p r)
    (ht : ∀ r, r < 32 → bt t r = qa_any (fun u => (decide (qa_pn S u < 5) && qa_I P v u) && qa_occ P u (qa_pn S u) r) (qa_v P)) : (m &&& t) = 0 ↔ qa_all (fun u => !qa_riv P S v p u) (qa_v P) = true := by
  rw [qa_z0, qa_all_iff]
  constructor
  · intro h u hu
    rw [Bool.not_eq_true']
    refine qa_tf (fun z => ?_)
    unfold qa_riv qa_cl at z
    rw [Bool.and_eq_true, Bool.and_eq_true] at z
    obtain ⟨r, hr, e⟩ := qa_any_iff.mp z.2.2
    rw [Bool.and_eq_true] at e
    have := h r (by omega)
    rw [b_and, hm r (by omega), ht r (by omega), e.1, Bool.true_and] at this
    rw [qa_any_iff.mpr ⟨u, hu, by rw [z.1, z.2.1, e.2]; rfl⟩] at this
    exact Bool.noConfusion this
  · intro h r hr
    rw [b_and, hm r hr, ht r hr]
    refine qa_tf (fun z => ?_)
    rw [Bool.and_eq_true] at z
    obtain ⟨u, hu, e⟩ := qa_any_iff.mp z.2
    rw [Bool.and_eq_true, Bool.and_eq_true] at e
    have := h u hu
    unfold qa_riv qa_cl at this
    rw [e.1.1, e.1.2, qa_sh_r z.1 e.2] at this
    exact Bool.noConfusion this
section
variable {P : QA_P} {mV mI mC vC nV nC cW sT sK pM oC : Int32} {sC fO : Int64} {aK aC aO aX aY aZ aW aB aA aI aM aP aN aR aL aT aG aS aU : Nat → Int32} {aV aE : Nat → Int64}
theorem qx_bits {post : Int32 → Prop} {n : Nat} {m : Int32} {f : Nat → Bool} (h6 : n ≤ 6) (hm : qa_mk n m f) (h : post (nI (qa_sum (fun u => (f u).toNat) n))) : wpX_bits post (mV, mI, mC, vC, sC, fO, nV, nC, cW, sT, sK, pM, oC, aK, aC, aO, aX, aY, aZ, aW, aB, aA, aI, aM, aP, aN, aV, aE, aR, aL, aT, aG, aS, aU) m := by
  unfold wpX_bits
  refine qa_up (fun k j => wX_bits_4 post m mV mI mC vC sC fO nV nC cW sT sK pM oC aK aC aO aX aY aZ aW aB aA aI aM aP aN aV aE aR aL aT aG aS aU k (nI (qa_sum (fun u => (bt m u).toNat) j)) (nI j)) 6 (fun k => ?_) (fun k j hj ih => ?_)
  · refine pk_le 6 6 (fun _ => ?_) (fun h => absurd h (by omega))
    have e : qa_sum (fun u => (bt m u).toNat) 6 = qa_sum (fun u => (f u).toNat) n := by
      rw [← qa_cnt_ext f h6]
      exact qa_sum_congr (fun u hu => by rw [hm u (by omega)])
    rw [e]
    exact h
  · refine pk_le 6 j (fun h => absurd h (by omega)) (fun _ => ?_)
    rw [qa_bit m (by omega), qa_bn, nI_add]
    exact nm_e (nm_r (nI_1 j) ih)
theorem qx_simplest {post : Int32 → Prop} {S : QA_S} {x1 : Int32} (h6 : qa_v P ≤ 6) (hL : qa_mk (qa_v P) x1 (qa_L S)) (hN : ∀ v, v < qa_v P → qa_mk (qa_v P) (aN v) (qa_N S v))
    (h : post (if qa_smp P S < qa_v P then nI (qa_smp P S) else -1)) : wpX_simplest post (mV, mI, mC, vC, sC, fO, (nI (qa_v P)), nC, cW, sT, sK, pM, oC, aK, aC, aO, aX, aY, aZ, aW, aB, aA, aI, aM, aP, aN, aV, aE, aR, aL, aT, aG, aS, aU) x1 := by
  unfold wpX_simplest
  refine loop_0 (fun n j (_ : Unit) => wX_simplest_2 post x1 mV mI mC vC sC fO (nI (qa_v P)) nC cW sT sK pM oC aK aC aO aX aY aZ aW aB aA aI aM aP aN aV aE aR aL aT aG aS aU n (nI j)) (fun j _ => ∀ i, i < j → qa_sf P S i = false) (qa_v P) () (fun i hi => absurd hi (by omega)) (fun n _ hs => ?_) (fun n j _ hj hs ih => ?_)
  · refine pk_le (qa_v P) (qa_v P) (fun _ => ?_) (fun h => absurd h (by omega))
    have : qa_smp P S = qa_v P := qa_find_n hs
    rwa [if_neg (by omega)] at h
  · refine pk_le (qa_v P) j (fun h => absurd h (by omega)) (fun _ => qx_has (by omega) ?_)
    have nx : qa_sf P S j = false → ∀ i, i < j + 1 → qa_sf P S i = false := by
      intro e i hi
      by_cases c : i = j
      · subst c; exact e
      · exact hs i (by omega)
    rw [qa_mk_b hL hj h6]
    refine qa_br (fun e => nm_r (nI_1 j) (ih () (nx (by unfold qa_sf; rw [e]; rfl)))) (fun e => ⟨pk_in j 6 (by omega), ?_⟩)
    rw [nI_clamp (by omega)]
    refine qx_bits h6 (qa_mk_and (hN j hj) hL) ?_
    have ed : qa_sum (fun u => (qa_N S j u && qa_L S u).toNat) (qa_v P) = qa_deg P S j := qa_sum_congr (fun u _ => by unfold qa_ln; rw [Bool.and_comm])
    have := qa_deg_le P S j
    rw [ed]
    refine pk_lt 2 (qa_deg P S j) (fun d => nm_r (nI_1 j) (ih () (nx ?_))) (fun d => ?_)
    · unfold qa_sf
      rw [decide_eq_false (by omega), Bool.and_false]
    · have : qa_smp P S = j := qa_find_eq hj (by unfold qa_sf; rw [e, decide_eq_true d]; rfl) hs
      rwa [if_pos (by omega), this] at h
theorem qx_densest {post : Int32 → Prop} {S : QA_S} {x1 : Int32} (h6 : qa_v P ≤ 6) (hL : qa_mk (qa_v P) x1 (qa_L S)) (hN : ∀ v, v < qa_v P → qa_mk (qa_v P) (aN v) (qa_N S v)) (h9 : qa_dn P S (qa_v P) ≠ 9)
    (h : post (nI (qa_dn P S (qa_v P)))) : wpX_densest post (mV, mI, mC, vC, sC, fO, (nI (qa_v P)), nC, cW, sT, sK, pM, oC, aK, aC, aO, aX, aY, aZ, aW, aB, aA, aI, aM, aP, aN, aV, aE, aR, aL, aT, aG, aS, aU) x1 := by
  unfold wpX_densest
  refine qa_up (fun n j => wX_densest_7 post x1 mV mI mC vC sC fO (nI (qa_v P)) nC cW sT sK pM oC aK aC aO aX aY aZ aW aB aA aI aM aP aN aV aE aR aL aT aG aS aU n (if qa_dn P S j = 9 then 0 else nI (qa_dn P S j)) (if qa_dn P S j = 9 then -1 else nI (qa_deg P S (qa_dn P S j))) (nI j)) (qa_v P) (fun n => ?_) (fun n j hj ih => ?_)
  · refine pk_le (qa_v P) (qa_v P) (fun _ => ?_) (fun h => absurd h (by omega))
    rw [if_neg h9]
    exact h
  · refine pk_le (qa_v P) j (fun h => absurd h (by omega)) (fun _ => ⟨pk_in j 6 (by omega), ?_⟩)
    rw [nI_clamp (by omega)]
    refine qx_bits h6 (qa_mk_and (hN j hj) hL) ?_
    have ed : qa_sum (fun u => (qa_N S j u && qa_L S u).toNat) (qa_v P) = qa_deg P S j := qa_sum_congr (fun u _ => by unfold qa_ln; rw [Bool.and_comm])
    have d6 := qa_deg_le P S j
    rw [ed]
    refine qx_has (by omega) ?_
    rw [qa_mk_b hL hj h6]
    have es : qa_dn P S (j + 1) = if qa_L S j = true then (if qa_dn P S j = 9 then j else if qa_deg P S (qa_dn P S j) < qa_deg P S j then j else qa_dn P S j) else qa_dn P S j := rfl
    refine qa_br (fun e => ?_) (fun e => ?_)
    · rw [e, if_neg (by decide)] at es
      rw [es] at ih
      exact nm_r (nI_1 j) ih
    · rw [e, if_pos rfl] at es
      by_cases c : qa_dn P S j = 9
      · rw [if_pos c] at es
        rw [es, if_neg (by omega), if_neg (by omega)] at ih
        rw [if_pos c, if_pos c]
        refine br_f (fun z => ?_) (nm_r (nI_1 j) ih)
        have := nI_pos (n := qa_deg P S j) (by omega)
        exact this (Int32.lt_of_le_of_lt z (by decide))
      · have k := qa_dn_sp P S j (by omega)
        have d7 := qa_deg_le P S (qa_dn P S j)
        rw [if_neg c] at es
        rw [if_neg c, if_neg c]
        refine pk_le (qa_deg P S j) (qa_deg P S (qa_dn P S j)) (fun d => ?_) (fun d => ?_)
        · rw [if_neg (by omega)] at es
          rw [es, if_neg c, if_neg c] at ih
          exact nm_r (nI_1 j) ih
        · rw [if_pos d] at es
          rw [es, if_neg (by omega), if_neg (by omega)] at ih
          exact nm_r (nI_1 j) ih
theorem qx_pinPlace {post : Int32 → Prop} {S : QA_S} (hP : qa_PG P aK aC aO aX aY aZ aW) (hI : ∀ u, u < qa_v P → qa_mk (qa_v P) (aI u) (qa_I P u)) (hp : ∀ v p, v < qa_v P → p < 5 → aP (v * 5 + p) = nI (qa_pr P v p))
    (hM : qa_mk (qa_v P) pM (fun u => decide (qa_pn S u < 5))) (hl : ∀ u, u < qa_v P → qa_pn S u < 5 → aL u = nI (qa_pn S u)) {v : Nat} (hv : v < qa_v P) (h : post (nI (qa_pp P S v 4))) : wpX_pinPlace post (mV, mI, (nI (qa_m P)), (nI (qa_w P)), 15625, 1000000000000, (nI (qa_v P)), (nI (qa_c P)), cW, sT, sK, pM, oC, aK, aC, aO, aX, aY, aZ, aW, aB, aA, aI, aM, aP, aN, aV, aE, aR, aL, aT, aG, aS, aU) (nI v) := by
  have h6 := qa_v6 hP.1
  have hk := qa_gK hP hv
  unfold wpX_pinPlace
  refine ⟨pk_in v 6 (by omega), ?_⟩
  rw [nI_clamp (by omega)]
  refine nm_e ?_
  have hr := qa_mk_and hM (hI v hv)
  refine loop_0 (fun n j t => wX_pinPlace_17 post (nI v) (pM &&& aI v) mV mI (nI (qa_m P)) (nI (qa_w P)) 15625 1000000000000 (nI (qa_v P)) (nI (qa_c P)) cW sT sK pM oC aK aC aO aX aY aZ aW aB aA aI aM aP aN aV aE aR aL aT aG aS aU n t (nI j)) (fun j t => ∀ r, r < 32 → bt t r = qa_any (fun u => (decide (qa_pn S u < 5) && qa_I P v u) && qa_occ P u (qa_pn S u) r) j) (qa_v P) 0 (fun r _ => b_0 r) (fun n t ht => ?_) (fun n j t hj ht ih => ?_)
  · refine pk_le (qa_v P) (qa_v P) (fun _ => ⟨5, ?_⟩) (fun h => absurd h (by omega))
    refine qa_dw (fun n e => wX_pinPlace_64 post (nI v) t mV mI (nI (qa_m P)) (nI (qa_w P)) 15625 1000000000000 (nI (qa_v P)) (nI (qa_c P)) cW sT sK pM oC aK aC aO aX aY aZ aW aB aA aI aM aP aN aV aE aR aL aT aG aS aU n (nI (qa_pp P S v (4 - e))) (nI e - 1)) 4 (fun n => br_t (by decide) h) (fun n i hi ih => ?_)
    try dsimp only at ih ⊢
    rw [nI_pred]
    have q1 : qa_pp P S v (4 - (i + 1)) < 5 := by rcases qa_pp_sp P S v (4 - (i + 1)) with e | e <;> omega
    have es : qa_pp P S v (4 - i) = if (qa_op P S v i && decide (qa_pr P v i ≤ qa_pr P v (qa_pp P S v (4 - (i + 1))))) = true then i else qa_pp P S v (4 - (i + 1)) := by
      rw [show 4 - i = (4 - (i + 1)) + 1 by omega]
      have : 3 - (4 - (i + 1)) = i := by omega
      show (if (qa_op P S v (3 - (4 - (i + 1))) && _) = true then 3 - (4 - (i + 1)) else _) = _
      rw [this]
    rw [es] at ih
    have em : nI i + (-1) = nI i - 1 := (Int32.sub_eq_add_neg (nI i) 1).symm
    have z0 : qa_op P S v i = false → wX_pinPlace_100 post (wX_pinPlace_64 post (nI v) t mV mI (nI (qa_m P)) (nI (qa_w P)) 15625 1000000000000 (nI (qa_v P)) (nI (qa_c P)) cW sT sK pM oC aK aC aO aX aY aZ aW aB aA aI aM aP aN aV aE aR aL aT aG aS aU n) (nI v) t (nI (qa_pp P S v (4 - (i + 1)))) (nI i) mV mI (nI (qa_m P)) (nI (qa_w P)) 15625 1000000000000 (nI (qa_v P)) (nI (qa_c P)) cW sT sK pM oC aK aC aO aX aY aZ aW aB aA aI aM aP aN aV aE aR aL aT aG aS aU := by
      intro e
      unfold wX_pinPlace_100 wX_pinPlace_101
      rw [e, Bool.false_and, if_neg (by decide)] at ih
      exact br_t rfl (nm_r em ih)
    have z1 : qa_op P S v i = true → wX_pinPlace_101 post (wX_pinPlace_64 post (nI v) t mV mI (nI (qa_m P)) (nI (qa_w P)) 15625 1000000000000 (nI (qa_v P)) (nI (qa_c P)) cW sT sK pM oC aK aC aO aX aY aZ aW aB aA aI aM aP aN aV aE aR aL aT aG aS aU n) (nI v) t (nI (qa_pp P S v (4 - (i + 1)))) (nI i) 1 mV mI (nI (qa_m P)) (nI (qa_w P)) 15625 1000000000000 (nI (qa_v P)) (nI (qa_c P)) cW sT sK pM oC aK aC aO aX aY aZ aW aB aA aI aM aP aN aV aE aR aL aT aG aS aU := by
      intro e
      unfold wX_pinPlace_101
      rw [qa_i5, qa_i5]
      refine br_f (by decide) ⟨qa_in (by omega), qa_in (by omega), ?_⟩
      rw [nI_clamp (n := v * 5 + i) (by omega), nI_clamp (n := v * 5 + qa_pp P S v (4 - (i + 1))) (by omega), hp v i hv (by omega), hp v _ hv q1]
      have b1 := qa_pr_le hP.1 hv (by omega : i < 5)
      have b2 := qa_pr_le hP.1 hv q1
      rw [e, Bool.true_and] at ih
      refine pk_lt (qa_pr P v (qa_pp P S v (4 - (i + 1)))) (qa_pr P v i) (fun d => ?_) (fun d => ?_)
      · rw [if_neg (by rw [decide_eq_true_eq]; omega)] at ih; exact nm_r em ih
      · rw [if_pos (decide_eq_true d)] at ih; exact nm_r em ih
    refine br_f (nI_pos (by omega)) ⟨pk_in v 6 (by omega), ?_⟩
    rw [nI_clamp (n := v) (by omega), hk.1]
    refine qx_isPlace hk.2 (by omega) (qa_br (fun e => z0 ?_) (fun e => ?_))
    · unfold qa_op qa_fit; rw [e]; rfl
    · refine qx_occ hP hv (by omega) (fun m hm => ?_)
      refine br_c (fun c => z1 ?_) (fun c => z0 ?_)
      · rw [qa_open hm ht] at c
        unfold qa_op qa_fit; rw [e, c]; rfl
      · rw [qa_open hm ht] at c
        unfold qa_op; rw [qa_tf c, Bool.and_false]
  · refine pk_le (qa_v P) j (fun h => absurd h (by omega)) (fun _ => qx_has (by omega) ?_)
    rw [qa_mk_b hr hj h6]
    refine qa_br (fun e => nm_r (nI_1 j) (ih t (fun r hr => ?_))) (fun e => ⟨pk_in j 6 (by omega), ?_⟩)
    · rw [ht r hr, qa_any_s, e, Bool.false_and, Bool.or_false]
    · have h5 : qa_pn S j < 5 := by
        rw [Bool.and_eq_true, decide_eq_true_eq] at e; exact e.1
      rw [nI_clamp (by omega), hl j hj h5]
      refine qx_occ hP hj h5 (fun m hm => nm_e (nm_r (nI_1 j) (ih _ (fun r hr => ?_))))
      rw [b_or, ht r hr, hm r hr, qa_any_s, e, Bool.true_and]
def qa_pv2 (P : QA_P) (S : QA_S) (v w k a p : Nat) : Nat := qa_V S a p + (if qa_ar S v a = true ∧ (a < w ∨ (a = w ∧ p < k)) then qa_E S v (qa_pp P S v 4) a p else 0)
theorem qx_pin {post : SX → Prop} {S : QA_S} (hP : qa_PG P aK aC aO aX aY aZ aW) (hI : ∀ u, u < qa_v P → qa_mk (qa_v P) (aI u) (qa_I P u)) (hp : ∀ v p, v < qa_v P → p < 5 → aP (v * 5 + p) = nI (qa_pr P v p))
    (hM : qa_mk (qa_v P) pM (fun u => decide (qa_pn S u < 5))) (hl : ∀ u, u < qa_v P → qa_pn S u < 5 → aL u = nI (qa_pn S u)) (hV : qa_VD P aV (qa_V S)) (hE : qa_ED P aE (qa_E S)) {v : Nat} (hv : v < qa_v P) {m : Int32} (hm : qa_mk (qa_v P) m (qa_ar S v))
    (h : ∀ aV', qa_VD P aV' (qa_pV P S v) → post (mV, mI, (nI (qa_m P)), (nI (qa_w P)), 15625, 1000000000000, (nI (qa_v P)), (nI (qa_c P)), cW, sT, sK, (pM ||| ((1 : Int32) <<< (nI v &&& 31))), oC, aK, aC, aO, aX, aY, aZ, aW, aB, aA, aI, aM, aP, aN, aV', aE, aR, (upd aL v (nI (qa_pp P S v 4))), aT, aG, aS, aU)) : wpX_pin post (mV, mI, (nI (qa_m P)), (nI (qa_w P)), 15625, 1000000000000, (nI (qa_v P)), (nI (qa_c P)), cW, sT, sK, pM, oC, aK, aC, aO, aX, aY, aZ, aW, aB, aA, aI, aM, aP, aN, aV, aE, aR, aL, aT, aG, aS, aU) (nI v) m := by
  have h6 := qa_v6 hP.1
  have h5 := (qa_pp_fit P S v).1
  unfold wpX_pin
  refine qx_pinPlace hP hI hp hM hl hv ⟨pk_in v 6 (by omega), ?_⟩
  rw [nI_clamp (by omega)]
  refine nm_e (nm_e ?_)
  refine loop_0 (fun n j a => wX_pin_28 post (nI v) m (nI (qa_pp P S v 4)) mV mI (nI (qa_m P)) (nI (qa_w P)) 15625 1000000000000 (nI (qa_v P)) (nI (qa_c P)) cW sT sK (pM ||| ((1 : Int32) <<< (nI v &&& 31))) oC n (nI j) aK aC aO aX aY aZ aW aB aA aI aM aP aN a aE aR (upd aL v (nI (qa_pp P S v 4))) aT aG aS aU) (fun w a => qa_VD P a (qa_pv2 P S v w 0)) (qa_v P) aV ?_ (fun n a ha => ?_) (fun n w a hw ha ih => ?_)
  · exact qa_VD_congr hV (fun x p _ _ => by unfold qa_pv2; rw [if_neg (by omega)]; rfl)
  · refine pk_le (qa_v P) (qa_v P) (fun _ => h a (qa_VD_congr ha (fun x p hx _ => ?_))) (fun h => absurd h (by omega))
    unfold qa_pv2 qa_pV
    by_cases c : qa_ar S v x = true
    · rw [if_pos ⟨c, Or.inl hx⟩, if_pos c]
    · rw [if_neg (fun z => c z.1), if_neg c]
  · refine pk_le (qa_v P) w (fun h => absurd h (by omega)) (fun _ => qx_has (by omega) ?_)
    rw [qa_mk_b hm hw h6]
    refine qa_br (fun e => nm_r (nI_1 w) (ih a (qa_VD_congr ha (fun x p _ _ => ?_)))) (fun e => ?_)
    · unfold qa_pv2
      by_cases c : qa_ar S v x = true
      · have : x ≠ w := fun z => by rw [z, e] at c; exact Bool.noConfusion c
        by_cases d : x < w
        · rw [if_pos ⟨c, Or.inl d⟩, if_pos ⟨c, Or.inl (by omega)⟩]
        · rw [if_neg (by omega), if_neg (by omega)]
      · rw [if_neg (fun z => c z.1), if_neg (fun z => c z.1)]
    · refine loop_0 (fun k p b => wX_pin_53 post (wX_pin_28 post (nI v) m (nI (qa_pp P S v 4)) mV mI (nI (qa_m P)) (nI (qa_w P)) 15625 1000000000000 (nI (qa_v P)) (nI (qa_c P)) cW sT sK (pM ||| ((1 : Int32) <<< (nI v &&& 31))) oC n) (nI v) m (nI (qa_pp P S v 4)) (nI w) mV mI (nI (qa_m P)) (nI (qa_w P)) 15625 1000000000000 (nI (qa_v P)) (nI (qa_c P)) cW sT sK (pM ||| ((1 : Int32) <<< (nI v &&& 31))) oC k (nI p) aK aC aO aX aY aZ aW aB aA aI aM aP aN b aE aR (upd aL v (nI (qa_pp P S v 4))) aT aG aS aU) (fun k b => qa_VD P b (qa_pv2 P S v w k)) 5 a ha (fun k b hb => ?_) (fun k p b hp5 hb ih2 => ?_)
      · refine pk_le 5 5 (fun _ => nm_r (nI_1 w) (ih b (qa_VD_congr hb (fun x p _ hp5 => ?_)))) (fun h => absurd h (by omega))
        unfold qa_pv2
        by_cases c : qa_ar S v x = true ∧ (x < w ∨ (x = w ∧ p < 5))
        · rw [if_pos c, if_pos ⟨c.1, by omega⟩]
        · rw [if_neg c, if_neg (fun z => c ⟨z.1, by omega⟩)]
      · refine pk_le 5 p (fun h => absurd h (by omega)) (fun _ => ?_)
        have l1 := qa_ix_lt (by omega : v < 6) h5 (by omega : w < 6) hp5
        rw [qa_i5]
        refine ⟨qa_in (by omega), qx_edge ⟨qa_in l1, qa_in (by omega), ?_⟩⟩
        rw [nI_clamp (n := w * 5 + p) (by omega), nI_clamp (n := qa_ix v (qa_pp P S v 4) w p) (by omega), hb w p hw hp5, hE v _ w p hv h5 hw hp5, lN_add]
        refine nm_e (nm_r (nI_1 p) (ih2 _ (fun x r hx hr => ?_)))
        by_cases c : x = w ∧ r = p
        · obtain ⟨rfl, rfl⟩ := c
          rw [pk_uLs]
          unfold qa_pv2
          rw [if_neg (by omega), if_pos ⟨e, by omega⟩, Nat.add_zero]
        · rw [pk_uLn (by omega), hb x r hx hr]
          unfold qa_pv2
          by_cases d : qa_ar S v x = true ∧ (x < w ∨ (x = w ∧ r < p))
          · rw [if_pos d, if_pos ⟨d.1, by omega⟩]
          · rw [if_neg d, if_neg (fun z => d ⟨z.1, by omega⟩)]
end
end
section
/-! ===== X: keys, the best place, folding ===== -/
theorem qa_key_congr {P : QA_P} {V V' : Nat → Nat → Nat} {E E' : Nat → Nat → Nat → Nat → Nat} {m m' : Nat → Bool} {b b' : Nat → Nat} {v p : Nat} (hV : V v p = V' v p) (hm : ∀ u, u < qa_v P → m u = m' u) (hE : ∀ u, u < qa_v P → m u = true → E v p u (b u) = E' v p u (b' u)) : qa_key P V E m b v p = qa_key P V' E' m' b' v p := by
  unfold qa_key
  rw [hV]
  congr 1
  refine qa_sum_congr (fun u hu => ?_)
  try dsimp only
  rw [← hm u hu]
  by_cases c : m u = true
  · rw [if_pos c, if_pos c, hE u hu c]
  · rw [if_neg c, if_neg c]
theorem qa_key_le {P : QA_P} {V : Nat → Nat → Nat} {E : Nat → Nat → Nat → Nat → Nat} {m : Nat → Bool} {b : Nat → Nat} {v p B : Nat} (h6 : qa_v P ≤ 6) (hV : V v p ≤ B) (hE : ∀ u, u < qa_v P → m u = true → E v p u (b u) ≤ B) : qa_key P V E m b v p ≤ 7 * B := by
  have : qa_sum (fun u => if m u = true then E v p u (b u) else 0) (qa_v P) ≤ qa_v P * B := qa_sum_bd (fun u hu => by
    by_cases c : m u = true
    · rw [if_pos c]; exact hE u hu c
    · rw [if_neg c]; exact Nat.zero_le _)
  have h2 : qa_v P * B ≤ 6 * B := Nat.mul_le_mul_right _ h6
  unfold qa_key
  omega
section
variable {P : QA_P} {mV mI mC vC nV nC cW sT sK pM oC : Int32} {sC fO : Int64} {aK aC aO aX aY aZ aW aB aA aI aM aP aN aR aL aT aG aS aU : Nat → Int32} {aV aE : Nat → Int64}
theorem qx_lowest {post : Int32 → Prop} {n : Nat} {m : Int32} {f : Nat → Bool} (h6 : n ≤ 6) (hm : qa_mk n m f) (hf : qa_find f n < n) (h : post (nI (qa_find f n))) : wpX_lowest post (mV, mI, mC, vC, sC, fO, nV, nC, cW, sT, sK, pM, oC, aK, aC, aO, aX, aY, aZ, aW, aB, aA, aI, aM, aP, aN, aV, aE, aR, aL, aT, aG, aS, aU) m := by
  unfold wpX_lowest
  refine loop_0 (fun k j (_ : Unit) => wX_lowest_2 post m mV mI mC vC sC fO nV nC cW sT sK pM oC aK aC aO aX aY aZ aW aB aA aI aM aP aN aV aE aR aL aT aG aS aU k (nI j)) (fun j _ => ∀ i, i < j → i < n → f i = false) 6 () (fun i hi => absurd hi (by omega)) (fun k _ hs => ?_) (fun k j _ hj hs ih => ?_)
  · have := hs _ (by omega) hf
    rw [qa_find_t hf] at this
    exact Bool.noConfusion this
  · refine pk_le 6 j (fun h => absurd h (by omega)) (fun _ => qx_has (by omega) ?_)
    refine qa_br (fun e => nm_r (nI_1 j) (ih () (fun i hi hn => ?_))) (fun e => ?_)
    · by_cases c : i = j
      · subst c
        rwa [qa_mk_b hm hn h6] at e
      · exact hs i (by omega) hn
    · rw [hm j (by omega), Bool.and_eq_true, decide_eq_true_eq] at e
      have : qa_find f n = j := qa_find_eq e.1 e.2 (fun i hi => hs i hi (by omega))
      rwa [this] at h
theorem qx_keyAt {post : Int64 → Prop} {V : Nat → Nat → Nat} {E : Nat → Nat → Nat → Nat → Nat} {f : Nat → Bool} {b : Nat → Nat} {m : Int32} (h6 : qa_v P ≤ 6) (hV : qa_VD P aV V) (hE : qa_ED P aE E) (hm : ∀ u, u < qa_v P → bt m u = f u)
    (hb : ∀ u, u < qa_v P → f u = true → aL u = nI (b u) ∧ b u < 5) {v p : Nat} (hv : v < qa_v P) (hp : p < 5) (h : post (lN (qa_key P V E f b v p))) : wpX_keyAt post (mV, mI, mC, vC, sC, fO, (nI (qa_v P)), nC, cW, sT, sK, pM, oC, aK, aC, aO, aX, aY, aZ, aW, aB, aA, aI, aM, aP, aN, aV, aE, aR, aL, aT, aG, aS, aU) (nI v) (nI p) m := by
  unfold wpX_keyAt
  rw [qa_i5]
  refine ⟨qa_in (by omega), ?_⟩
  rw [nI_clamp (by omega), hV v p hv hp]
  refine nm_e ?_
  refine qa_up (fun n j => wX_keyAt_15 post (nI v) (nI p) m mV mI mC vC sC fO (nI (qa_v P)) nC cW sT sK pM oC aK aC aO aX aY aZ aW aB aA aI aM aP aN aV aE aR aL aT aG aS aU n (lN (V v p + qa_sum (fun u => if f u = true then E v p u (b u) else 0) j)) (nI j)) (qa_v P) (fun n => ?_) (fun n j hj ih => ?_)
  · exact pk_le (qa_v P) (qa_v P) (fun _ => h) (fun h => absurd h (by omega))
  · refine pk_le (qa_v P) j (fun h => absurd h (by omega)) (fun _ => qx_has (by omega) ?_)
    try dsimp only at ih
    rw [hm j hj]
    rw [qa_sum_s] at ih
    refine qa_br (fun e => ?_) (fun e => ⟨pk_in j 6 (by omega), ?_⟩)
    · rw [e, if_neg (by decide), Nat.add_zero] at ih
      exact nm_r (nI_1 j) ih
    · have hj2 := hb j hj e
      have l1 := qa_ix_lt (by omega : v < 6) hp (by omega : j < 6) hj2.2
      rw [nI_clamp (by omega), hj2.1]
      refine qx_edge ⟨qa_in l1, ?_⟩
      rw [nI_clamp (by omega), hE v p j _ hv hp hj hj2.2, lN_add]
      rw [e, if_pos rfl, ← Nat.add_assoc] at ih
      exact nm_e (nm_r (nI_1 j) ih)
theorem qx_bestPlace {post : Int32 → Prop} {V : Nat → Nat → Nat} {E : Nat → Nat → Nat → Nat → Nat} {f : Nat → Bool} {b : Nat → Nat} {m : Int32} (h6 : qa_v P ≤ 6) (hV : qa_VD P aV V) (hE : qa_ED P aE E) (hm : ∀ u, u < qa_v P → bt m u = f u)
    (hb : ∀ u, u < qa_v P → f u = true → aL u = nI (b u) ∧ b u < 5) {v : Nat} (hv : v < qa_v P) (hB : ∀ p, p < 5 → qa_key P V E f b v p < 2 ^ 63) (h : ∀ r, r < 5 → (∀ p, p < 5 → qa_key P V E f b v r ≤ qa_key P V E f b v p) → post (nI r)) : wpX_bestPlace post (mV, mI, mC, vC, sC, fO, (nI (qa_v P)), nC, cW, sT, sK, pM, oC, aK, aC, aO, aX, aY, aZ, aW, aB, aA, aI, aM, aP, aN, aV, aE, aR, aL, aT, aG, aS, aU) (nI v) m := by
  unfold wpX_bestPlace
  refine qx_keyAt h6 hV hE hm hb hv (p := 4) (by omega) ?_
  refine loop_0 (fun n j (r : Nat) => wX_bestPlace_14 post (nI v) m mV mI mC vC sC fO (nI (qa_v P)) nC cW sT sK pM oC aK aC aO aX aY aZ aW aB aA aI aM aP aN aV aE aR aL aT aG aS aU n (nI r) (lN (qa_key P V E f b v r)) (nI j)) (fun j r => r < 5 ∧ qa_key P V E f b v r ≤ qa_key P V E f b v 4 ∧ ∀ p, p < j → qa_key P V E f b v r ≤ qa_key P V E f b v p) 4 4 ⟨by omega, Nat.le_refl _, fun p hp => absurd hp (by omega)⟩ (fun n r hr => ?_) (fun n j r hj hr ih => ?_)
  · refine pk_le 4 4 (fun _ => h r hr.1 (fun p hp => ?_)) (fun h => absurd h (by omega))
    by_cases c : p = 4
    · rw [c]; exact hr.2.1
    · exact hr.2.2 p (by omega)
  · refine pk_le 4 j (fun h => absurd h (by omega)) (fun _ => qx_keyAt h6 hV hE hm hb hv (p := j) (by omega) ?_)
    have b1 := hB r hr.1
    have b2 := hB j (by omega)
    refine br_c (fun c => nm_r (nI_1 j) (ih r ⟨hr.1, hr.2.1, fun p hp => ?_⟩)) (fun c => nm_r (nI_1 j) (ih j ⟨by omega, ?_, fun p hp => ?_⟩))
    · rw [pk_lLE b1 b2] at c
      by_cases d : p = j
      · rw [d]; exact c
      · exact hr.2.2 p (by omega)
    · rw [pk_lLE b1 b2] at c
      have := hr.2.1
      omega
    · rw [pk_lLE b1 b2] at c
      by_cases d : p = j
      · rw [d]; exact Nat.le_refl _
      · have := hr.2.2 p (by omega)
        omega
/-! one neighbour -/
def qa_v1 (S : QA_S) (v u k a p : Nat) : Nat := qa_V S a p + (if a = u ∧ p < k then qa_k1 S v a p else 0)
theorem qa_key1 {P : QA_P} (V : Nat → Nat → Nat) (E : Nat → Nat → Nat → Nat → Nat) {u : Nat} (hu : u < qa_v P) (b : Nat → Nat) (v r : Nat) : qa_key P V E (fun i => decide (i = u)) b v r = V v r + E v r u (b u) := by
  unfold qa_key
  congr 1
  rw [qa_sum_congr (g := fun i => if i = u then E v r i (b i) else 0) (fun i _ => ?_), qa_sum_pt (fun i => E v r i (b i)), if_pos hu]
  simp only [decide_eq_true_eq]
theorem qx_foldV {post : SX → Prop} {S : QA_S} {s : Nat} (h6 : qa_v P ≤ 6) (I : qa_INV P s S) (hs : s < 6) (hV : qa_VD P aV (qa_V S)) (hE : qa_ED P aE (qa_E S)) {v u : Nat} (hv : v < qa_v P) (hu : u < qa_v P) (huv : u ≠ v)
    (h : ∀ aV' aL', qa_VD P aV' (qa_v1 S v u 5) → (∀ w, w ≠ u → aL' w = aL w) → post (mV, mI, mC, vC, sC, fO, (nI (qa_v P)), nC, cW, sT, sK, pM, oC, aK, aC, aO, aX, aY, aZ, aW, aB, aA, aI, aM, aP, aN, aV', aE, aR, aL', aT, aG, aS, aU)) : wpX_foldIntoVector post (mV, mI, mC, vC, sC, fO, (nI (qa_v P)), nC, cW, sT, sK, pM, oC, aK, aC, aO, aX, aY, aZ, aW, aB, aA, aI, aM, aP, aN, aV, aE, aR, aL, aT, aG, aS, aU) (nI v) (nI u) := by
  have hm : ∀ i, i < qa_v P → bt ((1 : Int32) <<< (nI u &&& 31)) i = decide (i = u) := fun i hi => qa_s1 (by omega) (by omega)
  have h56 : 2 ^ (41 + 3 * s) ≤ 2 ^ 56 := Nat.pow_le_pow_right (by omega) (by omega)
  unfold wpX_foldIntoVector
  refine nm_e ?_
  refine loop_0 (fun n j (t : (Nat → Int64) × (Nat → Int32)) => wX_foldIntoVector_7 post (nI v) (nI u) ((1 : Int32) <<< (nI u &&& 31)) mV mI mC vC sC fO (nI (qa_v P)) nC cW sT sK pM oC n (nI j) aK aC aO aX aY aZ aW aB aA aI aM aP aN t.1 aE aR t.2 aT aG aS aU) (fun j t => qa_VD P t.1 (qa_v1 S v u j) ∧ ∀ w, w ≠ u → t.2 w = aL w) 5 (aV, aL) ⟨?_, fun _ _ => rfl⟩ (fun n t ht => ?_) (fun n j t hj ht ih => ?_)
  · exact qa_VD_congr hV (fun a p _ _ => by unfold qa_v1; rw [if_neg (by omega)]; rfl)
  · exact pk_le 5 5 (fun _ => h _ _ ht.1 ht.2) (fun h => absurd h (by omega))
  · refine pk_le 5 j (fun h => absurd h (by omega)) (fun _ => ⟨pk_in u 6 (by omega), ?_⟩)
    rw [nI_clamp (by omega)]
    have hb : ∀ w, w < qa_v P → decide (w = u) = true → upd t.2 u (nI j) w = nI j ∧ j < 5 := fun w _ hw => by
      rw [of_decide_eq_true hw, pk_us]; exact ⟨rfl, hj⟩
    have hk : ∀ r, qa_key P (qa_v1 S v u j) (qa_E S) (fun i => decide (i = u)) (fun _ => j) v r = qa_V S v r + qa_E S v r u j := by
      intro r
      rw [qa_key1 _ _ hu]
      unfold qa_v1
      rw [if_neg (by omega)]
      rfl
    refine nm_e (qx_bestPlace (b := fun _ => j) h6 ht.1 hE hm hb hv (fun p hp => ?_) (fun r hr hmin => ?_))
    · rw [hk]
      have := I.2.2.2.2.2.2.1 v p hv hp
      have := I.2.2.2.2.2.2.2.1 v p u j hv hp hu hj
      omega
    · rw [qa_i5]
      refine ⟨qa_in (by omega), qx_keyAt (b := fun _ => j) h6 ht.1 hE hm hb hv hr ⟨qa_in (by omega), ?_⟩⟩
      rw [nI_clamp (by omega), ht.1 u j hu hj, lN_add]
      refine nm_e (nm_r (nI_1 j) (ih (vp_updL t.1 (u * 5 + j) (lN (qa_v1 S v u j u j + qa_key P (qa_v1 S v u j) (qa_E S) (fun i => decide (i = u)) (fun _ => j) v r)), upd t.2 u (nI j)) ⟨fun a p ha hp => ?_, fun w hw => ?_⟩))
      · have e1 : qa_k1 S v u j = qa_key P (qa_v1 S v u j) (qa_E S) (fun i => decide (i = u)) (fun _ => j) v r := by
          rw [← qa_mn_eq (f := fun r => qa_key P (qa_v1 S v u j) (qa_E S) (fun i => decide (i = u)) (fun _ => j) v r) hr hmin]
          exact qa_mn_congr (fun p _ => (hk p).symm)
        try dsimp only
        by_cases c : a = u ∧ p = j
        · obtain ⟨rfl, rfl⟩ := c
          rw [pk_uLs, ← e1]
          unfold qa_v1
          rw [if_neg (by omega), if_pos (by omega), Nat.add_zero]
        · rw [pk_uLn (by omega), ht.1 a p ha hp]
          unfold qa_v1
          by_cases d : a = u ∧ p < j
          · rw [if_pos d, if_pos (by omega)]
          · rw [if_neg d, if_neg (by omega)]
      · try dsimp only
        rw [pk_un hw]; exact ht.2 w hw
/-! two neighbours -/
theorem qa_key2 {P : QA_P} (V : Nat → Nat → Nat) (E : Nat → Nat → Nat → Nat → Nat) {u w : Nat} (hu : u < w) (hw : w < qa_v P) (b : Nat → Nat) (v r : Nat) : qa_key P V E (fun i => decide (i = u) || decide (i = w)) b v r = V v r + E v r u (b u) + E v r w (b w) := by
  unfold qa_key
  rw [Nat.add_assoc]
  congr 1
  rw [qa_sum_congr (g := fun i => (if i = u then E v r i (b i) else 0) + (if i = w then E v r i (b i) else 0)) (fun i _ => ?_), qa_sum_add, qa_sum_pt (fun i => E v r i (b i)), qa_sum_pt (fun i => E v r i (b i)), if_pos (by omega), if_pos hw]
  by_cases c : i = u
  · have d : ¬ i = w := by omega
    simp [c, d]
    omega
  · by_cases d : i = w
    · have c' : ¬ w = u := by omega
      simp [d, c']
    · simp [c, d]
theorem qx_foldE {post : SX → Prop} {S : QA_S} {s : Nat} (h6 : qa_v P ≤ 6) (I : qa_INV P s S) (hs : s < 6) (hV : qa_VD P aV (qa_V S)) (hE : qa_ED P aE (qa_E S)) {v u w : Nat} (hv : v < qa_v P) (huw : u < w) (hw : w < qa_v P) (huv : u ≠ v) (hwv : w ≠ v)
    (h : ∀ aE' aL', qa_ED P aE' (qa_be (qa_E S) u w (fun pa pb => qa_k2 S v u pa w pb)) → (∀ x, x ≠ u → x ≠ w → aL' x = aL x) → post (mV, mI, mC, vC, sC, fO, (nI (qa_v P)), nC, cW, sT, sK, pM, oC, aK, aC, aO, aX, aY, aZ, aW, aB, aA, aI, aM, aP, (upd (upd aN u (aN u ||| ((1 : Int32) <<< (nI w &&& 31)))) w (upd aN u (aN u ||| ((1 : Int32) <<< (nI w &&& 31))) w ||| ((1 : Int32) <<< (nI u &&& 31)))), aV, aE', aR, aL', aT, aG, aS, aU)) : wpX_foldIntoEdge post (mV, mI, mC, vC, sC, fO, (nI (qa_v P)), nC, cW, sT, sK, pM, oC, aK, aC, aO, aX, aY, aZ, aW, aB, aA, aI, aM, aP, aN, aV, aE, aR, aL, aT, aG, aS, aU) (nI v) (nI u) (nI w) := by
  have hu : u < qa_v P := by omega
  have hm : ∀ i, i < qa_v P → bt (((1 : Int32) <<< (nI u &&& 31)) ||| ((1 : Int32) <<< (nI w &&& 31))) i = (decide (i = u) || decide (i = w)) := fun i hi => by
    rw [b_or, qa_s1 (by omega) (by omega), qa_s1 (by omega) (by omega)]
  have h56 : 2 ^ (41 + 3 * s) ≤ 2 ^ 56 := Nat.pow_le_pow_right (by omega) (by omega)
  unfold wpX_foldIntoEdge
  refine nm_e ?_
  refine loop_0 (fun n j (t : (Nat → Int64) × (Nat → Int32)) => wX_foldIntoEdge_12 post (nI v) (nI u) (nI w) (((1 : Int32) <<< (nI u &&& 31)) ||| ((1 : Int32) <<< (nI w &&& 31))) n (nI j) mV mI mC vC sC fO (nI (qa_v P)) nC cW sT sK pM oC aK aC aO aX aY aZ aW aB aA aI aM aP aN aV t.1 aR t.2 aT aG aS aU)
    (fun j t => qa_ED P t.1 (qa_bd (qa_E S) u w (fun pa pb => qa_k2 S v u pa w pb) (qa_D j 0)) ∧ ∀ x, x ≠ u → x ≠ w → t.2 x = aL x) 5 (aE, aL) ⟨?_, fun _ _ _ => rfl⟩ (fun n t ht => ?_) (fun n j t hj ht ih => ?_)
  · exact qa_ED_congr hE (fun a pa b pb _ _ _ _ => qa_bd_0 _ u w _ a pa b pb)
  · refine pk_le 5 5 (fun _ => ⟨pk_in u 6 (by omega), pk_in u 6 (by omega), ?_⟩) (fun h => absurd h (by omega))
    rw [nI_clamp (n := u) (by omega)]
    refine nm_e ⟨pk_in w 6 (by omega), pk_in w 6 (by omega), ?_⟩
    rw [nI_clamp (n := w) (by omega)]
    exact nm_e (h _ _ (qa_ED_congr ht.1 (fun x px y py _ h1 _ h2 => qa_bd_e _ u w _ h1 h2)) ht.2)
  · refine pk_le 5 j (fun h => absurd h (by omega)) (fun _ => ⟨pk_in u 6 (by omega), ?_⟩)
    rw [nI_clamp (n := u) (by omega)]
    refine nm_e ?_
    refine loop_0 (fun k i (t : (Nat → Int64) × (Nat → Int32)) => wX_foldIntoEdge_29 post (wX_foldIntoEdge_12 post (nI v) (nI u) (nI w) (((1 : Int32) <<< (nI u &&& 31)) ||| ((1 : Int32) <<< (nI w &&& 31))) n) (nI v) (nI u) (nI w) (((1 : Int32) <<< (nI u &&& 31)) ||| ((1 : Int32) <<< (nI w &&& 31))) (nI j) k (nI i) mV mI mC vC sC fO (nI (qa_v P)) nC cW sT sK pM oC aK aC aO aX aY aZ aW aB aA aI aM aP aN aV t.1 aR t.2 aT aG aS aU)
      (fun i t => qa_ED P t.1 (qa_bd (qa_E S) u w (fun pa pb => qa_k2 S v u pa w pb) (qa_D j i)) ∧ t.2 u = nI j ∧ ∀ x, x ≠ u → x ≠ w → t.2 x = aL x) 5 (t.1, upd t.2 u (nI j)) ⟨ht.1, pk_us, fun x h1 h2 => by (try dsimp only); rw [pk_un h1]; exact ht.2 x h1 h2⟩ (fun k t ht => ?_) (fun k i t hi ht ih2 => ?_)
    · exact pk_le 5 5 (fun _ => nm_r (nI_1 j) (ih t ⟨qa_ED_congr ht.1 (fun x px y py _ h1 _ h2 => qa_bd_D (fun r s _ hs => qa_D_roll j r s hs) h1 h2), ht.2.2⟩)) (fun h => absurd h (by omega))
    · refine pk_le 5 i (fun h => absurd h (by omega)) (fun _ => ⟨pk_in w 6 (by omega), ?_⟩)
      rw [nI_clamp (n := w) (by omega)]
      have hb : ∀ x, x < qa_v P → (decide (x = u) || decide (x = w)) = true → upd t.2 w (nI i) x = nI (if x = u then j else i) ∧ (if x = u then j else i) < 5 := fun x _ hx => by
        rw [Bool.or_eq_true, decide_eq_true_eq, decide_eq_true_eq] at hx
        by_cases c : x = u
        · rw [if_pos c, pk_un (by omega), c]; exact ⟨ht.2.1, hj⟩
        · have : x = w := by omega
          rw [if_neg c, this, pk_us]; exact ⟨rfl, hi⟩
      have hk : ∀ r, qa_key P (qa_V S) (qa_bd (qa_E S) u w (fun pa pb => qa_k2 S v u pa w pb) (qa_D j i)) (fun x => decide (x = u) || decide (x = w)) (fun x => if x = u then j else i) v r = qa_V S v r + qa_E S v r u j + qa_E S v r w i := by
        intro r
        rw [qa_key2 _ _ huw hw, if_pos rfl, if_neg (by omega)]
        unfold qa_bd
        rw [if_neg (by omega), if_neg (by omega), if_neg (by omega), if_neg (by omega)]
        rfl
      refine nm_e (qx_bestPlace (b := fun x => if x = u then j else i) h6 hV ht.1 hm hb hv (fun p hp => ?_) (fun r hr hmin => ?_))
      · rw [hk]
        have := I.2.2.2.2.2.2.1 v p hv hp
        have := I.2.2.2.2.2.2.2.1 v p u j hv hp hu hj
        have := I.2.2.2.2.2.2.2.1 v p w i hv hp hw hi
        omega
      · refine qx_keyAt (b := fun x => if x = u then j else i) h6 hV ht.1 hm hb hv hr ?_
        have e1 : qa_key P (qa_V S) (qa_bd (qa_E S) u w (fun pa pb => qa_k2 S v u pa w pb) (qa_D j i)) (fun x => decide (x = u) || decide (x = w)) (fun x => if x = u then j else i) v r = (fun pa pb => qa_k2 S v u pa w pb) j i := by
          rw [← qa_mn_eq (f := fun r => qa_key P (qa_V S) (qa_bd (qa_E S) u w (fun pa pb => qa_k2 S v u pa w pb) (qa_D j i)) (fun x => decide (x = u) || decide (x = w)) (fun x => if x = u then j else i) v r) hr hmin]
          exact qa_mn_congr (fun p _ => hk p)
        rw [e1]
        refine qx_addEdge h6 ht.1 hu hj hw hi (fun a' ha' => nm_r (nI_1 i) (ih2 (a', upd t.2 w (nI i)) ⟨qa_ED_congr ha' (fun x px y py _ _ _ _ => qa_bd_s _ (by omega) (fun pa pb => qa_k2 S v u pa w pb) j i x px y py), ?_, fun x h1 h2 => ?_⟩))
        · (try dsimp only); rw [pk_un (by omega)]; exact ht.2.1
        · (try dsimp only); rw [pk_un h2]; exact ht.2.2 x h1 h2
end
end
section
/-! ===== X: the reduction ===== -/
def qa_XM (P : QA_P) (S : QA_S) (aN aL : Nat → Int32) (aV aE : Nat → Int64) (pM : Int32) : Prop :=
  (∀ v, v < qa_v P → qa_mk (qa_v P) (aN v) (qa_N S v)) ∧ qa_VD P aV (qa_V S) ∧ qa_ED P aE (qa_E S) ∧
  qa_mk (qa_v P) pM (fun u => decide (qa_pn S u < 5)) ∧ (∀ u, u < qa_v P → qa_pn S u < 5 → aL u = nI (qa_pn S u))
theorem qa_fN_two {P : QA_P} {S : QA_S} {v : Nat} (hN : ∀ u, qa_N S u u = false) (hd : qa_deg P S v ≤ 2) {a b : Nat} (ha : a < qa_v P) (hb : b < qa_v P) :
    qa_fN S v a b = (qa_N S a b || decide (qa_hi P S v < qa_v P ∧ ((a = qa_lo P S v ∧ b = qa_hi P S v) ∨ (a = qa_hi P S v ∧ b = qa_lo P S v)))) := by
  unfold qa_fN
  congr 1
  apply qa_iffb
  rw [Bool.and_eq_true, Bool.and_eq_true, Bool.and_eq_true, Bool.and_eq_true, decide_eq_true_eq, decide_eq_true_eq]
  constructor
  · rintro ⟨⟨⟨⟨e, la⟩, lb⟩, na⟩, nb⟩
    have ia : qa_ar S v a = true := qa_ar_iff.mpr ⟨la, fun z => (by rw [z, hN v] at na; exact Bool.noConfusion na), na⟩
    have ib : qa_ar S v b = true := qa_ar_iff.mpr ⟨lb, fun z => (by rw [z, hN v] at nb; exact Bool.noConfusion nb), nb⟩
    have qa' := qa_two hd ha ia
    have qb' := qa_two hd hb ib
    omega
  · rintro ⟨h1, h2⟩
    have g := qa_hi_t h1
    have l := qa_lo_t (P := P) (S := S) (v := v) (by omega)
    have g1 := qa_ar_iff.mp g.1
    have l1 := qa_ar_iff.mp l
    rcases h2 with ⟨rfl, rfl⟩ | ⟨rfl, rfl⟩
    · exact ⟨⟨⟨⟨by omega, l1.1⟩, g1.1⟩, l1.2.2⟩, g1.2.2⟩
    · exact ⟨⟨⟨⟨by omega, g1.1⟩, l1.1⟩, g1.2.2⟩, l1.2.2⟩
section
variable {P : QA_P} {mV mI mC vC nV nC cW sT sK pM oC : Int32} {sC fO : Int64} {aK aC aO aX aY aZ aW aB aA aI aM aP aN aR aL aT aG aS aU : Nat → Int32} {aV aE : Nat → Int64}
theorem qx_fold {post : SX → Prop} {S : QA_S} {s : Nat} (h6 : qa_v P ≤ 6) (I : qa_INV P s S) (hs : s < 6) (X : qa_XM P S aN aL aV aE pM) {v : Nat} (hv : v < qa_v P) (hd : qa_deg P S v ≤ 2) {m : Int32} (hm : qa_mk (qa_v P) m (qa_ar S v))
    (h : ∀ aN' aL' aV' aE', qa_XM P (qa_fold P S v) aN' aL' aV' aE' pM → post (mV, mI, mC, vC, sC, fO, (nI (qa_v P)), nC, cW, sT, sK, pM, oC, aK, aC, aO, aX, aY, aZ, aW, aB, aA, aI, aM, aP, aN', aV', aE', aR, aL', aT, aG, aS, aU)) : wpX_fold post (mV, mI, mC, vC, sC, fO, (nI (qa_v P)), nC, cW, sT, sK, pM, oC, aK, aC, aO, aX, aY, aZ, aW, aB, aA, aI, aM, aP, aN, aV, aE, aR, aL, aT, aG, aS, aU) (nI v) m := by
  obtain ⟨x1, x2, x3, x4, x5⟩ := X
  have i2 := I.2.1
  have noN : ¬ qa_hi P S v < qa_v P → ∀ a, a < qa_v P → qa_mk (qa_v P) (aN a) (qa_fN S v a) := fun c a ha =>
    qa_mk_congr (x1 a ha) (fun b hb => by rw [qa_fN_two i2 hd ha hb, decide_eq_false (fun z => c z.1), Bool.or_false])
  have noE : ¬ qa_hi P S v < qa_v P → qa_ED P aE (qa_fE P S v) := fun c =>
    qa_ED_congr x3 (fun a pa b pb _ _ _ _ => by unfold qa_fE; rw [if_neg (fun z => c z.1), if_neg (fun z => c z.1)]; rfl)
  unfold wpX_fold
  by_cases h0 : qa_lo P S v < qa_v P
  · have l := qa_ar_iff.mp (qa_lo_t h0)
    have m0 : ¬ m = 0 := fun z => by
      have := (qa_mk_z hm h6).mp z _ h0
      rw [qa_lo_t h0] at this
      exact Bool.noConfusion this
    refine br_f m0 (qx_lowest h6 hm h0 (nm_e ?_))
    have hm2 : qa_mk (qa_v P) (m &&& (((1 : Int32) <<< (nI (qa_lo P S v) &&& 31)) ^^^ (-1))) (qa_hf P S v) := qa_mk_off hm (by omega)
    have u_lo : ∀ u, u < qa_v P → qa_pn S u < 5 → qa_L S u = false := fun u hu h5 => (I.2.2.2.2.1 u hu h5).1
    show (m &&& (((1 : Int32) <<< (nI (qa_lo P S v) &&& 31)) ^^^ (-1)) = 0 → _) ∧ (¬ m &&& (((1 : Int32) <<< (nI (qa_lo P S v) &&& 31)) ^^^ (-1)) = 0 → _)
    by_cases h1 : qa_hi P S v < qa_v P
    · have g := qa_hi_t h1
      have g1 := qa_ar_iff.mp g.1
      have m2 : ¬ m &&& (((1 : Int32) <<< (nI (qa_lo P S v) &&& 31)) ^^^ (-1)) = 0 := fun z => by
        have := (qa_mk_z hm2 h6).mp z _ h1
        rw [show qa_hf P S v (qa_hi P S v) = true from qa_find_t h1] at this
        exact Bool.noConfusion this
      refine br_f m2 (qx_lowest h6 hm2 h1 ?_)
      refine qx_foldE (u := qa_lo P S v) (w := qa_hi P S v) h6 I hs x2 x3 hv g.2 h1 l.2.1 g1.2.1 (fun aE' aL' hE hL => h _ _ _ _ ⟨fun a ha => ?_, ?_, ?_, x4, fun u hu h5 => ?_⟩)
      · show qa_mk (qa_v P) _ (qa_fN S v a)
        by_cases c1 : a = qa_hi P S v
        · rw [c1, pk_us, pk_un (by omega)]
          refine qa_mk_congr (qa_mk_or (x1 _ h1) (qa_mk_1 h0 h6)) (fun b hb => ?_)
          rw [qa_fN_two i2 hd h1 hb]
          congr 1
          exact decide_eq_decide.mpr (by omega)
        · rw [pk_un c1]
          by_cases c2 : a = qa_lo P S v
          · rw [c2, pk_us]
            refine qa_mk_congr (qa_mk_or (x1 _ h0) (qa_mk_1 h1 h6)) (fun b hb => ?_)
            rw [qa_fN_two i2 hd h0 hb]
            congr 1
            exact decide_eq_decide.mpr (by omega)
          · rw [pk_un c2]
            refine qa_mk_congr (x1 a ha) (fun b hb => ?_)
            rw [qa_fN_two i2 hd ha hb, decide_eq_false (by omega), Bool.or_false]
      · show qa_VD P aV (qa_fV P S v)
        refine qa_VD_congr x2 (fun a p _ _ => ?_)
        unfold qa_fV
        rw [if_neg (by omega)]; rfl
      · show qa_ED P aE' (qa_fE P S v)
        refine qa_ED_congr hE (fun a pa b pb _ _ _ _ => ?_)
        unfold qa_be qa_fE
        congr 1
        · congr 1
          by_cases c : a = qa_lo P S v ∧ b = qa_hi P S v
          · rw [if_pos c, if_pos ⟨h1, c⟩, c.1, c.2]
          · rw [if_neg c, if_neg (fun z => c z.2)]
        · by_cases c : a = qa_hi P S v ∧ b = qa_lo P S v
          · rw [if_pos c, if_pos ⟨h1, c⟩, c.1, c.2]
          · rw [if_neg c, if_neg (fun z => c z.2)]
      · have lu := u_lo u hu h5
        rw [hL u (fun z => by rw [z, l.1] at lu; exact Bool.noConfusion lu) (fun z => by rw [z, g1.1] at lu; exact Bool.noConfusion lu)]
        exact x5 u hu h5
    · have m2 : m &&& (((1 : Int32) <<< (nI (qa_lo P S v) &&& 31)) ^^^ (-1)) = 0 := (qa_mk_z hm2 h6).mpr (fun i hi => qa_tf (fun z => h1 (by have : qa_hi P S v ≤ i := qa_find_lt_of hi z; omega)))
      have hn : qa_hi P S v = qa_v P := by have : qa_hi P S v ≤ qa_v P := qa_find_le _ _; omega
      refine br_t m2 ?_
      refine qx_foldV (u := qa_lo P S v) h6 I hs x2 x3 hv h0 l.2.1 (fun aV' aL' hV hL => h _ _ _ _ ⟨noN h1, ?_, noE h1, x4, fun u hu h5 => ?_⟩)
      · show qa_VD P aV' (qa_fV P S v)
        refine qa_VD_congr hV (fun a p _ hp => ?_)
        unfold qa_v1 qa_fV
        by_cases c : a = qa_lo P S v
        · rw [if_pos ⟨c, hp⟩, if_pos ⟨h0, hn, c⟩]
        · rw [if_neg (fun z => c z.1), if_neg (fun z => c z.2.2)]
      · have lu := u_lo u hu h5
        rw [hL u (fun z => by rw [z, l.1] at lu; exact Bool.noConfusion lu)]
        exact x5 u hu h5
  · have h1 : ¬ qa_hi P S v < qa_v P := fun z => h0 (by have := qa_hi_t z; omega)
    have m0 : m = 0 := (qa_mk_z hm h6).mpr (fun i hi => qa_tf (fun z => h0 (by have : qa_lo P S v ≤ i := qa_find_lt_of hi z; omega)))
    refine br_t m0 (h _ _ _ _ ⟨noN h1, ?_, noE h1, x4, x5⟩)
    show qa_VD P aV (qa_fV P S v)
    refine qa_VD_congr x2 (fun a p _ _ => ?_)
    unfold qa_fV
    rw [if_neg (fun z => h0 z.1)]; rfl
theorem qx_reduce {post : SX → Prop} (hP : qa_PG P aK aC aO aX aY aZ aW) (hI : ∀ u, u < qa_v P → qa_mk (qa_v P) (aI u) (qa_I P u)) (hp : ∀ v p, v < qa_v P → p < 5 → aP (v * 5 + p) = nI (qa_pr P v p)) (X : qa_XM P (qa_S0 P) aN aL aV aE pM)
    (h : ∀ aN' aV' aE' aR' aL' pM', qa_XM P (qa_F P) aN' aL' aV' aE' pM' → (∀ t, t < qa_v P → aR' t = nI (qa_pk P (qa_it P t))) → post (mV, mI, (nI (qa_m P)), (nI (qa_w P)), 15625, 1000000000000, (nI (qa_v P)), (nI (qa_c P)), cW, sT, sK, pM', oC, aK, aC, aO, aX, aY, aZ, aW, aB, aA, aI, aM, aP, aN', aV', aE', aR', aL', aT, aG, aS, aU)) : wpX_reduce post (mV, mI, (nI (qa_m P)), (nI (qa_w P)), 15625, 1000000000000, (nI (qa_v P)), (nI (qa_c P)), cW, sT, sK, pM, oC, aK, aC, aO, aX, aY, aZ, aW, aB, aA, aI, aM, aP, aN, aV, aE, aR, aL, aT, aG, aS, aU) := by
  have h6 := qa_v6 hP.1
  unfold wpX_reduce
  refine nm_e ?_
  refine loop_0 (fun n s (t : Int32 × Int32 × (Nat → Int32) × (Nat → Int32) × (Nat → Int32) × (Nat → Int64) × (Nat → Int64)) => wX_reduce_11 post n t.1 (nI s) mV mI (nI (qa_m P)) (nI (qa_w P)) 15625 1000000000000 (nI (qa_v P)) (nI (qa_c P)) cW sT sK t.2.1 oC aK aC aO aX aY aZ aW aB aA aI aM aP t.2.2.1 t.2.2.2.2.2.1 t.2.2.2.2.2.2 t.2.2.2.2.1 t.2.2.2.1 aT aG aS aU)
    (fun s t => s ≤ qa_v P ∧ qa_mk (qa_v P) t.1 (qa_L (qa_it P s)) ∧ qa_XM P (qa_it P s) t.2.2.1 t.2.2.2.1 t.2.2.2.2.2.1 t.2.2.2.2.2.2 t.2.1 ∧ ∀ k, k < s → t.2.2.2.2.1 k = nI (qa_pk P (qa_it P k)))
    (qa_v P) (((1 : Int32) <<< (nI (qa_v P) &&& 31)) - 1, pM, aN, aL, aR, aV, aE) ⟨Nat.zero_le _, qa_mk_full _ h6, X, fun k hk => absurd hk (by omega)⟩ (fun n t ht => ?_) (fun n s t hs ht ih => ?_)
  · exact pk_le (qa_v P) (qa_v P) (fun _ => h _ _ _ _ _ _ ht.2.2.1 ht.2.2.2) (fun h => absurd h (by omega))
  · obtain ⟨x1, qM, qN, qL, qR, qV, qE⟩ := t
    obtain ⟨_, hL, X, hR⟩ := ht
    dsimp only at hL X hR ih ⊢
    have I := qa_INV_it hP.1 s (by omega)
    have hk := qa_pk_ok hP.1 I hs
    have eS : qa_it P (s + 1) = qa_step P (qa_it P s) := rfl
    have hR' : ∀ x, x = nI (qa_pk P (qa_it P s)) → ∀ k, k < s + 1 → upd qR s x k = nI (qa_pk P (qa_it P k)) := by
      intro x hx k hk
      by_cases c : k = s
      · subst c; rw [pk_us]; exact hx
      · rw [pk_un c]; exact hR k (by omega)
    refine pk_le (qa_v P) s (fun h => absurd h (by omega)) (fun _ => ?_)
    refine qx_simplest h6 hL X.1 ?_
    unfold qa_pk at hk hR'
    have eL : qa_L (qa_it P (s + 1)) = qa_fL (qa_it P s) (qa_pk P (qa_it P s)) := qa_L_st P (qa_it P s)
    unfold qa_pk at eL
    rw [eL] at ih
    rw [eS] at ih
    unfold qa_step at ih
    generalize qa_it P s = S at *
    by_cases c : qa_smp P S < qa_v P
    · simp only [if_pos c] at hk hR' ih ⊢
      have hd : qa_deg P S (qa_smp P S) ≤ 2 := by
        have : qa_sf P S (qa_smp P S) = true := qa_find_t c
        unfold qa_sf at this
        rw [Bool.and_eq_true, decide_eq_true_eq] at this
        exact this.2
      refine br_t (nI_pos' (by omega)) ?_
      unfold wX_reduce_34
      refine br_t rfl ?_
      unfold wX_reduce_47
      have ml : qa_mk (qa_v P) (x1 &&& (((1 : Int32) <<< (nI (qa_smp P S) &&& 31)) ^^^ (-1))) (qa_fL S (qa_smp P S)) := qa_mk_off hL (by omega)
      refine nm_e ⟨pk_in s 6 (by omega), ?_⟩
      rw [nI_clamp (n := s) (by omega)]
      refine nm_e ⟨qa_in (by omega), ?_⟩
      rw [nI_clamp (n := qa_smp P S) (by omega)]
      refine nm_e (br_t rfl ?_)
      refine qx_fold h6 I (by omega) X c hd (qa_mk_congr (qa_mk_and (X.1 _ c) ml) (fun u _ => ?_)) (fun aN' aL' aV' aE' X' => nm_r (nI_1 s) (ih (_, qM, aN', aL', upd qR s (nI (qa_smp P S)), aV', aE') ⟨by omega, ml, X', hR' _ rfl⟩))
      unfold qa_ar qa_fL
      rw [Bool.and_comm]
    · simp only [if_neg c] at hk hR' ih ⊢
      refine br_f (by decide) ?_
      unfold wX_reduce_34
      refine br_f (by decide) (qx_densest h6 hL X.1 (by omega) ?_)
      unfold wX_reduce_47
      have ml : qa_mk (qa_v P) (x1 &&& (((1 : Int32) <<< (nI (qa_dn P S (qa_v P)) &&& 31)) ^^^ (-1))) (qa_fL S (qa_dn P S (qa_v P))) := qa_mk_off hL (by omega)
      refine nm_e ⟨pk_in s 6 (by omega), ?_⟩
      rw [nI_clamp (n := s) (by omega)]
      refine nm_e ⟨qa_in (by omega), ?_⟩
      rw [nI_clamp (n := qa_dn P S (qa_v P)) (by omega)]
      refine nm_e (br_f (by decide) ?_)
      obtain ⟨y1, y2, y3, y4, y5⟩ := X
      refine qx_pin hP hI hp y4 y5 y2 y3 hk.1 (qa_mk_congr (qa_mk_and (y1 _ hk.1) ml) (fun u _ => ?_)) (fun aV' hV' => nm_r (nI_1 s) (ih (x1 &&& (((1 : Int32) <<< (nI (qa_dn P S (qa_v P)) &&& 31)) ^^^ (-1)), qM ||| ((1 : Int32) <<< (nI (qa_dn P S (qa_v P)) &&& 31)), qN, upd qL (qa_dn P S (qa_v P)) (nI (qa_pp P S (qa_dn P S (qa_v P)) 4)), upd qR s (nI (qa_dn P S (qa_v P))), aV', qE) ⟨by omega, ml, ⟨y1, hV', y3, ?_, fun u hu h5 => ?_⟩, hR' _ rfl⟩))
      · unfold qa_ar qa_fL
        rw [Bool.and_comm]
      · refine qa_mk_congr (qa_mk_or y4 (qa_mk_1 hk.1 h6)) (fun u _ => ?_)
        show _ = decide (qa_pP P S (qa_dn P S (qa_v P)) u < 5)
        unfold qa_pP
        by_cases e : u = qa_dn P S (qa_v P)
        · rw [if_pos e, decide_eq_true e, Bool.or_true, decide_eq_true (qa_pp_fit P S _).1]
        · rw [if_neg e, decide_eq_false e, Bool.or_false]
      · have h5' : qa_pP P S (qa_dn P S (qa_v P)) u < 5 := h5
        show _ = nI (qa_pP P S (qa_dn P S (qa_v P)) u)
        unfold qa_pP at h5' ⊢
        by_cases e : u = qa_dn P S (qa_v P)
        · rw [if_pos e, e]; exact pk_us
        · rw [if_neg e] at h5' ⊢
          exact (pk_un e).trans (y5 u hu h5')
end
end
section
/-! ===== X: choosing places, costs, the whole allocation ===== -/
theorem qa_L_end {P : QA_P} (h : qa_OK P) {u : Nat} (hu : u < qa_v P) : qa_L (qa_it P (qa_v P)) u = false := by
  have I := qa_INV_it h (qa_v P) (Nat.le_refl _)
  have cnt : qa_sum (fun u => (qa_L (qa_it P (qa_v P)) u).toNat) (qa_v P) = 0 := by have := I.2.2.2.2.2.2.2.2.1; omega
  have := qa_sum_ge (f := fun u => (qa_L (qa_it P (qa_v P)) u).toNat) hu
  cases e : qa_L (qa_it P (qa_v P)) u with
  | false => rfl
  | true => (try dsimp only at this); rw [e, cnt] at this; exact absurd this (by decide)
def qa_kf (P : QA_P) (s : Nat) (a : Nat → Nat) (p : Nat) : Nat := qa_key P (qa_V (qa_F P)) (qa_E (qa_F P)) (fun u => qa_N (qa_F P) (qa_pk P (qa_it P s)) u && qa_L (qa_it P (s + 1)) u) a (qa_pk P (qa_it P s)) p
def qa_CI (P : QA_P) (e : Nat) (x1 : Int32) (aL : Nat → Int32) (a : Nat → Nat) : Prop :=
  e ≤ qa_v P ∧ qa_mk (qa_v P) x1 (qa_L (qa_it P e)) ∧
  (∀ u, u < qa_v P → qa_pn (qa_F P) u < 5 → aL u = nI (qa_pn (qa_F P) u) ∧ a u = qa_pn (qa_F P) u) ∧
  (∀ u, u < qa_v P → qa_L (qa_it P e) u = true → aL u = nI (a u) ∧ a u < 5) ∧
  (∀ t, e ≤ t → t < qa_v P → ¬ qa_pn (qa_F P) (qa_pk P (qa_it P t)) < 5 → ∀ p, p < 5 → qa_kf P t a (a (qa_pk P (qa_it P t))) ≤ qa_kf P t a p)
section
variable {P : QA_P} {mV mI mC vC nV nC cW sT sK pM oC : Int32} {sC fO : Int64} {aK aC aO aX aY aZ aW aB aA aI aM aP aN aR aL aT aG aS aU : Nat → Int32} {aV aE : Nat → Int64}
theorem qx_choose {post : SX → Prop} (hO : qa_OK P) (X : qa_XM P (qa_F P) aN aL aV aE pM) (hR : ∀ t, t < qa_v P → aR t = nI (qa_pk P (qa_it P t)))
    (h : ∀ aL' a, qa_chs P a → (∀ v, v < qa_v P → aL' v = nI (a v)) → post (mV, mI, (nI (qa_m P)), (nI (qa_w P)), 15625, 1000000000000, (nI (qa_v P)), (nI (qa_c P)), cW, sT, sK, pM, oC, aK, aC, aO, aX, aY, aZ, aW, aB, aA, aI, aM, aP, aN, aV, aE, aR, aL', aT, aG, aS, aU)) : wpX_choosePlaces post (mV, mI, (nI (qa_m P)), (nI (qa_w P)), 15625, 1000000000000, (nI (qa_v P)), (nI (qa_c P)), cW, sT, sK, pM, oC, aK, aC, aO, aX, aY, aZ, aW, aB, aA, aI, aM, aP, aN, aV, aE, aR, aL, aT, aG, aS, aU) := by
  have h6 := qa_v6 hO
  have IF := qa_INV_it hO (qa_v P) (Nat.le_refl _)
  obtain ⟨x1, x2, x3, x4, x5⟩ := X
  unfold wpX_choosePlaces
  refine nm_e ⟨qa_v P + 1, ?_⟩
  refine pk_loopD (fun n e (t : Int32 × (Nat → Int32) × (Nat → Nat)) => wX_choosePlaces_9 post mV mI (nI (qa_m P)) (nI (qa_w P)) 15625 1000000000000 (nI (qa_v P)) (nI (qa_c P)) cW sT sK pM oC n t.1 (nI e - 1) aK aC aO aX aY aZ aW aB aA aI aM aP aN aV aE aR t.2.1 aT aG aS aU)
    (fun e t => qa_CI P e t.1 t.2.1 t.2.2) (fun n t hI => ?_) (fun n s t hI ih => ?_) (qa_v P) (0, aL, fun u => qa_pn (qa_F P) u) ⟨Nat.le_refl _, qa_mk_congr (qa_mk_0 _) (fun u hu => (qa_L_end hO hu).symm), fun u hu h5 => ⟨x5 u hu h5, rfl⟩, fun u hu hl => ?_, fun t h1 h2 => absurd h1 (by omega)⟩
  · obtain ⟨_, _, c1, c2, c3⟩ := hI
    exact br_t (by decide) (h _ t.2.2 ⟨fun v hv => (c2 v hv rfl).2, fun v hv h5 => (c1 v hv h5).2, fun s hs h5 p hp => c3 s (Nat.zero_le _) hs h5 p hp⟩ (fun v hv => (c2 v hv rfl).1))
  · obtain ⟨y1, qL, a⟩ := t
    obtain ⟨hs', m1, c1, c2, c3⟩ := hI
    dsimp only at m1 c1 c2 c3 ih ⊢
    have hs : s < qa_v P := by omega
    have hk := qa_pk_ok hO (qa_INV_it hO s (by omega)) hs
    have eL : qa_L (qa_it P (s + 1)) = qa_fL (qa_it P s) (qa_pk P (qa_it P s)) := qa_L_st P (qa_it P s)
    have mo : qa_mk (qa_v P) (y1 ||| ((1 : Int32) <<< (nI (qa_pk P (qa_it P s)) &&& 31))) (qa_L (qa_it P s)) := by
      refine qa_mk_congr (qa_mk_or m1 (qa_mk_1 hk.1 h6)) (fun u _ => ?_)
      rw [eL]
      unfold qa_fL
      by_cases c : u = qa_pk P (qa_it P s)
      · rw [decide_eq_true c, Bool.or_true, c, hk.2]
      · rw [decide_eq_false c, Bool.or_false, decide_eq_true c, Bool.and_true]
    have lu : ∀ u, qa_L (qa_it P s) u = true → u ≠ qa_pk P (qa_it P s) → qa_L (qa_it P (s + 1)) u = true := by
      intro u h1 h2
      rw [eL]
      exact qa_fL_iff.mpr ⟨h1, h2⟩
    have em : nI s + (-1) = nI s - 1 := (Int32.sub_eq_add_neg (nI s) 1).symm
    rw [nI_pred]
    refine br_f (nI_pos (by omega)) ⟨pk_in s 6 (by omega), ?_⟩
    rw [nI_clamp (by omega), hR s hs]
    refine nm_e (qx_has (by omega) ?_)
    rw [qa_mk_b x4 hk.1 h6]
    refine qa_br (fun e => ⟨qa_in (by omega), ?_⟩) (fun e => ?_)
    · have h5 : ¬ qa_pn (qa_F P) (qa_pk P (qa_it P s)) < 5 := of_decide_eq_false e
      rw [nI_clamp (by omega)]
      have hm := qa_mk_and (x1 _ hk.1) m1
      refine qx_bestPlace (f := fun u => qa_N (qa_F P) (qa_pk P (qa_it P s)) u && qa_L (qa_it P (s + 1)) u) (b := a) h6 x2 x3 (fun u hu => qa_mk_b hm hu h6) (fun u hu hf => ?_) hk.1 (fun p hp => ?_) (fun r hr hmin => ⟨qa_in (by omega), ?_⟩)
      · rw [Bool.and_eq_true] at hf
        exact c2 u hu hf.2
      · have h59 : 2 ^ (41 + 3 * qa_v P) ≤ 2 ^ 59 := Nat.pow_le_pow_right (by omega) (by omega)
        have := qa_key_le (P := P) (V := qa_V (qa_F P)) (E := qa_E (qa_F P)) (m := fun u => qa_N (qa_F P) (qa_pk P (qa_it P s)) u && qa_L (qa_it P (s + 1)) u) (b := a) (v := qa_pk P (qa_it P s)) (p := p) (B := 2 ^ (41 + 3 * qa_v P)) h6 (IF.2.2.2.2.2.2.1 _ p hk.1 hp) (fun u hu hf => by
          rw [Bool.and_eq_true] at hf
          exact IF.2.2.2.2.2.2.2.1 _ p u _ hk.1 hp hu (c2 u hu hf.2).2)
        omega
      · unfold wX_choosePlaces_51
        refine nm_e (nm_e (nm_r em (ih (_, upd qL (qa_pk P (qa_it P s)) (nI r), fun u => if u = qa_pk P (qa_it P s) then r else a u) ⟨by omega, mo, fun u hu g5 => ?_, fun u hu hl => ?_, fun t h1 h2 g5 p hp => ?_⟩)))
        · have ne : u ≠ qa_pk P (qa_it P s) := fun z => h5 (by rw [← z]; exact g5)
          dsimp only
          rw [pk_un ne, if_neg ne]
          exact c1 u hu g5
        · dsimp only
          by_cases ne : u = qa_pk P (qa_it P s)
          · rw [ne, pk_us, if_pos rfl]; exact ⟨rfl, hr⟩
          · rw [pk_un ne, if_neg ne]
            exact c2 u hu (lu u hl ne)
        · dsimp only
          have off : ∀ k u, s + 1 ≤ k → k ≤ qa_v P → qa_L (qa_it P k) u = true → u ≠ qa_pk P (qa_it P s) := by
            intro k u k1 k2 hl z
            have := qa_gone (P := P) (s := s + 1) (k - (s + 1)) _ (qa_out P s)
            rw [show s + 1 + (k - (s + 1)) = k by omega, ← z, hl] at this
            exact Bool.noConfusion this
          have kc : ∀ t q, s ≤ t → t < qa_v P → qa_kf P t (fun u => if u = qa_pk P (qa_it P s) then r else a u) q = qa_kf P t a q := by
            intro t q t1 t2
            unfold qa_kf
            refine qa_key_congr rfl (fun _ _ => rfl) (fun u hu hf => ?_)
            rw [Bool.and_eq_true] at hf
            (try dsimp only)
            rw [if_neg (off (t + 1) u (by omega) (by omega) hf.2)]
          rw [kc t _ h1 h2, kc t _ h1 h2]
          by_cases ct : t = s
          · rw [ct, if_pos rfl]
            exact hmin p hp
          · have hk2 := qa_pk_ok hO (qa_INV_it hO t (by omega)) h2
            rw [if_neg (off t _ (by omega) (by omega) hk2.2)]
            exact c3 t (by omega) h2 g5 p hp
    · have h5 : qa_pn (qa_F P) (qa_pk P (qa_it P s)) < 5 := of_decide_eq_true e
      unfold wX_choosePlaces_51
      refine nm_e (nm_r em (ih (_, qL, a) ⟨by omega, mo, c1, fun u hu hl => ?_, fun t h1 h2 g5 p hp => ?_⟩))
      · by_cases ne : u = qa_pk P (qa_it P s)
        · have := c1 u hu (by rw [ne]; exact h5)
          show qL u = nI (a u) ∧ a u < 5
          rw [this.2]
          exact ⟨this.1, by rw [ne]; exact h5⟩
        · exact c2 u hu (lu u hl ne)
      · by_cases ct : t = s
        · rw [ct] at g5; exact absurd h5 g5
        · exact c3 t (by omega) h2 g5 p hp
  · rw [qa_L_end hO hu] at hl
    exact Bool.noConfusion hl
theorem qx_trialCost {post : Int32 → Prop} {b : Nat → Nat} (h6 : qa_v P ≤ 6) (hM : ∀ u v, u < qa_v P → v < qa_v P → aM (u * 6 + v) = nI (qa_mt P u v)) (hp : ∀ v p, v < qa_v P → p < 5 → aP (v * 5 + p) = nI (qa_pr P v p)) (hT : ∀ v, v < qa_v P → aT v = nI (b v) ∧ b v < 5)
    (h : post (nI (qa_cost P b))) : wpX_trialCost post (mV, mI, mC, vC, sC, fO, (nI (qa_v P)), nC, cW, sT, sK, pM, oC, aK, aC, aO, aX, aY, aZ, aW, aB, aA, aI, aM, aP, aN, aV, aE, aR, aL, aT, aG, aS, aU) := by
  unfold wpX_trialCost
  refine qa_up (fun n v => wX_trialCost_4 post mV mI mC vC sC fO (nI (qa_v P)) nC cW sT sK pM oC aK aC aO aX aY aZ aW aB aA aI aM aP aN aV aE aR aL aT aG aS aU n (nI (qa_sum (fun v => qa_pr P v (b v) + qa_sum (fun u => qa_pc P u (b u) v (b v)) v) v)) (nI v)) (qa_v P) (fun n => ?_) (fun n v hv ih => ?_)
  · exact pk_le (qa_v P) (qa_v P) (fun _ => h) (fun h => absurd h (by omega))
  · have tv := hT v hv
    refine pk_le (qa_v P) v (fun h => absurd h (by omega)) (fun _ => ⟨pk_in v 6 (by omega), ?_⟩)
    rw [nI_clamp (n := v) (by omega), tv.1, qa_i5]
    refine ⟨qa_in (by omega), ?_⟩
    rw [nI_clamp (by omega), hp v _ hv tv.2, nI_add]
    refine nm_e ?_
    refine qa_up (fun k u => wX_trialCost_32 post (wX_trialCost_4 post mV mI mC vC sC fO (nI (qa_v P)) nC cW sT sK pM oC aK aC aO aX aY aZ aW aB aA aI aM aP aN aV aE aR aL aT aG aS aU n) (nI v) mV mI mC vC sC fO (nI (qa_v P)) nC cW sT sK pM oC aK aC aO aX aY aZ aW aB aA aI aM aP aN aV aE aR aL aT aG aS aU k (nI (qa_sum (fun v => qa_pr P v (b v) + qa_sum (fun u => qa_pc P u (b u) v (b v)) v) v + qa_pr P v (b v) + qa_sum (fun u => qa_pc P u (b u) v (b v)) u)) (nI u)) v (fun k => ?_) (fun k u hu ih2 => ?_)
    · (try dsimp only at ih)
      rw [qa_sum_s, ← Nat.add_assoc] at ih
      exact pk_le v v (fun _ => nm_r (nI_1 v) ih) (fun h => absurd h (by omega))
    · have tu := hT u (by omega)
      refine pk_le v u (fun h => absurd h (by omega)) (fun _ => ⟨pk_in u 6 (by omega), pk_in v 6 (by omega), ?_⟩)
      rw [nI_clamp (n := u) (by omega), nI_clamp (n := v) (by omega), tu.1, tv.1]
      refine qx_pairCost (P := P) (by omega) tu.2 (by omega) tv.2 (hM u v (by omega) hv) ?_
      rw [nI_add]
      (try dsimp only at ih2)
      rw [qa_sum_s, ← Nat.add_assoc] at ih2
      exact nm_e (nm_r (nI_1 u) ih2)
theorem qx_trialAllowed {post : Int32 → Prop} {b : Nat → Nat} (hP : qa_PG P aK aC aO aX aY aZ aW) (hI : ∀ u, u < qa_v P → qa_mk (qa_v P) (aI u) (qa_I P u)) (hT : ∀ v, v < qa_v P → aT v = nI (b v) ∧ b v < 5)
    (h : post (qa_b (qa_alw P b))) : wpX_trialAllowed post (mV, mI, mC, vC, sC, fO, (nI (qa_v P)), nC, cW, sT, sK, pM, oC, aK, aC, aO, aX, aY, aZ, aW, aB, aA, aI, aM, aP, aN, aV, aE, aR, aL, aT, aG, aS, aU) := by
  have h6 := qa_v6 hP.1
  unfold wpX_trialAllowed
  refine loop_0 (fun n v (_ : Unit) => wX_trialAllowed_2 post mV mI mC vC sC fO (nI (qa_v P)) nC cW sT sK pM oC aK aC aO aX aY aZ aW aB aA aI aM aP aN aV aE aR aL aT aG aS aU n (nI v)) (fun v _ => qa_all (fun v => qa_fit P v (b v) && qa_all (fun u => !qa_cl P u (b u) v (b v)) v) v = true) (qa_v P) () rfl (fun n _ hs => ?_) (fun n v _ hv hs ih => ?_)
  · refine pk_le (qa_v P) (qa_v P) (fun _ => ?_) (fun h => absurd h (by omega))
    unfold qa_alw at h
    rw [hs] at h
    exact h
  · have tv := hT v hv
    have hk := qa_gK hP hv
    have bad : (qa_fit P v (b v) && qa_all (fun u => !qa_cl P u (b u) v (b v)) v) = false → post 0 := by
      intro e
      unfold qa_alw at h
      rw [qa_all_f hv e] at h
      exact h
    refine pk_le (qa_v P) v (fun h => absurd h (by omega)) (fun _ => ⟨pk_in v 6 (by omega), pk_in v 6 (by omega), ?_⟩)
    rw [nI_clamp (n := v) (by omega), hk.1, tv.1]
    refine qx_isPlace hk.2 (by omega) (qa_br (fun e => bad ?_) (fun e => ?_))
    · rw [show qa_fit P v (b v) = false from e, Bool.false_and]
    · have e' : qa_fit P v (b v) = true := e
      refine loop_0 (fun k u (_ : Unit) => wX_trialAllowed_33 post (wX_trialAllowed_2 post mV mI mC vC sC fO (nI (qa_v P)) nC cW sT sK pM oC aK aC aO aX aY aZ aW aB aA aI aM aP aN aV aE aR aL aT aG aS aU n) (nI v) mV mI mC vC sC fO (nI (qa_v P)) nC cW sT sK pM oC aK aC aO aX aY aZ aW aB aA aI aM aP aN aV aE aR aL aT aG aS aU k (nI u)) (fun u _ => qa_all (fun u => !qa_cl P u (b u) v (b v)) u = true) v () rfl (fun k _ hu => ?_) (fun k u _ hu ha ih2 => ?_)
      · refine pk_le v v (fun _ => nm_r (nI_1 v) (ih () ?_)) (fun h => absurd h (by omega))
        rw [qa_all_s, hs, e', hu]; rfl
      · have tu := hT u (by omega)
        refine pk_le v u (fun h => absurd h (by omega)) (fun _ => ⟨pk_in u 6 (by omega), pk_in v 6 (by omega), ?_⟩)
        rw [nI_clamp (n := u) (by omega), nI_clamp (n := v) (by omega), tu.1, tv.1]
        refine qx_clash hP (by omega) tu.2 hv tv.2 (qa_mk_b (hI u (by omega)) hv h6) (qa_br (fun c => nm_r (nI_1 u) (ih2 () ?_)) (fun c => bad ?_))
        · rw [qa_all_s, ha, c]; rfl
        · rw [qa_all_f hu (by rw [c]; rfl), Bool.and_false]
end
/-- what X holds while it stands -/
def qa_XS (P : QA_P) (aI aM aP aL : Nat → Int32) (pM : Int32) (a : Nat → Nat) : Prop :=
  (∀ u, u < qa_v P → qa_mk (qa_v P) (aI u) (qa_I P u)) ∧ (∀ u v, u < qa_v P → v < qa_v P → aM (u * 6 + v) = nI (qa_mt P u v)) ∧
  (∀ v p, v < qa_v P → p < 5 → aP (v * 5 + p) = nI (qa_pr P v p)) ∧ (∀ v, v < qa_v P → aL v = nI (a v)) ∧ qa_mk (qa_v P) pM (fun u => decide (qa_pn (qa_F P) u < 5))
section
variable {P : QA_P} {mV mI mC vC nV nC cW sT sK pM oC : Int32} {sC fO : Int64} {aK aC aO aX aY aZ aW aB aA aI aM aP aN aR aL aT aG aS aU : Nat → Int32} {aV aE : Nat → Int64}
theorem qx_allocate {post : Int32 → SX → Prop} (hP : qa_PG P aK aC aO aX aY aZ aW)
    (h : ∀ pM' aB' aA' aI' aM' aP' aN' aV' aE' aR' aL' aT' a, qa_chs P a → qa_XS P aI' aM' aP' aL' pM' a →
      post (nI (qa_cost P a)) (mV, mI, (nI (qa_m P)), (nI (qa_w P)), 15625, 1000000000000, (nI (qa_v P)), (nI (qa_c P)), cW, 1, (nI (qa_cost P a)), pM', 0, aK, aC, aO, aX, aY, aZ, aW, aB', aA', aI', aM', aP', aN', aV', aE', aR', aL', aT', (qa_fill aG (fun _ => 0) 4), (qa_fill aS (fun _ => 0) 6), aU)) : wpX_allocate post (mV, mI, (nI (qa_m P)), (nI (qa_w P)), 15625, 1000000000000, (nI (qa_v P)), (nI (qa_c P)), cW, sT, sK, pM, oC, aK, aC, aO, aX, aY, aZ, aW, aB, aA, aI, aM, aP, aN, aV, aE, aR, aL, aT, aG, aS, aU) := by
  have h6 := qa_v6 hP.1
  unfold wpX_allocate
  refine qx_drop ?_
  refine qx_findNeeded hP (fun aB' aA' hA => ?_)
  refine qx_findInterference hP hA (fun aI' hI => ?_)
  refine qx_findPrices hP (fun aP' hp => ?_)
  refine qx_findMoves hP hI (fun aM' aN' hM hN => ?_)
  refine qx_buildProblem hP hI hM hp (fun aV' aE' hV hE => ?_)
  refine qx_reduce hP hI hp ⟨hN, hV, hE, qa_mk_congr (qa_mk_0 _) (fun u _ => rfl), fun u _ h5 => absurd h5 (by show ¬ (5 < 5); omega)⟩ (fun aN2 aV2 aE2 aR2 aL2 pM2 X hR => ?_)
  refine qx_choose hP.1 X hR (fun aL3 a hc hL => ?_)
  refine qa_upF (fun n j t => wX_allocate_34 post mV mI (nI (qa_m P)) (nI (qa_w P)) 15625 1000000000000 (nI (qa_v P)) (nI (qa_c P)) cW 0 sK pM2 0 n (nI j) aK aC aO aX aY aZ aW aB' aA' aI' aM' aP' aN2 aV2 aE2 aR2 aL3 t (qa_fill aG (fun _ => 0) 4) (qa_fill aS (fun _ => 0) 6) aU) aT aL3 (qa_v P) (fun n => ?_) (fun n j hj ih => ?_)
  · refine pk_le (qa_v P) (qa_v P) (fun _ => ?_) (fun h => absurd h (by omega))
    exact qx_trialCost (b := a) h6 hM hp (fun v hv => by rw [qa_fill_lt hv]; exact ⟨hL v hv, hc.1 v hv⟩) (h _ _ _ _ _ _ _ _ _ _ _ _ a hc ⟨hI, hM, hp, hL, X.2.2.2.1⟩)
  · exact pk_le (qa_v P) j (fun h => absurd h (by omega)) (fun _ => ⟨pk_in j 6 (by omega), pk_in j 6 (by omega), nm_r (by rw [nI_clamp (by omega)]) (nm_r (nI_1 j) ih)⟩)
end
end
section
/-! ===== Y: the small methods ===== -/
section
variable {P : QA_P} {mV mI mC vC nV nC oC hC cW sT : Int32} {aK aC aO aX aY aZ aW bC bN bL bB bP bA bV aU aG : Nat → Int32}
theorem qy_clamp {post : Int32 → Prop} {p0 p1 p2 : Int32} (h : post (qa_cp p0 p1 p2)) : wpY_clamp post (mV, mI, mC, vC, nV, nC, oC, hC, cW, sT, aK, aC, aO, aX, aY, aZ, aW, bC, bN, bL, bB, bP, bA, bV, aU, aG) p0 p1 p2 := by
  unfold wpY_clamp
  unfold qa_cp at h
  refine br_c (fun c => br_c (fun d => ?_) (fun d => ?_)) (fun c => ?_)
  · rwa [if_pos c, if_pos d] at h
  · rwa [if_pos c, if_neg d] at h
  · rwa [if_neg c] at h
theorem qy_known0 {post : Int32 → Prop} {w : Int32} (hw : w < 0 ∨ nV ≤ w) (h : post 0) : wpY_known post (mV, mI, mC, vC, nV, nC, oC, hC, cW, sT, aK, aC, aO, aX, aY, aZ, aW, bC, bN, bL, bB, bP, bA, bV, aU, aG) w := by
  unfold wpY_known
  refine br_c (fun _ => h) (fun c => br_t ?_ h)
  rcases hw with d | d
  · exact absurd d c
  · exact d
theorem qy_known1 {post : Int32 → Prop} {j : Nat} (hj : j < qa_v P) (hv : qa_v P ≤ 6) (h : post 1) : wpY_known post (mV, mI, mC, vC, (nI (qa_v P)), nC, oC, hC, cW, sT, aK, aC, aO, aX, aY, aZ, aW, bC, bN, bL, bB, bP, bA, bV, aU, aG) (nI j) := by
  unfold wpY_known
  exact br_f (nI_pos (by omega)) (pk_le (qa_v P) j (fun e => absurd e (by omega)) (fun _ => h))
theorem qy_clear {post : SY → Prop} (h : post (mV, mI, mC, vC, nV, nC, 0, hC, cW, sT, aK, aC, aO, aX, aY, aZ, aW, bC, bN, bL, bB, bP, bA, bV, aU, (qa_fill aG (fun _ => 0) 4))) : wpY_clear post (mV, mI, mC, vC, nV, nC, oC, hC, cW, sT, aK, aC, aO, aX, aY, aZ, aW, bC, bN, bL, bB, bP, bA, bV, aU, aG) := by
  unfold wpY_clear
  refine qa_upF (fun n j a => wY_clear_7 post mV mI mC vC nV nC 0 hC cW sT n (nI j) aK aC aO aX aY aZ aW bC bN bL bB bP bA bV aU a) aG (fun _ => 0) 4 (fun n => ?_) (fun n j hj ih => ?_)
  · exact pk_le 4 4 (fun _ => h) (fun h => absurd h (by omega))
  · exact pk_le 4 j (fun h => absurd h (by omega)) (fun _ => ⟨pk_in j 4 hj, nm_r (by rw [nI_clamp (by omega)]) (nm_r (nI_1 j) ih)⟩)
theorem qy_drop {post : SY → Prop} (h : post (mV, mI, mC, vC, nV, nC, 0, hC, cW, 0, aK, aC, aO, aX, aY, aZ, aW, bC, bN, bL, bB, bP, bA, bV, aU, (qa_fill aG (fun _ => 0) 4))) : wpY_drop post (mV, mI, mC, vC, nV, nC, oC, hC, cW, sT, aK, aC, aO, aX, aY, aZ, aW, bC, bN, bL, bB, bP, bA, bV, aU, aG) := by
  unfold wpY_drop
  exact qy_clear h
theorem qy_fits {post : Int32 → Prop} (hP : qa_PG P aK aC aO aX aY aZ aW) {v q : Nat} (hv : v < qa_v P) (hq : q < 2 ^ 31) (h : post (qa_b (qa_fit P v q))) : wpY_fits post (mV, mI, mC, vC, nV, nC, oC, hC, cW, sT, aK, aC, aO, aX, aY, aZ, aW, bC, bN, bL, bB, bP, bA, bV, aU, aG) (nI v) (nI q) := by
  have h6 := qa_v6 hP.1
  have hk := qa_gK hP hv
  unfold qa_fit at h
  unfold wpY_fits
  refine pk_eq q 4 (fun e => qa_p1 (by omega) h) (fun e => ?_)
  refine br_f (nI_pos hq) ?_
  refine pk_le 4 q (fun e3 => qa_p0 (by omega) h) (fun e3 => ⟨pk_in v 6 (by omega), ?_⟩)
  rw [nI_clamp (by omega), hk.1]
  have g : ¬ qa_k P v = 0 → ¬ (qa_k P v = 1 ∧ (q = 0 ∨ q = 2)) → wY_fits_42 post (nI v) (nI q) mV mI mC vC nV nC oC hC cW sT aK aC aO aX aY aZ aW bC bN bL bB bP bA bV aU aG := by
    intro g0 g1
    unfold wY_fits_42
    refine ⟨pk_in v 6 (by omega), ?_⟩
    rw [nI_clamp (by omega), hk.1]
    exact pk_eq (qa_k P v) 2 (fun k2 => pk_le 2 q (fun e => qa_p0 (by omega) h) (fun e => qa_p1 (by omega) h)) (fun k2 => qa_p0 (by omega) h)
  refine pk_eq (qa_k P v) 0 (fun k0 => qa_p1 (by omega) h) (fun k0 => ⟨pk_in v 6 (by omega), ?_⟩)
  exact pk_eq (qa_k P v) 1 (fun k1 => pk_eq q 0 (fun e => qa_p1 (by omega) h) (fun e0 => pk_eq q 2 (fun e => qa_p1 (by omega) h) (fun e2 => g (by omega) (by omega)))) (fun k1 => g (by omega) (by omega))
theorem qy_fitsN {post : Int32 → Prop} {k w : Int32} (hw : w < 0) (h : post 0) : wpY_fits post (mV, mI, mC, vC, nV, nC, oC, hC, cW, sT, aK, aC, aO, aX, aY, aZ, aW, bC, bN, bL, bB, bP, bA, bV, aU, aG) k w := by
  unfold wpY_fits
  refine br_f (fun e => ?_) (br_t hw h)
  rw [e] at hw
  exact absurd hw (by decide)
theorem qy_holds {post : Int32 → Prop} (hP : qa_PG P aK aC aO aX aY aZ aW) {v p r : Nat} (hv : v < qa_v P) (hp : p < 5) (hr : r < 4) (h : post (qa_b (qa_occ P v p r))) : wpY_holds post (mV, mI, mC, vC, nV, nC, oC, hC, cW, sT, aK, aC, aO, aX, aY, aZ, aW, bC, bN, bL, bB, bP, bA, bV, aU, aG) (nI v) (nI p) (nI r) := by
  have h6 := qa_v6 hP.1
  have hk := qa_gK hP hv
  unfold qa_occ at h
  unfold wpY_holds
  refine pk_le 4 p (fun e => qa_p0 (by omega) h) (fun e4 => ?_)
  refine pk_eq r p (fun e => qa_p1 (by omega) h) (fun er => ⟨pk_in v 6 (by omega), ?_⟩)
  rw [nI_clamp (by omega), hk.1, nI_1]
  exact pk_eq (qa_k P v) 1 (fun k1 => pk_eq r (p + 1) (fun e => qa_p1 (by omega) h) (fun e => qa_p0 (by omega) h)) (fun k1 => qa_p0 (by omega) h)
theorem qy_share {post : Int32 → Prop} (hP : qa_PG P aK aC aO aX aY aZ aW) {u p v q : Nat} (hu : u < qa_v P) (hp : p < 5) (hv : v < qa_v P) (hq : q < 5) (h : post (qa_b (qa_sh P u p v q))) : wpY_share post (mV, mI, mC, vC, nV, nC, oC, hC, cW, sT, aK, aC, aO, aX, aY, aZ, aW, bC, bN, bL, bB, bP, bA, bV, aU, aG) (nI u) (nI p) (nI v) (nI q) := by
  unfold wpY_share
  refine loop_0 (fun n r (_ : Unit) => wY_share_3 post (nI u) (nI p) (nI v) (nI q) mV mI mC vC nV nC oC hC cW sT aK aC aO aX aY aZ aW bC bN bL bB bP bA bV aU aG n (nI r)) (fun r _ => qa_any (fun r => qa_occ P u p r && qa_occ P v q r) r = false) 4 () rfl (fun n _ hs => ?_) (fun n r _ hr hs ih => ?_)
  · refine pk_le 4 4 (fun _ => ?_) (fun h => absurd h (by omega))
    unfold qa_sh at h
    rw [hs] at h
    exact h
  · refine pk_le 4 r (fun h => absurd h (by omega)) (fun _ => ?_)
    refine qy_holds hP hu hp hr (qa_br (fun e => nm_r (nI_1 r) (ih () ?_)) (fun e => qy_holds hP hv hq hr (qa_br (fun f => nm_r (nI_1 r) (ih () ?_)) (fun f => ?_))))
    · rw [qa_any_s, hs, e]; rfl
    · rw [qa_any_s, hs, e, f]; rfl
    · have : qa_sh P u p v q = true := qa_any_iff.mpr ⟨r, hr, by rw [e, f]; rfl⟩
      rw [this] at h
      exact h
theorem qy_alike {post : Int32 → Prop} (hP : qa_PG P aK aC aO aX aY aZ aW) {u v : Nat} (hu : u < qa_v P) (hv : v < qa_v P) (h : post (qa_b (qa_al P u v))) : wpY_alike post (mV, mI, mC, vC, nV, nC, oC, hC, cW, sT, aK, aC, aO, aX, aY, aZ, aW, bC, bN, bL, bB, bP, bA, bV, aU, aG) (nI u) (nI v) := by
  have h6 := qa_v6 hP.1
  have ku := qa_gK hP hu
  have kv := qa_gK hP hv
  unfold qa_al at h
  unfold wpY_alike
  refine ⟨pk_in u 6 (by omega), ?_⟩
  rw [nI_clamp (by omega), ku.1]
  have g : ∀ z : Int32, (∀ b : Bool, z = qa_b b → (b = true ↔ qa_k P u = 1) → wY_alike_15 post (nI v) z mV mI mC vC nV nC oC hC cW sT aK aC aO aX aY aZ aW bC bN bL bB bP bA bV aU aG) := by
    intro z b hz hb
    subst hz
    unfold wY_alike_15
    refine ⟨pk_in v 6 (by omega), ?_⟩
    rw [nI_clamp (by omega), kv.1]
    refine pk_eq (qa_k P v) 1 (fun k1 => ?_) (fun k1 => ?_)
    · unfold wY_alike_30
      cases b
      · exact br_f (by decide) (qa_p0 (by rw [← hb, k1]; simp) h)
      · exact br_t (by decide) (qa_p1 (by rw [← hb, k1]; simp) h)
    · unfold wY_alike_30
      cases b
      · exact br_t (by decide) (qa_p1 (by rw [← hb]; simp [k1]) h)
      · exact br_f (by decide) (qa_p0 (by rw [← hb]; simp [k1]) h)
  exact pk_eq (qa_k P u) 1 (fun k1 => g 1 true rfl (by simp [k1])) (fun k1 => g 0 false rfl (by simp [k1]))
theorem qy_writes {post : Int32 → Prop} (hP : qa_PG P aK aC aO aX aY aZ aW) {i u : Nat} (hi : i < qa_c P) (hu : u < qa_v P) (h : post (qa_b (qa_wr P i u))) : wpY_writes post (mV, mI, mC, vC, nV, nC, oC, hC, cW, sT, aK, aC, aO, aX, aY, aZ, aW, bC, bN, bL, bB, bP, bA, bV, aU, aG) (nI i) (nI u) := by
  have h6 := qa_v6 hP.1
  have h16 := qa_c16 hP.1
  have hO := qa_gO hP hi
  have hX := qa_gX hP hi
  unfold qa_wr at h
  unfold wpY_writes
  refine ⟨pk_in i 16 (by omega), ?_⟩
  rw [nI_clamp (by omega), hO.1, hX.1]
  exact pk_lt 5 (qa_o P i) (fun e => qa_p0 (by omega) h) (fun e => ⟨pk_in i 16 (by omega), pk_eq (qa_x P i) u (fun f => qa_p1 (by omega) h) (fun f => qa_p0 (by omega) h)⟩)
theorem qy_second {post : Int32 → Prop} (hP : qa_PG P aK aC aO aX aY aZ aW) {i u : Nat} (hi : i < qa_c P) (hu : u < qa_v P) (h : post (qa_b (qa_sec P i u))) : wpY_second post (mV, mI, mC, vC, nV, nC, oC, hC, cW, sT, aK, aC, aO, aX, aY, aZ, aW, bC, bN, bL, bB, bP, bA, bV, aU, aG) (nI i) (nI u) := by
  have h6 := qa_v6 hP.1
  have h16 := qa_c16 hP.1
  have hO := qa_gO hP hi
  unfold qa_sec at h
  unfold wpY_second
  refine ⟨pk_in i 16 (by omega), ?_⟩
  rw [nI_clamp (by omega), hO.1]
  refine pk_lt (qa_o P i) 1 (fun e => qa_p0 (by omega) h) (fun e => ⟨pk_in i 16 (by omega), pk_lt 4 (qa_o P i) (fun e => qa_p0 (by omega) h) (fun f => ⟨pk_in i 16 (by omega), ?_⟩)⟩)
  have hY := qa_gY hP hi e f
  rw [hY.1]
  exact pk_eq (qa_y P i) u (fun f => qa_p1 (by omega) h) (fun f => qa_p0 (by omega) h)
theorem qy_third {post : Int32 → Prop} (hP : qa_PG P aK aC aO aX aY aZ aW) {i u : Nat} (hi : i < qa_c P) (hu : u < qa_v P) (h : post (qa_b (qa_thd P i u))) : wpY_third post (mV, mI, mC, vC, nV, nC, oC, hC, cW, sT, aK, aC, aO, aX, aY, aZ, aW, bC, bN, bL, bB, bP, bA, bV, aU, aG) (nI i) (nI u) := by
  have h6 := qa_v6 hP.1
  have h16 := qa_c16 hP.1
  have hO := qa_gO hP hi
  unfold qa_thd at h
  unfold wpY_third
  refine ⟨pk_in i 16 (by omega), ?_⟩
  rw [nI_clamp (by omega), hO.1]
  refine pk_lt (qa_o P i) 2 (fun e => qa_p0 (by omega) h) (fun e => ⟨pk_in i 16 (by omega), pk_lt 4 (qa_o P i) (fun e => qa_p0 (by omega) h) (fun f => ⟨pk_in i 16 (by omega), ?_⟩)⟩)
  have hZ := qa_gZ hP hi e f
  rw [hZ.1]
  exact pk_eq (qa_z P i) u (fun f => qa_p1 (by omega) h) (fun f => qa_p0 (by omega) h)
theorem qy_reads {post : Int32 → Prop} (hP : qa_PG P aK aC aO aX aY aZ aW) {i u : Nat} (hi : i < qa_c P) (hu : u < qa_v P) (h : post (qa_b (qa_rd P i u))) : wpY_reads post (mV, mI, mC, vC, nV, nC, oC, hC, cW, sT, aK, aC, aO, aX, aY, aZ, aW, bC, bN, bL, bB, bP, bA, bV, aU, aG) (nI i) (nI u) := by
  have h6 := qa_v6 hP.1
  have h16 := qa_c16 hP.1
  have hO := qa_gO hP hi
  have hX := qa_gX hP hi
  unfold qa_rd at h
  unfold wpY_reads
  refine qy_second hP hi hu (qa_br (fun e => ?_) (fun e => ?_))
  · rw [e, Bool.false_or] at h
    refine qy_third hP hi hu (qa_br (fun f => ?_) (fun f => ?_))
    · rw [f, Bool.false_or] at h
      refine ⟨pk_in i 16 (by omega), ?_⟩
      rw [nI_clamp (by omega), hO.1, hX.1]
      exact pk_lt (qa_o P i) 6 (fun e => qa_p0 (by omega) h) (fun e => ⟨pk_in i 16 (by omega), pk_eq (qa_x P i) u (fun f => qa_p1 (by omega) h) (fun f => qa_p0 (by omega) h)⟩)
    · rw [f, Bool.true_or] at h
      exact h
  · rw [e, Bool.true_or, Bool.true_or] at h
    exact h
theorem qy_step {post : SY → Prop} (hP : qa_PG P aK aC aO aX aY aZ aW) {i : Nat} (hi : i < qa_c P) (h : ∀ bB', (∀ k, bB' k = 0 ↔ bB k = 0 ∧ ¬ (k = i + 1 ∨ (qa_o P i = 7 ∧ k = i + 1 + qa_y P i))) → post (mV, mI, mC, vC, nV, nC, oC, hC, cW, sT, aK, aC, aO, aX, aY, aZ, aW, bC, bN, bL, bB', bP, bA, bV, aU, aG)) : wpY_step post (mV, mI, mC, vC, nV, nC, oC, hC, cW, sT, aK, aC, aO, aX, aY, aZ, aW, bC, bN, bL, bB, bP, bA, bV, aU, aG) (nI i) := by
  have h16 := qa_c16 hP.1
  have hO := qa_gO hP hi
  have u1 : ∀ (a : Nat → Int32) j k, upd a j 1 k = 0 ↔ a k = 0 ∧ ¬ k = j := by
    intro a j k
    by_cases c : k = j
    · rw [c, pk_us]; exact ⟨fun z => absurd z (by decide), fun z => absurd rfl z.2⟩
    · rw [pk_un c]; exact ⟨fun z => ⟨z, c⟩, fun z => z.1⟩
  unfold wpY_step
  rw [nI_1]
  refine ⟨qa_in (by omega), ?_⟩
  rw [nI_clamp (n := i + 1) (by omega), nI_clamp (n := i) (by omega), qa_vb1]
  refine nm_e ⟨pk_in i 16 (by omega), ?_⟩
  rw [hO.1]
  refine pk_eq (qa_o P i) 7 (fun o7 => ⟨pk_in i 16 (by omega), ?_⟩) (fun o7 => h _ (fun k => ?_))
  · have hS := qa_gS hP hi o7
    rw [hS.1, nI_add]
    refine ⟨qa_in (by omega), ?_⟩
    rw [nI_clamp (by omega)]
    refine nm_e (h _ (fun k => ?_))
    rw [u1, u1]
    constructor
    · intro z; exact ⟨z.1.1, by omega⟩
    · intro z; exact ⟨⟨z.1, by omega⟩, by omega⟩
  · rw [u1]
    constructor
    · intro z; exact ⟨z.1, by omega⟩
    · intro z; exact ⟨z.1, by omega⟩
theorem qy_joins {post : Int32 → Prop} (hP : qa_PG P aK aC aO aX aY aZ aW) {i : Nat} (hi : i < qa_c P) (h : post (qa_b (qa_jn P i))) : wpY_joins post (mV, mI, mC, vC, nV, nC, oC, hC, cW, sT, aK, aC, aO, aX, aY, aZ, aW, bC, bN, bL, bB, bP, bA, bV, aU, aG) (nI i) := by
  have h6 := qa_v6 hP.1
  have h16 := qa_c16 hP.1
  have hO := qa_gO hP hi
  have hX := qa_gX hP hi
  unfold qa_jn at h
  unfold wpY_joins
  refine ⟨pk_in i 16 (by omega), ?_⟩
  rw [nI_clamp (by omega), hO.1, hX.1]
  refine pk_eq (qa_o P i) 1 (fun o1 => ⟨pk_in i 16 (by omega), pk_in i 16 (by omega), ?_⟩) (fun o1 => ?_)
  · have hY := qa_gY hP hi (by omega) (by omega)
    rw [hY.1]
    refine pk_eq (qa_x P i) (qa_y P i) (fun e => ?_) (fun e => ⟨pk_in i 16 (by omega), pk_in i 16 (by omega), ?_⟩)
    · rw [decide_eq_false (by omega), Bool.false_and] at h
      exact h
    · rw [decide_eq_true ⟨o1, e⟩, Bool.true_and] at h
      refine qy_alike hP hX.2 hY.2 (qa_br (fun f => ?_) (fun f => ?_))
      · rw [f] at h; exact h
      · rw [f] at h; exact h
  · rw [decide_eq_false (by omega), Bool.false_and] at h
    exact h
end
end
section
/-! ===== Y: what is needed, who meets whom ===== -/
def qa_fw (P : QA_P) (u j : Nat) (bB : Nat → Int32) : Prop := ∃ k, j ≤ k ∧ k < qa_c P ∧ ¬ bB k = 0 ∧ qa_lb P u k = true
theorem qa_fw_skip {P : QA_P} {u j : Nat} {bB : Nat → Int32} (h : bB j = 0 ∨ qa_lb P u j = false) : qa_fw P u j bB ↔ qa_fw P u (j + 1) bB := by
  constructor
  · rintro ⟨k, h1, h2, h3, h4⟩
    by_cases c : k = j
    · subst c
      rcases h with e | e
      · exact absurd e h3
      · rw [e] at h4; exact Bool.noConfusion h4
    · exact ⟨k, by omega, h2, h3, h4⟩
  · rintro ⟨k, h1, h2, h3, h4⟩
    exact ⟨k, by omega, h2, h3, h4⟩
theorem qa_la_iff {P : QA_P} {u j : Nat} : qa_la P u j = true ↔ (qa_lb P u (j + 1) = true ∨ (qa_o P j = 7 ∧ qa_lb P u (j + 1 + qa_y P j) = true)) := by
  unfold qa_la
  rw [Bool.or_eq_true, Bool.and_eq_true, decide_eq_true_eq]
theorem qa_lb_c {P : QA_P} {u k : Nat} (h : qa_lb P u k = true) : k < qa_c P := by
  rcases Nat.lt_or_ge k (qa_c P) with c | c
  · exact c
  · rw [qa_lb_ge c] at h; exact Bool.noConfusion h
theorem qa_fw_step {P : QA_P} {u j : Nat} {bB bB' : Nat → Int32} (hB : ∀ k, bB' k = 0 ↔ bB k = 0 ∧ ¬ (k = j + 1 ∨ (qa_o P j = 7 ∧ k = j + 1 + qa_y P j))) :
    qa_fw P u (j + 1) bB' ↔ (qa_fw P u (j + 1) bB ∨ qa_la P u j = true) := by
  constructor
  · rintro ⟨k, h1, h2, h3, h4⟩
    by_cases c : bB k = 0
    · right
      have : k = j + 1 ∨ (qa_o P j = 7 ∧ k = j + 1 + qa_y P j) := Classical.byContradiction (fun z => h3 ((hB k).mpr ⟨c, z⟩))
      rcases this with e | ⟨e1, e2⟩
      · exact qa_la_iff.mpr (Or.inl (by rw [← e]; exact h4))
      · exact qa_la_iff.mpr (Or.inr ⟨e1, by rw [← e2]; exact h4⟩)
    · exact Or.inl ⟨k, h1, h2, c, h4⟩
  · rintro (⟨k, h1, h2, h3, h4⟩ | h)
    · exact ⟨k, h1, h2, fun z => h3 ((hB k).mp z).1, h4⟩
    · rcases qa_la_iff.mp h with e | ⟨e1, e2⟩
      · exact ⟨j + 1, Nat.le_refl _, qa_lb_c e, fun z => ((hB _).mp z).2 (Or.inl rfl), e⟩
      · exact ⟨j + 1 + qa_y P j, by omega, qa_lb_c e2, fun z => ((hB _).mp z).2 (Or.inr ⟨e1, rfl⟩), e2⟩
section
variable {P : QA_P} {mV mI mC vC nV nC oC hC cW sT : Int32} {aK aC aO aX aY aZ aW bC bN bL bB bP bA bV aU aG : Nat → Int32}
theorem qy_needed {post : Int32 → SY → Prop} (hP : qa_PG P aK aC aO aX aY aZ aW) {u i : Nat} (hi : i < qa_c P) (hu : u < qa_v P) (h : ∀ bB', post (qa_b (qa_la P u i)) (mV, mI, (nI (qa_m P)), (nI (qa_w P)), (nI (qa_v P)), (nI (qa_c P)), oC, hC, cW, sT, aK, aC, aO, aX, aY, aZ, aW, bC, bN, bL, bB', bP, bA, bV, aU, aG)) : wpY_needed post (mV, mI, (nI (qa_m P)), (nI (qa_w P)), (nI (qa_v P)), (nI (qa_c P)), oC, hC, cW, sT, aK, aC, aO, aX, aY, aZ, aW, bC, bN, bL, bB, bP, bA, bV, aU, aG) (nI u) (nI i) := by
  have h6 := qa_v6 hP.1
  have h16 := qa_c16 hP.1
  unfold wpY_needed
  refine qa_upF (fun n j a => wY_needed_2 post (nI u) (nI i) mV mI (nI (qa_m P)) (nI (qa_w P)) (nI (qa_v P)) (nI (qa_c P)) oC hC cW sT n (nI j) aK aC aO aX aY aZ aW bC bN bL a bP bA bV aU aG) bB (fun _ => 0) 32 (fun n => ?_) (fun n j hj ih => ?_)
  · refine pk_le 32 32 (fun _ => ?_) (fun h => absurd h (by omega))
    refine qy_step hP hi (fun bB' hB => nm_r (nI_1 i) ?_)
    refine pk_loop (fun n j a => wY_needed_30 post (nI u) n (nI j) mV mI (nI (qa_m P)) (nI (qa_w P)) (nI (qa_v P)) (nI (qa_c P)) oC hC cW sT aK aC aO aX aY aZ aW bC bN bL a bP bA bV aU aG) (fun j a => i + 1 ≤ j ∧ (qa_la P u i = true ↔ qa_fw P u j a)) (qa_c P) (i + 1) bB' (by omega) ⟨Nat.le_refl _, ?_⟩ (fun n a ha => ?_) (fun n j a hj ha ih => ?_)
    · rw [qa_fw_step hB]
      refine ⟨fun z => Or.inr z, fun z => z.elim (fun y => ?_) id⟩
      obtain ⟨k, h1, h2, h3, h4⟩ := y
      exact absurd (qa_fill_lt (by omega)) h3
    · refine pk_le (qa_c P) (qa_c P) (fun _ => ?_) (fun h => absurd h (by omega))
      have : qa_la P u i = false := qa_tf (fun z => by
        obtain ⟨k, h1, h2, _⟩ := ha.2.mp z
        omega)
      have := this ▸ h a
      exact this
    · refine pk_le (qa_c P) j (fun h => absurd h (by omega)) (fun _ => ⟨pk_in j 32 (by omega), ?_⟩)
      rw [nI_clamp (by omega)]
      have g : (a j = 0 ∨ qa_rd P j u = false) → wY_needed_58 post (wY_needed_30 post (nI u) n) (nI u) (nI j) mV mI (nI (qa_m P)) (nI (qa_w P)) (nI (qa_v P)) (nI (qa_c P)) oC hC cW sT aK aC aO aX aY aZ aW bC bN bL a bP bA bV aU aG := by
        intro hc
        unfold wY_needed_58
        refine ⟨pk_in j 32 (by omega), ?_⟩
        rw [nI_clamp (by omega)]
        refine br_c (fun z => nm_r (nI_1 j) (ih a ⟨by omega, ha.2.trans (qa_fw_skip (Or.inl z))⟩)) (fun z => ?_)
        have hr : qa_rd P j u = false := hc.elim (fun e => absurd e z) id
        refine qy_writes hP hj hu (qa_br (fun e => ?_) (fun e => ?_))
        · refine qy_step hP hj (fun b hb => nm_r (nI_1 j) (ih b ⟨by omega, ?_⟩))
          rw [ha.2, qa_fw_step hb]
          have el : qa_lb P u j = qa_la P u j := by rw [qa_lb_eq, decide_eq_true hj, hr, e]; rfl
          constructor
          · rintro ⟨k, h1, h2, h3, h4⟩
            by_cases c : k = j
            · subst c; right; rw [← el]; exact h4
            · exact Or.inl ⟨k, by omega, h2, h3, h4⟩
          · rintro (⟨k, h1, h2, h3, h4⟩ | y)
            · exact ⟨k, by omega, h2, h3, h4⟩
            · exact ⟨j, Nat.le_refl _, hj, z, by rw [el]; exact y⟩
        · refine nm_r (nI_1 j) (ih a ⟨by omega, ha.2.trans (qa_fw_skip (Or.inr ?_))⟩)
          rw [qa_lb_eq, hr, e]
          cases decide (j < qa_c P) <;> rfl
      refine br_c (fun z => g (Or.inl z)) (fun z => qy_reads hP hj hu (qa_br (fun e => g (Or.inr e)) (fun e => ?_)))
      have : qa_la P u i = true := ha.2.mpr ⟨j, Nat.le_refl _, hj, z, by rw [qa_lb_eq, decide_eq_true hj, e]; rfl⟩
      have := this ▸ h a
      exact this
  · exact pk_le 32 j (fun h => absurd h (by omega)) (fun _ => ⟨pk_in j 32 hj, nm_r (by rw [nI_clamp (by omega), qa_vb0]) (nm_r (nI_1 j) ih)⟩)
theorem qy_hits {post : Int32 → SY → Prop} (hP : qa_PG P aK aC aO aX aY aZ aW) {i w o : Nat} (hi : i < qa_c P) (hw : w < qa_v P) (ho : o < qa_v P) (h : ∀ bB', post (qa_b (qa_hit P i w o)) (mV, mI, (nI (qa_m P)), (nI (qa_w P)), (nI (qa_v P)), (nI (qa_c P)), oC, hC, cW, sT, aK, aC, aO, aX, aY, aZ, aW, bC, bN, bL, bB', bP, bA, bV, aU, aG)) : wpY_hits post (mV, mI, (nI (qa_m P)), (nI (qa_w P)), (nI (qa_v P)), (nI (qa_c P)), oC, hC, cW, sT, aK, aC, aO, aX, aY, aZ, aW, bC, bN, bL, bB, bP, bA, bV, aU, aG) (nI i) (nI w) (nI o) := by
  have h6 := qa_v6 hP.1
  have h16 := qa_c16 hP.1
  have hO := qa_gO hP hi
  unfold qa_hit at h
  unfold wpY_hits
  refine qy_writes hP hi hw (qa_br (fun e => ?_) (fun e => ?_))
  · have := h bB
    rw [e, Bool.false_and, Bool.false_and] at this
    exact this
  · refine qy_needed hP hi ho (fun b => qa_br (fun f => ?_) (fun f => ⟨pk_in i 16 (by omega), ?_⟩))
    · have := h b
      rw [e, f] at this
      exact this
    · have h' := h b
      rw [e, f, Bool.true_and, Bool.true_and] at h'
      rw [nI_clamp (by omega), hO.1]
      refine pk_eq (qa_o P i) 1 (fun o1 => ⟨pk_in i 16 (by omega), ?_⟩) (fun o1 => ?_)
      · have hY := qa_gY hP hi (by omega) (by omega)
        rw [hY.1]
        refine pk_eq (qa_y P i) o (fun y => ?_) (fun y => ?_)
        · rw [decide_eq_true ⟨o1, y⟩, Bool.true_and] at h'
          refine qy_alike hP hw ho (qa_br (fun g => ?_) (fun g => ?_))
          · rw [g] at h'; exact h'
          · rw [g] at h'; exact h'
        · rw [decide_eq_false (by omega), Bool.false_and] at h'
          exact h'
      · rw [decide_eq_false (by omega), Bool.false_and] at h'
        exact h'
theorem qy_meet {post : Int32 → SY → Prop} (hP : qa_PG P aK aC aO aX aY aZ aW) {u v : Nat} (hu : u < qa_v P) (hv : v < qa_v P) (h : ∀ bB', post (qa_b (qa_any (qa_mt2 P u v) (qa_c P))) (mV, mI, (nI (qa_m P)), (nI (qa_w P)), (nI (qa_v P)), (nI (qa_c P)), oC, hC, cW, sT, aK, aC, aO, aX, aY, aZ, aW, bC, bN, bL, bB', bP, bA, bV, aU, aG)) : wpY_meet post (mV, mI, (nI (qa_m P)), (nI (qa_w P)), (nI (qa_v P)), (nI (qa_c P)), oC, hC, cW, sT, aK, aC, aO, aX, aY, aZ, aW, bC, bN, bL, bB, bP, bA, bV, aU, aG) (nI u) (nI v) := by
  have h6 := qa_v6 hP.1
  have h16 := qa_c16 hP.1
  unfold wpY_meet
  refine loop_0 (fun n i a => wY_meet_2 post (nI u) (nI v) n (nI i) mV mI (nI (qa_m P)) (nI (qa_w P)) (nI (qa_v P)) (nI (qa_c P)) oC hC cW sT aK aC aO aX aY aZ aW bC bN bL a bP bA bV aU aG) (fun i _ => qa_any (qa_mt2 P u v) i = false) (qa_c P) bB rfl (fun n a ha => ?_) (fun n i a hi ha ih => ?_)
  · refine pk_le (qa_c P) (qa_c P) (fun _ => ?_) (fun h => absurd h (by omega))
    have := h a
    rw [ha] at this
    exact this
  · have yes : qa_mt2 P u v i = true → qa_any (qa_mt2 P u v) (qa_c P) = true := fun z => qa_any_iff.mpr ⟨i, hi, z⟩
    refine pk_le (qa_c P) i (fun h => absurd h (by omega)) (fun _ => ?_)
    refine qy_hits hP hi hu hv (fun b => qa_br (fun e => qy_hits hP hi hv hu (fun b' => qa_br (fun f => nm_r (nI_1 i) (ih b' ?_)) (fun f => ?_))) (fun e => ?_))
    · rw [qa_any_s, ha]
      unfold qa_mt2
      rw [e, f]; rfl
    · have := h b'
      rw [yes (by unfold qa_mt2; rw [e, f]; rfl)] at this
      exact this
    · have := h b
      rw [yes (by unfold qa_mt2; rw [e]; rfl)] at this
      exact this
theorem qy_linked {post : Int32 → Prop} (hP : qa_PG P aK aC aO aX aY aZ aW) {u v : Nat} (hu : u < qa_v P) (hv : v < qa_v P) (h : post (qa_b (qa_lk P u v))) : wpY_linked post (mV, mI, (nI (qa_m P)), (nI (qa_w P)), (nI (qa_v P)), (nI (qa_c P)), oC, hC, cW, sT, aK, aC, aO, aX, aY, aZ, aW, bC, bN, bL, bB, bP, bA, bV, aU, aG) (nI u) (nI v) := by
  have h6 := qa_v6 hP.1
  have h16 := qa_c16 hP.1
  unfold wpY_linked
  refine loop_0 (fun n i (_ : Unit) => wY_linked_2 post (nI u) (nI v) mV mI (nI (qa_m P)) (nI (qa_w P)) (nI (qa_v P)) (nI (qa_c P)) oC hC cW sT aK aC aO aX aY aZ aW bC bN bL bB bP bA bV aU aG n (nI i)) (fun i _ => qa_any (fun i => qa_jn P i && qa_ab P u v i) i = false) (qa_c P) () rfl (fun n _ ha => ?_) (fun n i _ hi ha ih => ?_)
  · refine pk_le (qa_c P) (qa_c P) (fun _ => ?_) (fun h => absurd h (by omega))
    unfold qa_lk at h
    rw [ha] at h
    exact h
  · refine pk_le (qa_c P) i (fun h => absurd h (by omega)) (fun _ => ?_)
    refine qy_joins hP hi (qa_br (fun e => nm_r (nI_1 i) (ih () (by rw [qa_any_s, ha, e]; rfl))) (fun e => ⟨pk_in i 16 (by omega), ?_⟩))
    have hX := qa_gX hP hi
    have j := qa_jn_iff.mp e
    have hY := qa_gY hP hi (by omega) (by omega)
    have yes : (qa_x P i = u ∧ qa_y P i = v) ∨ (qa_x P i = v ∧ qa_y P i = u) → post 1 := by
      intro z
      have : qa_lk P u v = true := qa_any_iff.mpr ⟨i, hi, by rw [e, Bool.true_and]; exact decide_eq_true z⟩
      rw [this] at h
      exact h
    have no : ¬ ((qa_x P i = u ∧ qa_y P i = v) ∨ (qa_x P i = v ∧ qa_y P i = u)) → qa_any (fun i => qa_jn P i && qa_ab P u v i) (i + 1) = false := by
      intro z
      rw [qa_any_s, ha, e, show qa_ab P u v i = false from decide_eq_false z]; rfl
    have g : ¬ (qa_x P i = u ∧ qa_y P i = v) → wY_linked_38 post (wY_linked_2 post (nI u) (nI v) mV mI (nI (qa_m P)) (nI (qa_w P)) (nI (qa_v P)) (nI (qa_c P)) oC hC cW sT aK aC aO aX aY aZ aW bC bN bL bB bP bA bV aU aG n) (nI u) (nI v) (nI i) mV mI (nI (qa_m P)) (nI (qa_w P)) (nI (qa_v P)) (nI (qa_c P)) oC hC cW sT aK aC aO aX aY aZ aW bC bN bL bB bP bA bV aU aG := by
      intro z
      unfold wY_linked_38
      refine ⟨pk_in i 16 (by omega), ?_⟩
      rw [nI_clamp (by omega), hX.1]
      refine pk_eq (qa_x P i) v (fun x1 => ⟨pk_in i 16 (by omega), ?_⟩) (fun x1 => nm_r (nI_1 i) (ih () (no (by omega))))
      rw [hY.1]
      exact pk_eq (qa_y P i) u (fun y1 => yes (by omega)) (fun y1 => nm_r (nI_1 i) (ih () (no (by omega))))
    rw [nI_clamp (by omega), hX.1]
    refine pk_eq (qa_x P i) u (fun x1 => ⟨pk_in i 16 (by omega), ?_⟩) (fun x1 => g (by omega))
    rw [hY.1]
    exact pk_eq (qa_y P i) v (fun y1 => yes (by omega)) (fun y1 => g (by omega))
theorem qy_price {post : Int32 → Prop} (hP : qa_PG P aK aC aO aX aY aZ aW) {v p : Nat} (hv : v < qa_v P) (hp : p < 5) (h : post (nI (qa_pr P v p))) : wpY_price post (mV, mI, (nI (qa_m P)), (nI (qa_w P)), (nI (qa_v P)), (nI (qa_c P)), oC, hC, cW, sT, aK, aC, aO, aX, aY, aZ, aW, bC, bN, bL, bB, bP, bA, bV, aU, aG) (nI v) (nI p) := by
  have h6 := qa_v6 hP.1
  have h16 := qa_c16 hP.1
  have hk := qa_gK hP hv
  unfold qa_pr at h
  unfold wpY_price
  rw [qa_i5]
  refine ⟨qa_in (by omega), ?_⟩
  rw [nI_clamp (by omega), (qa_gC hP (by omega)).1]
  refine nm_e ?_
  by_cases c4 : p = 4
  · subst c4
    rw [if_pos rfl] at h
    refine qa_up (fun n i => wY_price_14 post (nI v) (nI 4) mV mI (nI (qa_m P)) (nI (qa_w P)) (nI (qa_v P)) (nI (qa_c P)) oC hC cW sT aK aC aO aX aY aZ aW bC bN bL bB bP bA bV aU aG n (nI (qa_h P (v * 5 + 4) + qa_sum (qa_trm P v) i)) (nI i)) (qa_c P) (fun n => ?_) (fun n i hi ih => ?_)
    · exact pk_le (qa_c P) (qa_c P) (fun _ => h) (fun h => absurd h (by omega))
    · have hX := qa_gX hP hi
      have hW := qa_gW hP hi
      refine pk_le (qa_c P) i (fun h => absurd h (by omega)) (fun _ => br_t rfl ⟨pk_in i 16 (by omega), pk_in v 6 (by omega), ?_⟩)
      rw [nI_clamp (n := i) (by omega), nI_clamp (n := v) (by omega), hW.1, hk.1, pk_mul]
      rw [qa_sum_s, ← Nat.add_assoc] at ih
      have k3 : ∀ s, s + (if qa_thd P i v = true then qa_one P v i else 0) = qa_h P (v * 5 + 4) + qa_sum (qa_trm P v) i + qa_trm P v i → wY_price_89 post (wY_price_14 post (nI v) (nI 4) mV mI (nI (qa_m P)) (nI (qa_w P)) (nI (qa_v P)) (nI (qa_c P)) oC hC cW sT aK aC aO aX aY aZ aW bC bN bL bB bP bA bV aU aG n) (nI v) (nI 4) (nI s) (nI i) (nI (qa_one P v i)) mV mI (nI (qa_m P)) (nI (qa_w P)) (nI (qa_v P)) (nI (qa_c P)) oC hC cW sT aK aC aO aX aY aZ aW bC bN bL bB bP bA bV aU aG := by
        intro s hs
        rw [← hs] at ih
        unfold wY_price_89
        refine qy_third hP hi hv (qa_br (fun e => ?_) (fun e => ?_))
        · rw [e, if_neg (by decide), Nat.add_zero] at ih
          exact nm_r (nI_1 i) ih
        · rw [e, if_pos rfl] at ih
          exact nm_r (nI_add _ _) (nm_r (nI_1 i) ih)
      have k2 : ∀ s, s + (if qa_sec P i v = true then qa_one P v i else 0) + (if qa_thd P i v = true then qa_one P v i else 0) = qa_h P (v * 5 + 4) + qa_sum (qa_trm P v) i + qa_trm P v i → wY_price_74 post (wY_price_14 post (nI v) (nI 4) mV mI (nI (qa_m P)) (nI (qa_w P)) (nI (qa_v P)) (nI (qa_c P)) oC hC cW sT aK aC aO aX aY aZ aW bC bN bL bB bP bA bV aU aG n) (nI v) (nI 4) (nI s) (nI i) (nI (qa_one P v i)) mV mI (nI (qa_m P)) (nI (qa_w P)) (nI (qa_v P)) (nI (qa_c P)) oC hC cW sT aK aC aO aX aY aZ aW bC bN bL bB bP bA bV aU aG := by
        intro s hs
        unfold wY_price_74
        refine qy_second hP hi hv (qa_br (fun e => ?_) (fun e => ?_))
        · rw [e, if_neg (by decide : ¬ false = true), Nat.add_zero] at hs
          exact k3 s hs
        · rw [e, if_pos rfl] at hs
          exact nm_r (nI_add _ _) (k3 _ hs)
      have k1 : wY_price_55 post (wY_price_14 post (nI v) (nI 4) mV mI (nI (qa_m P)) (nI (qa_w P)) (nI (qa_v P)) (nI (qa_c P)) oC hC cW sT aK aC aO aX aY aZ aW bC bN bL bB bP bA bV aU aG n) (nI v) (nI 4) (nI (qa_h P (v * 5 + 4) + qa_sum (qa_trm P v) i)) (nI i) (nI (qa_fac P v)) (nI (qa_e P i * qa_m P)) mV mI (nI (qa_m P)) (nI (qa_w P)) (nI (qa_v P)) (nI (qa_c P)) oC hC cW sT aK aC aO aX aY aZ aW bC bN bL bB bP bA bV aU aG := by
        unfold wY_price_55
        refine nm_r (e' := nI (qa_one P v i)) (pk_mul _ _) ⟨pk_in i 16 (by omega), ?_⟩
        rw [nI_clamp (by omega), hX.1]
        refine pk_eq (qa_x P i) v (fun x1 => nm_r (nI_add _ _) (k2 _ ?_)) (fun x1 => k2 _ ?_)
        · unfold qa_trm
          rw [if_pos x1]
          omega
        · unfold qa_trm
          rw [if_neg x1]
          omega
      unfold qa_fac at k1
      refine pk_eq (qa_k P v) 1 (fun e => ?_) (fun e => ?_)
      · rw [if_pos e] at k1; exact k1
      · rw [if_neg e] at k1; exact k1
  · rw [if_neg c4, Nat.add_zero] at h
    refine ⟨1, ?_⟩
    exact br_c (fun _ => h) (fun _ => pk_eq p 4 (fun e => absurd e c4) (fun _ => h))
theorem qy_digit {post : Int32 → Prop} {c v : Nat} (hv : v ≤ 6) (hc : c < 2 ^ 31) (h : post (nI (qa_dg c v))) : wpY_digit post (mV, mI, mC, vC, nV, nC, oC, hC, cW, sT, aK, aC, aO, aX, aY, aZ, aW, bC, bN, bL, bB, bP, bA, bV, aU, aG) (nI c) (nI v) := by
  have hd : ∀ k, c / 5 ^ k < 2 ^ 31 := fun k => Nat.lt_of_le_of_lt (Nat.div_le_self _ _) hc
  unfold wpY_digit
  have := qa_up (fun n k => wY_digit_5 post (nI v) mV mI mC vC nV nC oC hC cW sT aK aC aO aX aY aZ aW bC bN bL bB bP bA bV aU aG n (nI (c / 5 ^ k)) (nI k)) v (fun n => ?_) (fun n k hk ih => ?_)
  · obtain ⟨n, hn⟩ := this
    (try dsimp only at hn)
    rw [Nat.pow_zero, Nat.div_one] at hn
    exact ⟨n, hn⟩
  · refine pk_le v v (fun _ => ⟨by decide, ?_⟩) (fun h => absurd h (by omega))
    have e := pk_rem (hd v) (by omega : 0 < 5) (by omega)
    have e' : nI (c / 5 ^ v) - nI (c / 5 ^ v) / 5 * 5 = nI (qa_dg c v) := e
    rw [e']
    exact h
  · refine pk_le v k (fun h => absurd h (by omega)) (fun _ => ⟨by decide, ?_⟩)
    have e : nI (c / 5 ^ k) / 5 = nI (c / 5 ^ (k + 1)) := by
      have := pk_div (hd k) (by omega : 0 < 5) (by omega)
      rw [Nat.div_div_eq_div_mul, ← Nat.pow_succ] at this
      exact this
    exact nm_r e (nm_r (nI_1 k) ih)
theorem qy_codes {post : Int32 → Prop} (h6 : qa_v P ≤ 6) (h : post (nI (5 ^ qa_v P))) : wpY_codes post (mV, mI, mC, vC, (nI (qa_v P)), nC, oC, hC, cW, sT, aK, aC, aO, aX, aY, aZ, aW, bC, bN, bL, bB, bP, bA, bV, aU, aG) := by
  unfold wpY_codes
  refine qa_up (fun n k => wY_codes_4 post mV mI mC vC (nI (qa_v P)) nC oC hC cW sT aK aC aO aX aY aZ aW bC bN bL bB bP bA bV aU aG n (nI (5 ^ k)) (nI k)) (qa_v P) (fun n => ?_) (fun n k hk ih => ?_)
  · exact pk_le (qa_v P) (qa_v P) (fun _ => h) (fun h => absurd h (by omega))
  · exact pk_le (qa_v P) k (fun h => absurd h (by omega)) (fun _ => nm_r (pk_mul _ 5) (nm_r (nI_1 k) ih))
end
end
section
/-! ===== Y: judging a code, pinning ===== -/
def qa_jd (P : QA_P) (c : Nat) : Int32 := if qa_alw P (qa_dg c) = true then nI (qa_cost P (qa_dg c)) else -2
def qa_aw (P : QA_P) (b : Nat → Nat) (v : Nat) : Bool := qa_fit P v (b v) && qa_all (fun u => !qa_cl P u (b u) v (b v)) v
section
variable {P : QA_P} {mV mI mC vC nV nC oC hC cW sT : Int32} {aK aC aO aX aY aZ aW bC bN bL bB bP bA bV aU aG : Nat → Int32}
theorem qy_judge {post : Int32 → SY → Prop} (hP : qa_PG P aK aC aO aX aY aZ aW) (kC : ∀ u v, u < qa_v P → v < qa_v P → bC (u * 6 + v) = qa_b (qa_I P u v)) {c : Nat} (hc : c < 2 ^ 31) (h : ∀ bA', post (qa_jd P c) (mV, mI, (nI (qa_m P)), (nI (qa_w P)), (nI (qa_v P)), (nI (qa_c P)), oC, hC, cW, sT, aK, aC, aO, aX, aY, aZ, aW, bC, bN, bL, bB, bP, bA', bV, aU, aG)) : wpY_judge post (mV, mI, (nI (qa_m P)), (nI (qa_w P)), (nI (qa_v P)), (nI (qa_c P)), oC, hC, cW, sT, aK, aC, aO, aX, aY, aZ, aW, bC, bN, bL, bB, bP, bA, bV, aU, aG) (nI c) := by
  have h6 := qa_v6 hP.1
  have h16 := qa_c16 hP.1
  unfold wpY_judge
  refine loop_0 (fun n v a => wY_judge_4 post (nI c) mV mI (nI (qa_m P)) (nI (qa_w P)) (nI (qa_v P)) (nI (qa_c P)) oC hC cW sT n (nI (qa_sum (fun v => qa_pr P v (qa_dg c v)) v)) (nI v) aK aC aO aX aY aZ aW bC bN bL bB bP a bV aU aG) (fun v a => (∀ u, u < v → a u = nI (qa_dg c u)) ∧ qa_all (qa_aw P (qa_dg c)) v = true) (qa_v P) bA ⟨fun u hu => absurd hu (by omega), rfl⟩ (fun n a ha => ?_) (fun n v a hv ha ih => ?_)
  · refine pk_le (qa_v P) (qa_v P) (fun _ => ?_) (fun h => absurd h (by omega))
    have hj : qa_jd P c = nI (qa_sum (fun v => qa_pr P v (qa_dg c v)) (qa_v P) + qa_sum (qa_jc P (qa_dg c)) (qa_c P)) := by
      unfold qa_jd
      rw [if_pos (show qa_alw P (qa_dg c) = true from ha.2), qa_cost_eq hP.1]
      rfl
    refine qa_up (fun n i => wY_judge_119 post mV mI (nI (qa_m P)) (nI (qa_w P)) (nI (qa_v P)) (nI (qa_c P)) oC hC cW sT aK aC aO aX aY aZ aW bC bN bL bB bP a bV aU aG n (nI (qa_sum (fun v => qa_pr P v (qa_dg c v)) (qa_v P) + qa_sum (qa_jc P (qa_dg c)) i)) (nI i)) (qa_c P) (fun n => ?_) (fun n i hi ih => ?_)
    · refine pk_le (qa_c P) (qa_c P) (fun _ => ?_) (fun h => absurd h (by omega))
      have := h a
      rw [hj] at this
      exact this
    · rw [qa_sum_s, ← Nat.add_assoc] at ih
      have hX := qa_gX hP hi
      have hW := qa_gW hP hi
      have ef : (qa_jn P i && decide (qa_dg c (qa_x P i) ≠ qa_dg c (qa_y P i) ∨ qa_dg c (qa_x P i) = 4)) = false → qa_jc P (qa_dg c) i = 0 := fun z => by unfold qa_jc; rw [z, if_neg (by decide)]
      have et : (qa_jn P i && decide (qa_dg c (qa_x P i) ≠ qa_dg c (qa_y P i) ∨ qa_dg c (qa_x P i) = 4)) = true → qa_jc P (qa_dg c) i = qa_e P i * qa_w P := fun z => by unfold qa_jc; rw [if_pos z]
      refine pk_le (qa_c P) i (fun h => absurd h (by omega)) (fun _ => ?_)
      refine qy_joins hP hi (qa_br (fun e => ?_) (fun e => ⟨pk_in i 16 (by omega), ?_⟩))
      · rw [ef (by rw [e]; rfl), Nat.add_zero] at ih
        exact nm_r (nI_1 i) ih
      · have j := qa_jn_iff.mp e
        have hY := qa_gY hP hi (by omega) (by omega)
        rw [nI_clamp (n := i) (by omega), hX.1]
        refine ⟨qa_in (by omega), pk_in i 16 (by omega), ?_⟩
        rw [hY.1]
        refine ⟨qa_in (by omega), ?_⟩
        rw [nI_clamp (n := qa_x P i) (by omega), nI_clamp (n := qa_y P i) (by omega), ha.1 _ hX.2, ha.1 _ hY.2]
        have d1 := qa_dg_lt c (qa_x P i)
        have d2 := qa_dg_lt c (qa_y P i)
        have g : (qa_dg c (qa_x P i) ≠ qa_dg c (qa_y P i) ∨ qa_dg c (qa_x P i) = 4) → wY_judge_175 post (wY_judge_119 post mV mI (nI (qa_m P)) (nI (qa_w P)) (nI (qa_v P)) (nI (qa_c P)) oC hC cW sT aK aC aO aX aY aZ aW bC bN bL bB bP a bV aU aG n) (nI (qa_sum (fun v => qa_pr P v (qa_dg c v)) (qa_v P) + qa_sum (qa_jc P (qa_dg c)) i)) (nI i) mV mI (nI (qa_m P)) (nI (qa_w P)) (nI (qa_v P)) (nI (qa_c P)) oC hC cW sT aK aC aO aX aY aZ aW bC bN bL bB bP a bV aU aG := by
          intro z
          rw [et (by rw [e, decide_eq_true z]; rfl)] at ih
          unfold wY_judge_175
          refine ⟨pk_in i 16 (by omega), ?_⟩
          rw [nI_clamp (by omega), hW.1, pk_mul, nI_add]
          exact nm_e (nm_r (nI_1 i) ih)
        refine pk_eq (qa_dg c (qa_x P i)) (qa_dg c (qa_y P i)) (fun e1 => ⟨pk_in i 16 (by omega), qa_in (by omega), ?_⟩) (fun e1 => g (by omega))
        refine pk_eq (qa_dg c (qa_x P i)) 4 (fun e4 => g (by omega)) (fun e4 => ?_)
        rw [ef (by rw [e, decide_eq_false (by omega)]; rfl), Nat.add_zero] at ih
        exact nm_r (nI_1 i) ih
  · have bad : ∀ b, qa_aw P (qa_dg c) v = false → post (-2) (mV, mI, (nI (qa_m P)), (nI (qa_w P)), (nI (qa_v P)), (nI (qa_c P)), oC, hC, cW, sT, aK, aC, aO, aX, aY, aZ, aW, bC, bN, bL, bB, bP, b, bV, aU, aG) := by
      intro b e
      have := h b
      unfold qa_jd at this
      rw [if_neg (by
        have : qa_alw P (qa_dg c) = false := qa_all_f hv e
        rw [this]; decide)] at this
      exact this
    have dv := qa_dg_lt c v
    refine pk_le (qa_v P) v (fun h => absurd h (by omega)) (fun _ => ?_)
    refine qy_digit (by omega) hc ⟨pk_in v 6 (by omega), ?_⟩
    rw [nI_clamp (n := v) (by omega)]
    refine nm_e ⟨pk_in v 6 (by omega), ?_⟩
    rw [pk_us]
    have ha' : ∀ u, u < v + 1 → upd a v (nI (qa_dg c v)) u = nI (qa_dg c u) := by
      intro u hu
      by_cases e : u = v
      · rw [e, pk_us]
      · rw [pk_un e]; exact ha.1 u (by omega)
    refine qy_fits hP hv (by omega) (qa_br (fun e => bad _ ?_) (fun e => ?_))
    · unfold qa_aw; rw [e]; rfl
    · refine loop_0 (fun k u (_ : Unit) => wY_judge_44 post (wY_judge_4 post (nI c) mV mI (nI (qa_m P)) (nI (qa_w P)) (nI (qa_v P)) (nI (qa_c P)) oC hC cW sT n) (nI c) (nI (qa_sum (fun v => qa_pr P v (qa_dg c v)) v)) (nI v) mV mI (nI (qa_m P)) (nI (qa_w P)) (nI (qa_v P)) (nI (qa_c P)) oC hC cW sT aK aC aO aX aY aZ aW bC bN bL bB bP (upd a v (nI (qa_dg c v))) bV aU aG k (nI u)) (fun u _ => qa_all (fun u => !qa_cl P u (qa_dg c u) v (qa_dg c v)) u = true) v () rfl (fun k _ hu => ?_) (fun k u _ hu hq ih2 => ?_)
      · refine pk_le v v (fun _ => ⟨pk_in v 6 (by omega), ?_⟩) (fun h => absurd h (by omega))
        rw [nI_clamp (by omega), pk_us]
        refine qy_price hP hv dv (nm_r (nI_add _ _) (nm_r (nI_1 v) (ih _ ⟨ha', ?_⟩)))
        rw [qa_all_s, ha.2]
        unfold qa_aw
        rw [e, hu]; rfl
      · have du := qa_dg_lt c u
        refine pk_le v u (fun h => absurd h (by omega)) (fun _ => ?_)
        rw [qa_i6]
        refine ⟨qa_in (by omega), ?_⟩
        rw [nI_clamp (n := u * 6 + v) (by omega), kC u v (by omega) hv]
        refine qa_br (fun f => nm_r (nI_1 u) (ih2 () ?_)) (fun f => ⟨pk_in u 6 (by omega), pk_in v 6 (by omega), ?_⟩)
        · rw [qa_all_s, hq]
          unfold qa_cl
          rw [f]; rfl
        · rw [nI_clamp (n := u) (by omega), nI_clamp (n := v) (by omega), ha' u (by omega), ha' v (by omega)]
          refine qy_share hP (by omega) du hv dv (qa_br (fun g => nm_r (nI_1 u) (ih2 () ?_)) (fun g => bad _ ?_))
          · rw [qa_all_s, hq]
            unfold qa_cl
            rw [f, g]; rfl
          · unfold qa_aw
            rw [qa_all_f hu (by unfold qa_cl; rw [f, g]; rfl), Bool.and_false]
theorem qy_neigh {post : Int32 → Prop} {S : QA_S} (h6 : qa_v P ≤ 6) (hL : ∀ u, u < qa_v P → bL u = qa_b (qa_L S u)) (hN : ∀ u v, u < qa_v P → v < qa_v P → bN (u * 6 + v) = qa_b (qa_N S u v)) {v : Nat} (hv : v < qa_v P) (h : post (nI (qa_deg P S v))) : wpY_neighbours post (mV, mI, mC, vC, (nI (qa_v P)), nC, oC, hC, cW, sT, aK, aC, aO, aX, aY, aZ, aW, bC, bN, bL, bB, bP, bA, bV, aU, aG) (nI v) := by
  unfold wpY_neighbours
  refine qa_up (fun n j => wY_neighbours_4 post (nI v) mV mI mC vC (nI (qa_v P)) nC oC hC cW sT aK aC aO aX aY aZ aW bC bN bL bB bP bA bV aU aG n (nI (qa_sum (fun u => (qa_ln S v u).toNat) j)) (nI j)) (qa_v P) (fun n => ?_) (fun n j hj ih => ?_)
  · exact pk_le (qa_v P) (qa_v P) (fun _ => h) (fun h => absurd h (by omega))
  · rw [qa_sum_s] at ih
    refine pk_le (qa_v P) j (fun h => absurd h (by omega)) (fun _ => ⟨pk_in j 6 (by omega), ?_⟩)
    rw [nI_clamp (n := j) (by omega), hL j hj]
    refine qa_br (fun e => ?_) (fun e => ?_)
    · rw [show (qa_ln S v j).toNat = 0 by unfold qa_ln; rw [e]; rfl, Nat.add_zero] at ih
      exact nm_r (nI_1 j) ih
    · rw [qa_i6]
      refine ⟨qa_in (by omega), ?_⟩
      rw [nI_clamp (by omega), hN v j hv hj]
      refine qa_br (fun f => ?_) (fun f => ?_)
      · rw [show (qa_ln S v j).toNat = 0 by unfold qa_ln; rw [e, f]; rfl, Nat.add_zero] at ih
        exact nm_r (nI_1 j) ih
      · rw [show (qa_ln S v j).toNat = 1 by unfold qa_ln; rw [e, f]; rfl] at ih
        exact nm_r (nI_1 _) (nm_r (nI_1 j) ih)
def qa_PB (P : QA_P) (S : QA_S) (bP : Nat → Int32) : Prop := ∀ u, u < qa_v P → bP u = if qa_pn S u < 5 then nI (qa_pn S u) else -1
theorem qy_pinPlace {post : Int32 → Prop} {S : QA_S} (hP : qa_PG P aK aC aO aX aY aZ aW) (kC : ∀ u v, u < qa_v P → v < qa_v P → bC (u * 6 + v) = qa_b (qa_I P u v)) (hB : qa_PB P S bP) {v : Nat} (hv : v < qa_v P) (h : post (nI (qa_pp P S v 4))) : wpY_pinPlace post (mV, mI, (nI (qa_m P)), (nI (qa_w P)), (nI (qa_v P)), (nI (qa_c P)), oC, hC, cW, sT, aK, aC, aO, aX, aY, aZ, aW, bC, bN, bL, bB, bP, bA, bV, aU, aG) (nI v) := by
  have h6 := qa_v6 hP.1
  unfold wpY_pinPlace
  refine ⟨5, ?_⟩
  refine qa_dw (fun n e => wY_pinPlace_4 post (nI v) mV mI (nI (qa_m P)) (nI (qa_w P)) (nI (qa_v P)) (nI (qa_c P)) oC hC cW sT aK aC aO aX aY aZ aW bC bN bL bB bP bA bV aU aG n (nI (qa_pp P S v (4 - e))) (nI e - 1)) 4 (fun n => br_t (by decide) h) (fun n i hi ih => ?_)
  (try dsimp only at ih ⊢)
  rw [nI_pred]
  have q1 : qa_pp P S v (4 - (i + 1)) < 5 := by rcases qa_pp_sp P S v (4 - (i + 1)) with e | e <;> omega
  have es : qa_pp P S v (4 - i) = if (qa_op P S v i && decide (qa_pr P v i ≤ qa_pr P v (qa_pp P S v (4 - (i + 1))))) = true then i else qa_pp P S v (4 - (i + 1)) := by
    rw [show 4 - i = (4 - (i + 1)) + 1 by omega]
    have : 3 - (4 - (i + 1)) = i := by omega
    show (if (qa_op P S v (3 - (4 - (i + 1))) && _) = true then 3 - (4 - (i + 1)) else _) = _
    rw [this]
  rw [es] at ih
  have em : nI i + (-1) = nI i - 1 := (Int32.sub_eq_add_neg (nI i) 1).symm
  refine br_f (nI_pos (by omega)) (qy_fits hP hv (by omega) ?_)
  refine qa_up (fun k j => wY_pinPlace_19 post (wY_pinPlace_4 post (nI v) mV mI (nI (qa_m P)) (nI (qa_w P)) (nI (qa_v P)) (nI (qa_c P)) oC hC cW sT aK aC aO aX aY aZ aW bC bN bL bB bP bA bV aU aG n) (nI v) (nI (qa_pp P S v (4 - (i + 1)))) (nI i) mV mI (nI (qa_m P)) (nI (qa_w P)) (nI (qa_v P)) (nI (qa_c P)) oC hC cW sT aK aC aO aX aY aZ aW bC bN bL bB bP bA bV aU aG k (qa_b (qa_all (fun u => !qa_riv P S v i u) j && qa_fit P v i)) (nI j)) (qa_v P) (fun k => ?_) (fun k j hj ih2 => ?_)
  · refine pk_le (qa_v P) (qa_v P) (fun _ => qa_br (fun e => ?_) (fun e => ?_)) (fun h => absurd h (by omega))
    · rw [show qa_op P S v i = false by unfold qa_op; rw [Bool.and_comm]; exact e, Bool.false_and, if_neg (by decide)] at ih
      exact nm_r em ih
    · rw [show qa_op P S v i = true by unfold qa_op; rw [Bool.and_comm]; exact e, Bool.true_and] at ih
      have b1 := qa_pr_le hP.1 hv (by omega : i < 5)
      have b2 := qa_pr_le hP.1 hv q1
      refine qy_price hP hv (by omega) (qy_price hP hv q1 (pk_lt _ _ (fun d => ?_) (fun d => ?_)))
      · rw [if_neg (by rw [decide_eq_true_eq]; omega)] at ih; exact nm_r em ih
      · rw [if_pos (decide_eq_true d)] at ih; exact nm_r em ih
  · rw [qa_all_s] at ih2
    refine pk_le (qa_v P) j (fun h => absurd h (by omega)) (fun _ => ⟨pk_in j 6 (by omega), ?_⟩)
    rw [nI_clamp (n := j) (by omega), hB j hj]
    by_cases c : qa_pn S j < 5
    · rw [if_pos c, qa_i6]
      refine br_f (nI_pos (by omega)) ⟨qa_in (by omega), ?_⟩
      rw [nI_clamp (by omega), kC v j hv hj]
      refine qa_br (fun e => ?_) (fun e => ⟨pk_in j 6 (by omega), ?_⟩)
      · rw [show qa_riv P S v i j = false by unfold qa_riv qa_cl; rw [e]; cases decide (qa_pn S j < 5) <;> rfl, Bool.not_false, Bool.and_true] at ih2
        exact nm_r (nI_1 j) ih2
      · refine qy_share hP hv (by omega) hj c (qa_br (fun f => ?_) (fun f => ?_))
        · rw [show qa_riv P S v i j = false by unfold qa_riv qa_cl; rw [e, f]; cases decide (qa_pn S j < 5) <;> rfl, Bool.not_false, Bool.and_true] at ih2
          exact nm_r (nI_1 j) ih2
        · rw [show qa_riv P S v i j = true by unfold qa_riv qa_cl; rw [e, f, decide_eq_true c]; rfl, Bool.not_true, Bool.and_false, Bool.false_and] at ih2
          exact nm_r (nI_1 j) ih2
    · rw [if_neg c]
      rw [show qa_riv P S v i j = false by unfold qa_riv; rw [decide_eq_false c]; rfl, Bool.not_false, Bool.and_true] at ih2
      exact br_t (by decide) (nm_r (nI_1 j) ih2)
end
end
section
/-! ===== Y: pinning all, the search ===== -/
def qa_YM (P : QA_P) (S : QA_S) (bL bN bP : Nat → Int32) : Prop :=
  (∀ u, u < qa_v P → bL u = qa_b (qa_L S u)) ∧ (∀ u v, u < qa_v P → v < qa_v P → bN (u * 6 + v) = qa_b (qa_N S u v)) ∧ qa_PB P S bP
def qa_cd (S : QA_S) (v a b : Nat) : Bool := decide (a ≠ b) && qa_L S a && qa_L S b && qa_N S v a && qa_N S v b
def qa_nn (S : QA_S) (v x y a b : Nat) : Bool := qa_N S a b || (qa_cd S v a b && decide (a < x ∨ (a = x ∧ b < y)))
theorem qa_cd_v {S : QA_S} (hN : ∀ u, qa_N S u u = false) (v b : Nat) : qa_cd S v v b = false := by
  unfold qa_cd
  rw [hN v]
  cases decide (v ≠ b) <;> cases qa_L S v <;> cases qa_L S b <;> rfl
theorem qa_nn_v {S : QA_S} (hN : ∀ u, qa_N S u u = false) (v x y b : Nat) : qa_nn S v x y v b = qa_N S v b := by
  unfold qa_nn
  rw [qa_cd_v hN, Bool.false_and, Bool.or_false]
theorem qa_nn_skip {S : QA_S} {v x y a b : Nat} (h : qa_cd S v x y = false) : qa_nn S v x y a b = qa_nn S v x (y + 1) a b := by
  unfold qa_nn
  by_cases c : a = x ∧ b = y
  · rw [c.1, c.2, h, Bool.false_and, Bool.false_and]
  · rw [show decide (a < x ∨ (a = x ∧ b < y)) = decide (a < x ∨ (a = x ∧ b < y + 1)) from decide_eq_decide.mpr (by omega)]
section
variable {P : QA_P} {mV mI mC vC nV nC oC hC cW sT : Int32} {aK aC aO aX aY aZ aW bC bN bL bB bP bA bV aU aG : Nat → Int32}
theorem qy_fin334 {post : SY → Prop} {J : Int32 → (Nat → Int32) → (Nat → Int32) → (Nat → Int32) → (Nat → Int32) → (Nat → Int32) → (Nat → Int32) → (Nat → Int32) → (Nat → Int32) → (Nat → Int32) → (Nat → Int32) → (Nat → Int32) → (Nat → Int32) → (Nat → Int32) → (Nat → Int32) → (Nat → Int32) → (Nat → Int32) → Prop} {s v : Nat} (hv : v < 6)
    (h : J (nI (s + 1)) aK aC aO aX aY aZ aW bC bN (upd bL v 0) bB bP bA bV aU aG) : wY_pinAll_334 post J (nI s) (nI v) mV mI mC vC nV nC oC hC cW sT aK aC aO aX aY aZ aW bC bN bL bB bP bA bV aU aG := by
  unfold wY_pinAll_334
  refine br_f (nI_pos (by omega)) ⟨pk_in v 6 hv, ?_⟩
  rw [nI_clamp (by omega), qa_vb0]
  exact nm_e (nm_r (nI_1 s) h)
theorem qy_rounds {post : SY → Prop} (hP : qa_PG P aK aC aO aX aY aZ aW) (kC : ∀ u v, u < qa_v P → v < qa_v P → bC (u * 6 + v) = qa_b (qa_I P u v)) (Y : qa_YM P (qa_S0 P) bL bN bP)
    (h : ∀ bL' bN' bP', qa_YM P (qa_F P) bL' bN' bP' → post (mV, mI, (nI (qa_m P)), (nI (qa_w P)), (nI (qa_v P)), (nI (qa_c P)), oC, hC, cW, sT, aK, aC, aO, aX, aY, aZ, aW, bC, bN', bL', bB, bP', bA, bV, aU, aG)) : ∃ n, wY_pinAll_117 post mV mI (nI (qa_m P)) (nI (qa_w P)) (nI (qa_v P)) (nI (qa_c P)) oC hC cW sT n 0 aK aC aO aX aY aZ aW bC bN bL bB bP bA bV aU aG := by
  have h6 := qa_v6 hP.1
  refine loop_0 (fun n s (t : (Nat → Int32) × (Nat → Int32) × (Nat → Int32)) => wY_pinAll_117 post mV mI (nI (qa_m P)) (nI (qa_w P)) (nI (qa_v P)) (nI (qa_c P)) oC hC cW sT n (nI s) aK aC aO aX aY aZ aW bC t.2.1 t.1 bB t.2.2 bA bV aU aG) (fun s t => qa_YM P (qa_it P s) t.1 t.2.1 t.2.2) (qa_v P) (bL, bN, bP) Y (fun n t ht => ?_) (fun n s t hs ht ih => ?_)
  · exact pk_le (qa_v P) (qa_v P) (fun _ => h _ _ _ ht) (fun h => absurd h (by omega))
  · obtain ⟨qL, qN, qB⟩ := t
    have I := qa_INV_it hP.1 s (by omega)
    have hk := qa_pk_ok hP.1 I hs
    have eS : qa_it P (s + 1) = qa_step P (qa_it P s) := rfl
    rw [eS] at ih
    unfold qa_pk at hk
    unfold qa_step at ih
    dsimp only at ht ih ⊢
    generalize qa_it P s = S at *
    obtain ⟨y1, y2, y3⟩ := ht
    have y1' : ∀ v, v < qa_v P → ∀ u, u < qa_v P → upd qL v 0 u = qa_b (qa_fL S v u) := by
      intro v _ u hu
      unfold qa_fL
      by_cases e : u = v
      · rw [e, pk_us, decide_eq_false (by simp), Bool.and_false]; rfl
      · rw [pk_un e, y1 u hu, decide_eq_true e, Bool.and_true]
    refine pk_le (qa_v P) s (fun h => absurd h (by omega)) (fun _ => ?_)
    refine qa_up (fun k j => wY_pinAll_129 post (wY_pinAll_117 post mV mI (nI (qa_m P)) (nI (qa_w P)) (nI (qa_v P)) (nI (qa_c P)) oC hC cW sT n) (nI s) mV mI (nI (qa_m P)) (nI (qa_w P)) (nI (qa_v P)) (nI (qa_c P)) oC hC cW sT aK aC aO aX aY aZ aW bC qN qL bB qB bA bV aU aG k (if qa_find (qa_sf P S) j < j then nI (qa_find (qa_sf P S) j) else -1) (nI j)) (qa_v P) (fun k => ?_) (fun k j hj ih2 => ?_)
    · refine pk_le (qa_v P) (qa_v P) (fun _ => ?_) (fun h => absurd h (by omega))
      by_cases c : qa_smp P S < qa_v P
      · simp only [if_pos c] at hk ih
        have c' : qa_find (qa_sf P S) (qa_v P) < qa_v P := c
        rw [if_pos c']
        refine br_f (nI_pos (by omega)) ?_
        show ∃ n173, wY_pinAll_173 post (wY_pinAll_117 post mV mI (nI (qa_m P)) (nI (qa_w P)) (nI (qa_v P)) (nI (qa_c P)) oC hC cW sT n) (nI s) (nI (qa_smp P S)) mV mI (nI (qa_m P)) (nI (qa_w P)) (nI (qa_v P)) (nI (qa_c P)) oC hC cW sT n173 0 aK aC aO aX aY aZ aW bC qN qL bB qB bA bV aU aG
        generalize qa_smp P S = v at *
        refine loop_0 (fun k x a => wY_pinAll_173 post (wY_pinAll_117 post mV mI (nI (qa_m P)) (nI (qa_w P)) (nI (qa_v P)) (nI (qa_c P)) oC hC cW sT n) (nI s) (nI v) mV mI (nI (qa_m P)) (nI (qa_w P)) (nI (qa_v P)) (nI (qa_c P)) oC hC cW sT k (nI x) aK aC aO aX aY aZ aW bC a qL bB qB bA bV aU aG) (fun x a => ∀ p q, p < qa_v P → q < qa_v P → a (p * 6 + q) = qa_b (qa_nn S v x 0 p q)) (qa_v P) qN (fun p q hp hq => ?_) (fun k a ha => ?_) (fun k x a hx ha ih3 => ?_)
        · rw [y2 p q hp hq]
          unfold qa_nn
          rw [decide_eq_false (by omega), Bool.and_false, Bool.or_false]
        · refine pk_le (qa_v P) (qa_v P) (fun _ => qy_fin334 (by omega) (ih (_, _, _) ⟨y1' v hk.1, fun p q hp hq => ?_, y3⟩)) (fun h => absurd h (by omega))
          show a (p * 6 + q) = qa_b (qa_fN S v p q)
          rw [ha p q hp hq]
          unfold qa_nn
          rw [decide_eq_true (by omega), Bool.and_true]
          rfl
        · refine pk_le (qa_v P) x (fun h => absurd h (by omega)) (fun _ => ?_)
          refine loop_0 (fun l y a => wY_pinAll_184 post (wY_pinAll_117 post mV mI (nI (qa_m P)) (nI (qa_w P)) (nI (qa_v P)) (nI (qa_c P)) oC hC cW sT n) (wY_pinAll_173 post (wY_pinAll_117 post mV mI (nI (qa_m P)) (nI (qa_w P)) (nI (qa_v P)) (nI (qa_c P)) oC hC cW sT n) (nI s) (nI v) mV mI (nI (qa_m P)) (nI (qa_w P)) (nI (qa_v P)) (nI (qa_c P)) oC hC cW sT k) (nI s) (nI v) (nI x) mV mI (nI (qa_m P)) (nI (qa_w P)) (nI (qa_v P)) (nI (qa_c P)) oC hC cW sT l (nI y) aK aC aO aX aY aZ aW bC a qL bB qB bA bV aU aG) (fun y a => ∀ p q, p < qa_v P → q < qa_v P → a (p * 6 + q) = qa_b (qa_nn S v x y p q)) (qa_v P) a ha (fun l a ha => ?_) (fun l y a hy ha ih4 => ?_)
          · refine pk_le (qa_v P) (qa_v P) (fun _ => nm_r (nI_1 x) (ih3 a (fun p q hp hq => ?_))) (fun h => absurd h (by omega))
            rw [ha p q hp hq]
            unfold qa_nn
            rw [show decide (p < x ∨ (p = x ∧ q < qa_v P)) = decide (p < x + 1 ∨ (p = x + 1 ∧ q < 0)) from decide_eq_decide.mpr (by omega)]
          · have sk : qa_cd S v x y = false → ∀ p q, p < qa_v P → q < qa_v P → a (p * 6 + q) = qa_b (qa_nn S v x (y + 1) p q) := by
              intro e p q hp hq
              rw [ha p q hp hq, qa_nn_skip e]
            refine pk_le (qa_v P) y (fun h => absurd h (by omega)) (fun _ => ?_)
            refine pk_eq x y (fun e => nm_r (nI_1 y) (ih4 a (sk ?_))) (fun e => ⟨pk_in x 6 (by omega), ?_⟩)
            · unfold qa_cd; rw [decide_eq_false (by omega)]; rfl
            · rw [qa_i6, qa_i6, qa_i6, nI_clamp (n := x) (by omega), y1 x hx]
              refine qa_br (fun f1 => nm_r (nI_1 y) (ih4 a (sk ?_))) (fun f1 => ⟨pk_in y 6 (by omega), ?_⟩)
              · unfold qa_cd; rw [f1]; cases decide (x ≠ y) <;> rfl
              · rw [nI_clamp (n := y) (by omega), y1 y hy]
                refine qa_br (fun f2 => nm_r (nI_1 y) (ih4 a (sk ?_))) (fun f2 => ⟨qa_in (by omega), ?_⟩)
                · unfold qa_cd; rw [f1, f2]; cases decide (x ≠ y) <;> rfl
                · rw [nI_clamp (n := v * 6 + x) (by omega), ha v x hk.1 hx, qa_nn_v I.2.1]
                  refine qa_br (fun f3 => nm_r (nI_1 y) (ih4 a (sk ?_))) (fun f3 => ⟨qa_in (by omega), ?_⟩)
                  · unfold qa_cd; rw [f1, f2, f3]; cases decide (x ≠ y) <;> rfl
                  · rw [nI_clamp (n := v * 6 + y) (by omega), ha v y hk.1 hy, qa_nn_v I.2.1]
                    refine qa_br (fun f4 => nm_r (nI_1 y) (ih4 a (sk ?_))) (fun f4 => ⟨qa_in (by omega), ?_⟩)
                    · unfold qa_cd; rw [f1, f2, f3, f4]; cases decide (x ≠ y) <;> rfl
                    · rw [nI_clamp (n := x * 6 + y) (by omega), qa_vb1]
                      refine nm_e (nm_r (nI_1 y) (ih4 _ (fun p q hp hq => ?_)))
                      by_cases e2 : p = x ∧ q = y
                      · rw [e2.1, e2.2, pk_us]
                        unfold qa_nn qa_cd
                        rw [decide_eq_true (e : x ≠ y), f1, f2, f3, f4, decide_eq_true (by omega), show (true && true && true && true && true && true) = true from rfl, Bool.or_true]
                        rfl
                      · rw [pk_un (by omega), ha p q hp hq]
                        unfold qa_nn
                        rw [show decide (p < x ∨ (p = x ∧ q < y)) = decide (p < x ∨ (p = x ∧ q < y + 1)) from decide_eq_decide.mpr (by omega)]
      · simp only [if_neg c] at hk ih
        have c' : ¬ qa_find (qa_sf P S) (qa_v P) < qa_v P := c
        rw [if_neg c']
        refine br_t (by decide) ?_
        refine qa_up (fun l j => wY_pinAll_277 post (wY_pinAll_117 post mV mI (nI (qa_m P)) (nI (qa_w P)) (nI (qa_v P)) (nI (qa_c P)) oC hC cW sT n) (nI s) mV mI (nI (qa_m P)) (nI (qa_w P)) (nI (qa_v P)) (nI (qa_c P)) oC hC cW sT aK aC aO aX aY aZ aW bC qN qL bB qB bA bV aU aG l (if qa_dn P S j = 9 then -1 else nI (qa_dn P S j)) (nI j)) (qa_v P) (fun l => ?_) (fun l j hj ih2 => ?_)
        · refine pk_le (qa_v P) (qa_v P) (fun _ => ?_) (fun h => absurd h (by omega))
          rw [if_neg (by omega : ¬ qa_dn P S (qa_v P) = 9)]
          refine br_f (nI_pos (by omega)) (qy_pinPlace hP kC y3 hk.1 ⟨qa_in (by omega), ?_⟩)
          rw [nI_clamp (by omega)]
          refine nm_e (qy_fin334 (by omega) (ih (upd qL (qa_dn P S (qa_v P)) 0, qN, upd qB (qa_dn P S (qa_v P)) (nI (qa_pp P S (qa_dn P S (qa_v P)) 4))) ⟨y1' _ hk.1, y2, fun u hu => ?_⟩))
          show upd qB (qa_dn P S (qa_v P)) (nI (qa_pp P S (qa_dn P S (qa_v P)) 4)) u = if qa_pP P S (qa_dn P S (qa_v P)) u < 5 then nI (qa_pP P S (qa_dn P S (qa_v P)) u) else -1
          unfold qa_pP
          by_cases e : u = qa_dn P S (qa_v P)
          · rw [if_pos e, e, pk_us, if_pos (qa_pp_fit P S _).1]
          · rw [if_neg e, pk_un e]; exact y3 u hu
        · have es : qa_dn P S (j + 1) = if qa_L S j = true then (if qa_dn P S j = 9 then j else if qa_deg P S (qa_dn P S j) < qa_deg P S j then j else qa_dn P S j) else qa_dn P S j := rfl
          refine pk_le (qa_v P) j (fun h => absurd h (by omega)) (fun _ => ⟨pk_in j 6 (by omega), ?_⟩)
          rw [nI_clamp (by omega), y1 j hj]
          refine qa_br (fun e => ?_) (fun e => ?_)
          · rw [e, if_neg (by decide)] at es
            rw [es] at ih2
            exact nm_r (nI_1 j) ih2
          · rw [e, if_pos rfl] at es
            by_cases d : qa_dn P S j = 9
            · rw [if_pos d] at es
              rw [es, if_neg (by omega)] at ih2
              rw [if_pos d]
              exact br_t (by decide) (nm_r (nI_1 j) ih2)
            · have k := qa_dn_sp P S j (by omega)
              have d6 := qa_deg_le P S j
              have d7 := qa_deg_le P S (qa_dn P S j)
              rw [if_neg d] at es
              rw [if_neg d]
              refine br_f (nI_pos (by omega)) (qy_neigh h6 y1 y2 hj (qy_neigh h6 y1 y2 (by omega) (pk_le _ _ (fun f => ?_) (fun f => ?_))))
              · rw [if_neg (by omega)] at es
                rw [es, if_neg d] at ih2
                exact nm_r (nI_1 j) ih2
              · rw [if_pos f] at es
                rw [es, if_neg (by omega)] at ih2
                exact nm_r (nI_1 j) ih2
    · have fl := qa_find_le (qa_sf P S) j
      rw [qa_find_s] at ih2
      refine pk_le (qa_v P) j (fun h => absurd h (by omega)) (fun _ => ?_)
      by_cases c : qa_find (qa_sf P S) j < j
      · rw [if_pos c, if_pos (by omega)] at ih2
        rw [if_pos c]
        exact br_t (nI_pos' (by omega)) (nm_r (nI_1 j) ih2)
      · rw [if_neg c] at ih2 ⊢
        have fF : qa_sf P S j = false → wY_pinAll_129 post (wY_pinAll_117 post mV mI (nI (qa_m P)) (nI (qa_w P)) (nI (qa_v P)) (nI (qa_c P)) oC hC cW sT n) (nI s) mV mI (nI (qa_m P)) (nI (qa_w P)) (nI (qa_v P)) (nI (qa_c P)) oC hC cW sT aK aC aO aX aY aZ aW bC qN qL bB qB bA bV aU aG k (-1) (nI (j + 1)) := by
          intro e
          rw [e, if_neg (by decide : ¬ false = true), if_neg (by omega)] at ih2
          exact ih2
        refine br_f (by decide) ⟨pk_in j 6 (by omega), ?_⟩
        rw [nI_clamp (by omega), y1 j hj]
        have d6 := qa_deg_le P S j
        refine qa_br (fun e => nm_r (nI_1 j) (fF (by unfold qa_sf; rw [e]; rfl))) (fun e => qy_neigh h6 y1 y2 hj (pk_lt 2 (qa_deg P S j) (fun d => nm_r (nI_1 j) (fF ?_)) (fun d => ?_)))
        · unfold qa_sf; rw [decide_eq_false (by omega), Bool.and_false]
        · rw [show qa_sf P S j = true by unfold qa_sf; rw [e, decide_eq_true d]; rfl, if_pos rfl, if_pos (by omega)] at ih2
          exact nm_r (nI_1 j) ih2
end
end
section
/-! ===== Y: who clashes, all pins, the search over codes ===== -/
section
variable {P : QA_P} {mV mI mC vC nV nC oC hC cW sT : Int32} {aK aC aO aX aY aZ aW bC bN bL bB bP bA bV aU aG : Nat → Int32}
theorem qy_pinAll {post : SY → Prop} (hP : qa_PG P aK aC aO aX aY aZ aW) (h : ∀ bC' bN' bL' bB' bP', (∀ u v, u < qa_v P → v < qa_v P → bC' (u * 6 + v) = qa_b (qa_I P u v)) → qa_YM P (qa_F P) bL' bN' bP' → post (mV, mI, (nI (qa_m P)), (nI (qa_w P)), (nI (qa_v P)), (nI (qa_c P)), oC, hC, cW, sT, aK, aC, aO, aX, aY, aZ, aW, bC', bN', bL', bB', bP', bA, bV, aU, aG)) : wpY_pinAll post (mV, mI, (nI (qa_m P)), (nI (qa_w P)), (nI (qa_v P)), (nI (qa_c P)), oC, hC, cW, sT, aK, aC, aO, aX, aY, aZ, aW, bC, bN, bL, bB, bP, bA, bV, aU, aG) := by
  have h6 := qa_v6 hP.1
  unfold wpY_pinAll
  refine loop_0 (fun n u (t : (Nat → Int32) × (Nat → Int32) × (Nat → Int32) × (Nat → Int32) × (Nat → Int32)) => wY_pinAll_2 post n (nI u) mV mI (nI (qa_m P)) (nI (qa_w P)) (nI (qa_v P)) (nI (qa_c P)) oC hC cW sT aK aC aO aX aY aZ aW t.1 t.2.1 t.2.2.1 t.2.2.2.1 t.2.2.2.2 bA bV aU aG)
    (fun u t => (∀ a, a < u → t.2.2.1 a = 1 ∧ t.2.2.2.2 a = -1) ∧ ∀ a b, a < u → b < qa_v P → t.1 (a * 6 + b) = qa_b (qa_I P a b) ∧ t.2.1 (a * 6 + b) = qa_b (qa_N0 P a b)) (qa_v P) (bC, bN, bL, bB, bP) ⟨fun a ha => absurd ha (by omega), fun a b ha => absurd ha (by omega)⟩ (fun n t ht => ?_) (fun n u t hu ht ih => ?_)
  · obtain ⟨qC, qN, qL, qB, qP⟩ := t
    obtain ⟨t1, t2⟩ := ht
    dsimp only at t1 t2 ⊢
    refine pk_le (qa_v P) (qa_v P) (fun _ => ?_) (fun h => absurd h (by omega))
    exact qy_rounds hP (fun a b ha hb => (t2 a b ha hb).1) ⟨fun a ha => (t1 a ha).1, fun a b ha hb => (t2 a b ha hb).2, fun a ha => (t1 a ha).2⟩ (fun bL' bN' bP' Y => h _ _ _ _ _ (fun a b ha hb => (t2 a b ha hb).1) Y)
  · obtain ⟨qC, qN, qL, qB, qP⟩ := t
    obtain ⟨t1, t2⟩ := ht
    dsimp only at t1 t2 ih ⊢
    refine pk_le (qa_v P) u (fun h => absurd h (by omega)) (fun _ => ⟨pk_in u 6 (by omega), ?_⟩)
    rw [nI_clamp (by omega), qa_vb1]
    refine nm_e ⟨pk_in u 6 (by omega), nm_e ?_⟩
    have t1' : ∀ a, a < u + 1 → upd qL u 1 a = 1 ∧ upd qP u (-1) a = -1 := by
      intro a ha
      by_cases e : a = u
      · rw [e, pk_us, pk_us]; exact ⟨rfl, rfl⟩
      · rw [pk_un e, pk_un e]; exact t1 a (by omega)
    refine loop_0 (fun k v (t : (Nat → Int32) × (Nat → Int32) × (Nat → Int32)) => wY_pinAll_26 post (wY_pinAll_2 post n) (nI u) k (nI v) mV mI (nI (qa_m P)) (nI (qa_w P)) (nI (qa_v P)) (nI (qa_c P)) oC hC cW sT aK aC aO aX aY aZ aW t.1 t.2.1 (upd qL u 1) t.2.2 (upd qP u (-1)) bA bV aU aG)
      (fun v t => ∀ a b, b < qa_v P → (a < u ∨ (a = u ∧ b < v)) → t.1 (a * 6 + b) = qa_b (qa_I P a b) ∧ t.2.1 (a * 6 + b) = qa_b (qa_N0 P a b)) (qa_v P) (qC, qN, qB) (fun a b hb hc => t2 a b (by omega) hb) (fun k t ht => ?_) (fun k v t hv ht ih2 => ?_)
    · exact pk_le (qa_v P) (qa_v P) (fun _ => nm_r (nI_1 u) (ih (t.1, t.2.1, upd qL u 1, t.2.2, upd qP u (-1)) ⟨t1', fun a b ha hb => ht a b hb (by omega)⟩)) (fun h => absurd h (by omega))
    · obtain ⟨rC, rN, rB⟩ := t
      dsimp only at ht ih2 ⊢
      have g : ∀ rB z, z = qa_b (qa_I P u v) → wY_pinAll_63 post (wY_pinAll_2 post n) (wY_pinAll_26 post (wY_pinAll_2 post n) (nI u) k) (nI u) (nI v) z (nI u * 6 + nI v) mV mI (nI (qa_m P)) (nI (qa_w P)) (nI (qa_v P)) (nI (qa_c P)) oC hC cW sT aK aC aO aX aY aZ aW rC rN (upd qL u 1) rB (upd qP u (-1)) bA bV aU aG := by
        intro rB z hz
        subst hz
        unfold wY_pinAll_63
        rw [qa_i6]
        refine ⟨qa_in (by omega), ?_⟩
        rw [nI_clamp (by omega), qa_vb]
        refine nm_e ⟨qa_in (by omega), ?_⟩
        rw [pk_us]
        have st : ∀ x, x = qa_b (qa_N0 P u v) → ∀ a b, b < qa_v P → (a < u ∨ (a = u ∧ b < v + 1)) → upd rC (u * 6 + v) (qa_b (qa_I P u v)) (a * 6 + b) = qa_b (qa_I P a b) ∧ upd rN (u * 6 + v) x (a * 6 + b) = qa_b (qa_N0 P a b) := by
          intro x hx a b hb hc
          by_cases e : a = u ∧ b = v
          · rw [e.1, e.2, pk_us, pk_us]; exact ⟨rfl, hx⟩
          · rw [pk_un (by omega), pk_un (by omega)]; exact ht a b hb (by omega)
        refine qa_br (fun e => qy_linked hP hu hv (qa_br (fun f => ⟨qa_in (by omega), ?_⟩) (fun f => ⟨qa_in (by omega), ?_⟩))) (fun e => ⟨qa_in (by omega), ?_⟩)
        · rw [qa_vb0]
          refine nm_e (nm_r (nI_1 v) (ih2 (_, _, rB) (st _ ?_)))
          unfold qa_N0; rw [e, f]; rfl
        · rw [qa_vb1]
          refine nm_e (nm_r (nI_1 v) (ih2 (_, _, rB) (st _ ?_)))
          unfold qa_N0; rw [e, f]; rfl
        · rw [qa_vb1]
          refine nm_e (nm_r (nI_1 v) (ih2 (_, _, rB) (st _ ?_)))
          unfold qa_N0; rw [e]; rfl
      refine pk_le (qa_v P) v (fun h => absurd h (by omega)) (fun _ => ?_)
      refine pk_eq u v (fun e => ?_) (fun e => ?_)
      · unfold wY_pinAll_62
        refine g _ _ ?_
        rw [e, qa_I_i]; rfl
      · refine qy_meet hP hu hv (fun b => qa_br (fun f => ?_) (fun f => ?_))
        · unfold wY_pinAll_62
          refine g _ _ ?_
          unfold qa_I; rw [f, Bool.and_false]; rfl
        · refine g _ _ ?_
          unfold qa_I; rw [f, decide_eq_true (e : u ≠ v)]; rfl
/-! the search -/
def qa_val (P : QA_P) (d : Nat) : Prop := qa_agr P (qa_dg d) ∧ qa_alw P (qa_dg d) = true
def qa_bst (P : QA_P) (d : Nat) (x ch : Int32) : Prop :=
  (x = -1 ∧ ∀ k, k < d → ¬ qa_val P k) ∨ ∃ c, c < d ∧ qa_val P c ∧ x = nI (qa_cost P (qa_dg c)) ∧ ch = nI c ∧ ∀ k, k < d → qa_val P k → qa_cost P (qa_dg c) < qa_cost P (qa_dg k) ∨ (qa_cost P (qa_dg c) = qa_cost P (qa_dg k) ∧ c ≤ k)
theorem qa_bst_no {P : QA_P} {d : Nat} {x ch : Int32} (h : qa_bst P d x ch) (hd : ¬ qa_val P d) : qa_bst P (d + 1) x ch := by
  rcases h with ⟨h1, h2⟩ | ⟨c, h1, h2, h3, h4, h5⟩
  · refine Or.inl ⟨h1, fun k hk => ?_⟩
    by_cases e : k = d
    · rw [e]; exact hd
    · exact h2 k (by omega)
  · refine Or.inr ⟨c, by omega, h2, h3, h4, fun k hk hv => ?_⟩
    by_cases e : k = d
    · rw [e] at hv; exact absurd hv hd
    · exact h5 k (by omega) hv
def qa_kp (P : QA_P) (d v : Nat) : Bool := !(decide (qa_pn (qa_F P) v < 5) && decide (qa_dg d v ≠ qa_pn (qa_F P) v))
theorem qa_kp_agr {P : QA_P} {d : Nat} : qa_all (qa_kp P d) (qa_v P) = true ↔ qa_agr P (qa_dg d) := by
  rw [qa_all_iff]
  unfold qa_agr qa_kp
  constructor
  · intro h v hv h5
    have := h v hv
    rw [decide_eq_true h5, Bool.true_and, Bool.not_eq_true', decide_eq_false_iff_not] at this
    exact Decidable.not_not.mp this
  · intro h v hv
    by_cases h5 : qa_pn (qa_F P) v < 5
    · rw [decide_eq_true h5, Bool.true_and, Bool.not_eq_true', decide_eq_false_iff_not]
      exact fun z => z (h v hv h5)
    · rw [decide_eq_false h5]; rfl
theorem qy_allocate {post : Int32 → SY → Prop} (hP : qa_PG P aK aC aO aX aY aZ aW)
    (h : ∀ c bC' bN' bL' bB' bP' bA', c < 5 ^ qa_v P → qa_val P c → (∀ k, k < 5 ^ qa_v P → qa_agr P (qa_dg k) → qa_alw P (qa_dg k) = true → qa_cost P (qa_dg c) < qa_cost P (qa_dg k) ∨ (qa_cost P (qa_dg c) = qa_cost P (qa_dg k) ∧ c ≤ k)) →
      (∀ u v, u < qa_v P → v < qa_v P → bC' (u * 6 + v) = qa_b (qa_I P u v)) → qa_PB P (qa_F P) bP' →
      post (nI (qa_cost P (qa_dg c))) (mV, mI, (nI (qa_m P)), (nI (qa_w P)), (nI (qa_v P)), (nI (qa_c P)), 0, (nI c), cW, 1, aK, aC, aO, aX, aY, aZ, aW, bC', bN', bL', bB', bP', bA', bV, aU, (qa_fill aG (fun _ => 0) 4))) : wpY_allocate post (mV, mI, (nI (qa_m P)), (nI (qa_w P)), (nI (qa_v P)), (nI (qa_c P)), oC, hC, cW, sT, aK, aC, aO, aX, aY, aZ, aW, bC, bN, bL, bB, bP, bA, bV, aU, aG) := by
  have h6 := qa_v6 hP.1
  have hp := qa_pow6 h6
  unfold wpY_allocate
  refine qy_drop (qy_pinAll hP (fun rC rN rL rB rP kC Y => qy_codes h6 ?_))
  have yB := Y.2.2
  refine loop_0 (fun n d (t : Int32 × Int32 × (Nat → Int32)) => wY_allocate_17 post (nI (5 ^ qa_v P)) n t.1 (nI d) mV mI (nI (qa_m P)) (nI (qa_w P)) (nI (qa_v P)) (nI (qa_c P)) 0 t.2.1 cW 0 aK aC aO aX aY aZ aW rC rN rL rB rP t.2.2 bV aU (qa_fill aG (fun _ => 0) 4)) (fun d t => qa_bst P d t.1 t.2.1) (5 ^ qa_v P) (-1, hC, bA) (Or.inl ⟨rfl, fun k hk => absurd hk (by omega)⟩) (fun n t ht => ?_) (fun n d t hd ht ih => ?_)
  · obtain ⟨x, ch, a⟩ := t
    dsimp only at ht ⊢
    refine pk_le (5 ^ qa_v P) (5 ^ qa_v P) (fun _ => ?_) (fun h => absurd h (by omega))
    rcases ht with ⟨h1, h2⟩ | ⟨c, h1, h2, h3, h4, h5⟩
    · obtain ⟨s1, s2, s3⟩ := qa_saf_ok hP.1
      have k4 : ∀ v, v < qa_v P → qa_dg (qa_code (qa_saf P) (qa_v P)) v = qa_saf P v := qa_code_dg (fun v _ => s1 v)
      exact absurd ⟨fun v hv h5 => (k4 v hv).trans (s2 v hv h5), (qa_alw_congr k4).trans s3⟩ (h2 (qa_code (qa_saf P) (qa_v P)) (qa_code_lt (fun v _ => s1 v)))
    · rw [h3, h4]
      exact h c _ _ _ _ _ _ h1 h2 (fun k hk g1 g2 => h5 k hk ⟨g1, g2⟩) kC yB
  · obtain ⟨x, ch, a⟩ := t
    dsimp only at ht ih ⊢
    refine pk_le (5 ^ qa_v P) d (fun h => absurd h (by omega)) (fun _ => ?_)
    have skip : ∀ z a', z < 0 → ¬ qa_val P d → wY_allocate_88 post (wY_allocate_17 post (nI (5 ^ qa_v P)) n) x (nI (5 ^ qa_v P)) (nI d) z mV mI (nI (qa_m P)) (nI (qa_w P)) (nI (qa_v P)) (nI (qa_c P)) 0 ch cW 0 aK aC aO aX aY aZ aW rC rN rL rB rP a' bV aU (qa_fill aG (fun _ => 0) 4) := by
      intro z a' hz hv
      unfold wY_allocate_88
      exact br_t hz (nm_r (nI_1 d) (ih (x, ch, a') (qa_bst_no ht hv)))
    refine qa_up (fun k v => wY_allocate_28 post (wY_allocate_17 post (nI (5 ^ qa_v P)) n) x (nI (5 ^ qa_v P)) (nI d) mV mI (nI (qa_m P)) (nI (qa_w P)) (nI (qa_v P)) (nI (qa_c P)) 0 ch cW 0 aK aC aO aX aY aZ aW rC rN rL rB rP a bV aU (qa_fill aG (fun _ => 0) 4) k (qa_b (qa_all (qa_kp P d) v)) (nI v)) (qa_v P) (fun k => ?_) (fun k v hv ih2 => ?_)
    · refine pk_le (qa_v P) (qa_v P) (fun _ => qa_br (fun e => skip _ _ (by decide) (fun z => ?_)) (fun e => ?_)) (fun h => absurd h (by omega))
      · rw [qa_kp_agr.mpr z.1] at e; exact Bool.noConfusion e
      · have hg := qa_kp_agr.mp e
        refine qy_judge hP kC (by omega) (fun a' => ?_)
        unfold qa_jd
        by_cases al : qa_alw P (qa_dg d) = true
        · have cl := qa_cost_le hP.1 (b := qa_dg d) (fun v _ => qa_dg_lt d v)
          rw [if_pos al]
          unfold wY_allocate_88
          refine br_f (nI_pos (by omega)) ?_
          have take : (∀ k, k < d → qa_val P k → qa_cost P (qa_dg d) < qa_cost P (qa_dg k)) → qa_bst P (d + 1) (nI (qa_cost P (qa_dg d))) (nI d) := by
            intro z
            refine Or.inr ⟨d, by omega, ⟨hg, al⟩, rfl, rfl, fun k hk hv => ?_⟩
            by_cases e : k = d
            · rw [e]; exact Or.inr ⟨rfl, Nat.le_refl _⟩
            · exact Or.inl (z k (by omega) hv)
          rcases ht with ⟨h1, h2⟩ | ⟨c, h1, h2, h3, h4, h5⟩
          · rw [h1]
            exact br_t (by decide) (nm_r (nI_1 d) (ih (_, nI d, a') (take (fun k hk hv => absurd hv (h2 k hk)))))
          · have c2 := qa_cost_le hP.1 (b := qa_dg c) (fun v _ => qa_dg_lt c v)
            rw [h3]
            refine br_f (nI_pos (by omega)) (pk_le _ _ (fun f => nm_r (nI_1 d) (ih (_, ch, a') (Or.inr ⟨c, by omega, h2, rfl, h4, fun k hk hv => ?_⟩))) (fun f => nm_r (nI_1 d) (ih (_, nI d, a') (take (fun k hk hv => ?_)))))
            · by_cases e : k = d
              · rw [e]; omega
              · exact h5 k (by omega) hv
            · have := h5 k hk hv
              omega
        · rw [if_neg al]
          exact skip _ _ (by decide) (fun z => al z.2)
    · rw [qa_all_s] at ih2
      refine pk_le (qa_v P) v (fun h => absurd h (by omega)) (fun _ => ⟨pk_in v 6 (by omega), ?_⟩)
      rw [nI_clamp (by omega), yB v hv]
      by_cases c : qa_pn (qa_F P) v < 5
      · rw [if_pos c]
        have dv := qa_dg_lt d v
        refine br_f (nI_pos (by omega)) (qy_digit (by omega) (by omega) ⟨pk_in v 6 (by omega), ?_⟩)
        refine pk_eq _ _ (fun e => ?_) (fun e => ?_)
        · rw [show qa_kp P d v = true by unfold qa_kp; rw [decide_eq_false (by simp [e] : ¬ qa_dg d v ≠ qa_pn (qa_F P) v), Bool.and_false]; rfl, Bool.and_true] at ih2
          exact nm_r (nI_1 v) ih2
        · rw [show qa_kp P d v = false by unfold qa_kp; rw [decide_eq_true (e : qa_dg d v ≠ qa_pn (qa_F P) v), decide_eq_true c]; rfl, Bool.and_false] at ih2
          exact nm_r (nI_1 v) ih2
      · rw [if_neg c]
        rw [show qa_kp P d v = true by unfold qa_kp; rw [decide_eq_false c]; rfl, Bool.and_true] at ih2
        exact br_t (by decide) (nm_r (nI_1 v) ih2)
end
end
section
/-! ===== the machine: values live where interference keeps them apart ===== -/
def qa_ld (P : QA_P) (a : Nat → Nat) (aG aS : Nat → Int32) (v : Nat) : Int32 :=
  if a v = 4 then aS v else if qa_k P v = 1 then (aG (a v + 1) <<< ((16 : Int32) &&& 31)) ||| (aG (a v) &&& 65535) else aG (a v)
def qa_s16 (r : Int32) : Int32 := r.toInt16.toInt32
def qa_h16 (r : Int32) : Int32 := (r >>> ((16 : Int32) &&& 31)).toInt16.toInt32
def qa_nv (P : QA_P) (x : Nat) (r : Int32) : Int32 := if qa_k P x = 1 then r else qa_s16 r
def qa_sG (P : QA_P) (a : Nat → Nat) (aG : Nat → Int32) (x : Nat) (r : Int32) : Nat → Int32 :=
  if a x = 4 then aG else if qa_k P x = 1 then upd (upd aG (a x) (qa_s16 r)) (a x + 1) (qa_h16 r) else upd aG (a x) (qa_s16 r)
def qa_sS (P : QA_P) (a : Nat → Nat) (aS : Nat → Int32) (x : Nat) (r : Int32) : Nat → Int32 := if a x = 4 then upd aS x (qa_nv P x r) else aS
theorem qa_bt16 (r : Int32) {i : Nat} (hi : i < 16) : bt (qa_s16 r) i = bt r i := by
  unfold qa_s16 bt
  show ((r.toBitVec.signExtend 16).signExtend 32).getLsbD i = _
  rw [BitVec.getLsbD_signExtend, if_pos hi, BitVec.getLsbD_signExtend, if_pos (by omega), decide_eq_true hi, decide_eq_true (by omega : i < 32)]
  simp
theorem qa_glue (r : Int32) : (qa_h16 r <<< ((16 : Int32) &&& 31)) ||| (qa_s16 r &&& 65535) = r := by
  apply b_ext
  intro i hi
  rw [b_or, b_shl16 _ hi, b_and, b_65535]
  by_cases c : 16 ≤ i
  · rw [decide_eq_true c, decide_eq_false (by omega), Bool.and_false, Bool.or_false, Bool.true_and]
    show bt (qa_s16 (r >>> ((16 : Int32) &&& 31))) (i - 16) = _
    rw [qa_bt16 _ (by omega)]
    have := b_sshr 16 (by omega) r (i := i - 16) (by omega)
    rw [if_pos (by omega), show 16 + (i - 16) = i by omega] at this
    exact this
  · rw [decide_eq_false c, decide_eq_true (by omega), Bool.false_and, Bool.false_or, Bool.and_true, qa_bt16 _ (by omega)]
theorem qa_s16_s (r : Int32) : qa_s16 (qa_s16 r) = qa_s16 r := by
  unfold qa_s16
  rw [← vp_nar_short (r.toInt16.toInt32)]
  exact pk_vs r
theorem qa_fit_w {P : QA_P} {v p : Nat} (h : qa_fit P v p = true) (hk : qa_k P v = 1) : p = 4 ∨ p = 0 ∨ p = 2 := by
  have := of_decide_eq_true h
  omega
theorem qa_fit_lt {P : QA_P} {v p : Nat} (h : qa_fit P v p = true) : p ≤ 4 := by
  have := of_decide_eq_true h
  omega
/-- a store is read back -/
theorem qa_ld_x {P : QA_P} {a : Nat → Nat} {aG aS : Nat → Int32} {x : Nat} (r : Int32) : qa_ld P a (qa_sG P a aG x r) (qa_sS P a aS x r) x = qa_nv P x r := by
  unfold qa_ld qa_sG qa_sS qa_nv
  by_cases c : a x = 4
  · rw [if_pos c, if_pos c, pk_us]
  · rw [if_neg c, if_neg c]
    by_cases d : qa_k P x = 1
    · rw [if_pos d, if_pos d, if_pos d, pk_us, pk_un (by omega), pk_us]
      exact qa_glue r
    · rw [if_neg d, if_neg d, if_neg d, pk_us]
/-- a store elsewhere isn't seen -/
theorem qa_ld_n {P : QA_P} {a : Nat → Nat} {aG aS : Nat → Int32} {x u : Nat} (r : Int32) (hx : a x ≤ 4) (hu : a u ≤ 4) (hux : u ≠ x) (h : qa_sh P x (a x) u (a u) = false) :
    qa_ld P a (qa_sG P a aG x r) (qa_sS P a aS x r) u = qa_ld P a aG aS u := by
  have no : ∀ w, qa_occ P x (a x) w = true → qa_occ P u (a u) w = true → False := fun w h1 h2 => by
    rw [qa_sh_r h1 h2] at h; exact Bool.noConfusion h
  have g : ∀ w, qa_occ P u (a u) w = true → qa_sG P a aG x r w = aG w := by
    intro w hw
    unfold qa_sG
    by_cases c : a x = 4
    · rw [if_pos c]
    · rw [if_neg c]
      by_cases d : qa_k P x = 1
      · rw [if_pos d, pk_un (fun z => no w (decide_eq_true (by omega)) hw), pk_un (fun z => no w (decide_eq_true (by omega)) hw)]
      · rw [if_neg d, pk_un (fun z => no w (decide_eq_true (by omega)) hw)]
  unfold qa_ld
  by_cases c : a u = 4
  · rw [if_pos c, if_pos c]
    unfold qa_sS
    by_cases d : a x = 4
    · rw [if_pos d, pk_un hux]
    · rw [if_neg d]
  · rw [if_neg c, if_neg c]
    by_cases d : qa_k P u = 1
    · rw [if_pos d, if_pos d, g _ (decide_eq_true (by omega)), g _ (decide_eq_true (by omega))]
    · rw [if_neg d, if_neg d, g _ (decide_eq_true (by omega))]
/-- alike and in a shared register: the same place, the stored value is read -/
theorem qa_ld_s {P : QA_P} {a : Nat → Nat} {aG aS : Nat → Int32} {x u : Nat} (r : Int32) (hx : qa_fit P x (a x) = true) (hu : qa_fit P u (a u) = true) (hal : qa_al P x u = true) (h : qa_sh P x (a x) u (a u) = true) :
    qa_ld P a (qa_sG P a aG x r) (qa_sS P a aS x r) u = qa_nv P u r := by
  have ha := of_decide_eq_true hal
  obtain ⟨w, hw, e⟩ := qa_any_iff.mp h
  rw [Bool.and_eq_true] at e
  have e1 := of_decide_eq_true e.1
  have e2 := of_decide_eq_true e.2
  have l1 := qa_fit_lt hx
  have l2 := qa_fit_lt hu
  have hp : a u = a x := by
    by_cases k : qa_k P x = 1
    · have := qa_fit_w hx k
      have := qa_fit_w hu (ha.mp k)
      omega
    · have : ¬ qa_k P u = 1 := fun z => k (ha.mpr z)
      omega
  have nx : ¬ a x = 4 := by omega
  unfold qa_ld qa_sG qa_nv
  rw [hp]
  simp only [if_neg nx]
  by_cases k : qa_k P x = 1
  · simp only [if_pos k, if_pos (ha.mp k)]
    rw [pk_us, pk_un (by omega), pk_us]
    exact qa_glue r
  · have k' : ¬ qa_k P u = 1 := fun z => k (ha.mpr z)
    simp only [if_neg k, if_neg k']
    rw [pk_us]
/-- the heart: after a write every needed variable still holds its value -/
theorem qa_keep {P : QA_P} {a : Nat → Nat} (hal : qa_alw P a = true) {aG aS bV : Nat → Int32} {i : Nat} (hi : i < qa_c P) (h5 : qa_o P i ≤ 5) (hx : qa_x P i < qa_v P)
    (hl : ∀ u, u < qa_v P → qa_lb P u i = true → qa_ld P a aG aS u = bV u) (hn : ∀ u, u < qa_v P → ¬ qa_k P u = 1 → qa_s16 (bV u) = bV u) {r : Int32}
    (hr : qa_o P i = 1 → r = bV (qa_y P i)) {u : Nat} (hu : u < qa_v P) (hla : qa_la P u i = true) :
    qa_ld P a (qa_sG P a aG (qa_x P i) r) (qa_sS P a aS (qa_x P i) r) u = upd bV (qa_x P i) (qa_nv P (qa_x P i) r) u := by
  have al := qa_alw_iff.mp hal
  by_cases c : u = qa_x P i
  · rw [c, pk_us]; exact qa_ld_x r
  · rw [pk_un c]
    have hlb : qa_lb P u i = true := by
      rw [qa_lb_eq, decide_eq_true hi, hla, show qa_wr P i u = false from decide_eq_false (by omega)]
      cases qa_rd P i u <;> rfl
    have fx := (al _ hx).1
    have fu := (al _ hu).1
    cases hs : qa_sh P (qa_x P i) (a (qa_x P i)) u (a u) with
    | false =>
      rw [qa_ld_n r (qa_fit_lt fx) (qa_fit_lt fu) c hs]
      exact hl u hu hlb
    | true =>
      have nI' : qa_I P (qa_x P i) u = false := by
        rcases Nat.lt_or_gt_of_ne c with h | h
        · have := (al _ hx).2 u h
          rw [qa_cl_c] at this
          unfold qa_cl at this
          rw [hs, Bool.and_true] at this
          exact this
        · have := (al _ hu).2 _ h
          unfold qa_cl at this
          rw [hs, Bool.and_true] at this
          exact this
      have nh : qa_hit P i (qa_x P i) u = false := qa_tf (fun z => by
        have : qa_I P (qa_x P i) u = true := by
          unfold qa_I
          rw [decide_eq_true (show qa_x P i ≠ u from fun z => c z.symm), Bool.true_and]
          exact qa_any_iff.mpr ⟨i, hi, by unfold qa_mt2; rw [z]; rfl⟩
        rw [nI'] at this
        exact Bool.noConfusion this)
      unfold qa_hit at nh
      rw [show qa_wr P i (qa_x P i) = true from decide_eq_true (by omega), hla, Bool.true_and, Bool.true_and, Bool.not_eq_false', Bool.and_eq_true, decide_eq_true_eq] at nh
      rw [qa_ld_s r fx fu nh.2 hs, hr nh.1.1, nh.1.2]
      unfold qa_nv
      by_cases k : qa_k P u = 1
      · rw [if_pos k]
      · rw [if_neg k]; exact hn u hu k
theorem qa_narrow {P : QA_P} {bV : Nat → Int32} (hn : ∀ u, u < qa_v P → ¬ qa_k P u = 1 → qa_s16 (bV u) = bV u) (x : Nat) (r : Int32) : ∀ u, u < qa_v P → ¬ qa_k P u = 1 → qa_s16 (upd bV x (qa_nv P x r) u) = upd bV x (qa_nv P x r) u := by
  intro u hu k
  by_cases c : u = x
  · rw [c, pk_us]
    unfold qa_nv
    rw [if_neg (by rw [← c]; exact k), qa_s16_s]
  · rw [pk_un c]; exact hn u hu k
def qa_res (P : QA_P) (aY : Nat → Int32) (f : Nat → Int32) (p q : Int32) (i : Nat) : Int32 :=
  if qa_o P i = 0 then aY i else if qa_o P i = 5 then (if aY i = 0 then p else q) else if qa_o P i = 1 then f (qa_y P i)
  else if qa_o P i = 2 then f (qa_y P i) + f (qa_z P i) else if qa_o P i = 3 then f (qa_y P i) - f (qa_z P i) else f (qa_y P i) * f (qa_z P i)
theorem qa_res_eq {P : QA_P} {aY f g : Nat → Int32} {p q : Int32} {i : Nat} (h5 : qa_o P i ≤ 5) (hy : 1 ≤ qa_o P i → qa_o P i ≤ 4 → f (qa_y P i) = g (qa_y P i)) (hz : 2 ≤ qa_o P i → qa_o P i ≤ 4 → f (qa_z P i) = g (qa_z P i)) : qa_res P aY f p q i = qa_res P aY g p q i := by
  unfold qa_res
  by_cases o0 : qa_o P i = 0
  · rw [if_pos o0, if_pos o0]
  · by_cases o5 : qa_o P i = 5
    · rw [if_neg o0, if_neg o0, if_pos o5, if_pos o5]
    · rw [hy (by omega) (by omega)]
      by_cases o1 : qa_o P i = 1
      · rw [if_pos o1]
        simp only [if_neg o0, if_neg o5, if_pos o1]
      · rw [hz (by omega) (by omega)]
section
variable {P : QA_P} {mV mI mC vC nV nC cW sT sK pM oC : Int32} {sC fO : Int64} {aK aC aO aX aY aZ aW aB aA aI aM aP aN aR aL aT aG aS aU : Nat → Int32} {aV aE : Nat → Int64}
variable {a : Nat → Nat}
theorem qx_load {post : Int32 → Prop} (hP : qa_PG P aK aC aO aX aY aZ aW) (hL : ∀ v, v < qa_v P → aL v = nI (a v)) {v : Nat} (hv : v < qa_v P) (hf : qa_fit P v (a v) = true) (h : post (qa_ld P a aG aS v)) : wpX_load post (mV, mI, mC, vC, sC, fO, nV, nC, cW, sT, sK, pM, oC, aK, aC, aO, aX, aY, aZ, aW, aB, aA, aI, aM, aP, aN, aV, aE, aR, aL, aT, aG, aS, aU) (nI v) := by
  have h6 := qa_v6 hP.1
  have hk := qa_gK hP hv
  have l4 := qa_fit_lt hf
  unfold qa_ld at h
  unfold wpX_load
  refine ⟨pk_in v 6 (by omega), ?_⟩
  rw [nI_clamp (n := v) (by omega), hL v hv]
  refine nm_e (pk_eq (a v) 4 (fun e => ⟨pk_in v 6 (by omega), ?_⟩) (fun e => ⟨pk_in v 6 (by omega), ?_⟩))
  · rwa [if_pos e] at h
  · rw [if_neg e] at h
    rw [hk.1, nI_1]
    refine pk_eq (qa_k P v) 1 (fun k => ?_) (fun k => ?_)
    · have := qa_fit_w hf k
      rw [if_pos k] at h
      refine ⟨qa_in (by omega), qa_in (by omega), ?_⟩
      rw [nI_clamp (by omega), nI_clamp (by omega)]
      exact h
    · rw [if_neg k] at h
      refine ⟨qa_in (by omega), ?_⟩
      rw [nI_clamp (by omega)]
      exact h
theorem qx_result {post : Int32 → Prop} (hP : qa_PG P aK aC aO aX aY aZ aW) (hL : ∀ v, v < qa_v P → aL v = nI (a v)) (hf : ∀ v, v < qa_v P → qa_fit P v (a v) = true) {p q : Int32} {i : Nat} (hi : i < qa_c P) (h5 : qa_o P i ≤ 5) (h : post (qa_res P aY (qa_ld P a aG aS) p q i)) : wpX_result post (mV, mI, mC, vC, sC, fO, nV, nC, cW, sT, sK, pM, oC, aK, aC, aO, aX, aY, aZ, aW, aB, aA, aI, aM, aP, aN, aV, aE, aR, aL, aT, aG, aS, aU) (nI i) p q := by
  have h6 := qa_v6 hP.1
  have h16 := qa_c16 hP.1
  have hO := qa_gO hP hi
  unfold qa_res at h
  unfold wpX_result
  refine ⟨pk_in i 16 (by omega), ?_⟩
  rw [nI_clamp (by omega), hO.1]
  refine nm_e (br_f (nI_pos (by omega)) ?_)
  refine pk_lt 4 (qa_o P i) (fun o => ⟨pk_in i 16 (by omega), ?_⟩) (fun o4 => ?_)
  · rw [if_neg (by omega), if_pos (by omega)] at h
    refine br_c (fun e => ?_) (fun e => ?_)
    · rwa [if_pos e] at h
    · rwa [if_neg e] at h
  refine pk_eq (qa_o P i) 0 (fun o => ⟨pk_in i 16 (by omega), ?_⟩) (fun o0 => ?_)
  · rwa [if_pos o] at h
  rw [if_neg o0, if_neg (by omega)] at h
  have hY := qa_gY hP hi (by omega) (by omega)
  rw [hY.1]
  refine pk_eq (qa_o P i) 1 (fun o => ⟨pk_in i 16 (by omega), ?_⟩) (fun o1 => ?_)
  · rw [if_pos o] at h
    exact qx_load hP hL hY.2 (hf _ hY.2) h
  rw [if_neg o1] at h
  have hZ := qa_gZ hP hi (by omega) (by omega)
  rw [hZ.1]
  refine pk_eq (qa_o P i) 2 (fun o => ⟨pk_in i 16 (by omega), ?_⟩) (fun o2 => ?_)
  · rw [if_pos o] at h
    exact qx_load hP hL hY.2 (hf _ hY.2) ⟨pk_in i 16 (by omega), qx_load hP hL hZ.2 (hf _ hZ.2) h⟩
  rw [if_neg o2] at h
  refine pk_eq (qa_o P i) 3 (fun o => ⟨pk_in i 16 (by omega), ?_⟩) (fun o3 => ?_)
  · rw [if_pos o] at h
    exact qx_load hP hL hY.2 (hf _ hY.2) ⟨pk_in i 16 (by omega), qx_load hP hL hZ.2 (hf _ hZ.2) h⟩
  rw [if_neg o3] at h
  refine pk_eq (qa_o P i) 4 (fun o => ⟨pk_in i 16 (by omega), ?_⟩) (fun o4' => trivial)
  exact qx_load hP hL hY.2 (hf _ hY.2) ⟨pk_in i 16 (by omega), qx_load hP hL hZ.2 (hf _ hZ.2) h⟩
theorem qx_store {post : SX → Prop} (hP : qa_PG P aK aC aO aX aY aZ aW) (hL : ∀ v, v < qa_v P → aL v = nI (a v)) {x : Nat} {r : Int32} (hx : x < qa_v P) (hf : qa_fit P x (a x) = true) (h : post (mV, mI, mC, vC, sC, fO, nV, nC, cW, sT, sK, pM, oC, aK, aC, aO, aX, aY, aZ, aW, aB, aA, aI, aM, aP, aN, aV, aE, aR, aL, aT, (qa_sG P a aG x r), (qa_sS P a aS x r), aU)) : wpX_store post (mV, mI, mC, vC, sC, fO, nV, nC, cW, sT, sK, pM, oC, aK, aC, aO, aX, aY, aZ, aW, aB, aA, aI, aM, aP, aN, aV, aE, aR, aL, aT, aG, aS, aU) (nI x) r := by
  have h6 := qa_v6 hP.1
  have hk := qa_gK hP hx
  have l4 := qa_fit_lt hf
  unfold qa_sG qa_sS qa_nv at h
  unfold wpX_store
  refine ⟨pk_in x 6 (by omega), ?_⟩
  rw [nI_clamp (n := x) (by omega), hL x hx]
  refine nm_e ⟨pk_in x 6 (by omega), ?_⟩
  rw [hk.1]
  refine pk_eq (qa_k P x) 1 (fun k => ?_) (fun k => ?_)
  · have := qa_fit_w hf k
    simp only [if_pos k] at h
    unfold wX_store_22
    refine pk_eq (a x) 4 (fun e => br_f (by decide) ⟨pk_in x 6 (by omega), ?_⟩) (fun e => ⟨qa_in (by omega), ?_⟩)
    · rw [nI_clamp (by omega)]
      simp only [if_pos e] at h
      exact nm_e h
    · simp only [if_neg e] at h
      rw [nI_1, pk_vs, nI_clamp (n := a x) (by omega)]
      refine nm_e (br_f (by decide) ⟨qa_in (by omega), ?_⟩)
      rw [pk_vs, nI_clamp (by omega)]
      exact nm_e h
  · simp only [if_neg k] at h
    unfold wX_store_22
    refine pk_eq (a x) 4 (fun e => br_t rfl ⟨pk_in x 6 (by omega), ?_⟩) (fun e => ⟨qa_in (by omega), ?_⟩)
    · rw [nI_clamp (by omega)]
      simp only [if_pos e] at h
      exact nm_e h
    · simp only [if_neg e] at h
      rw [pk_vs, nI_clamp (by omega)]
      exact nm_e (br_t rfl h)
end
section
variable {P : QA_P} {mV mI mC vC nV nC oC hC cW sT : Int32} {aK aC aO aX aY aZ aW bC bN bL bB bP bA bV aU aG : Nat → Int32}
variable {a : Nat → Nat}
theorem qy_result {post : Int32 → Prop} (hP : qa_PG P aK aC aO aX aY aZ aW) {p q : Int32} {i : Nat} (hi : i < qa_c P) (h5 : qa_o P i ≤ 5) (h : post (qa_res P aY bV p q i)) : wpY_result post (mV, mI, mC, vC, nV, nC, oC, hC, cW, sT, aK, aC, aO, aX, aY, aZ, aW, bC, bN, bL, bB, bP, bA, bV, aU, aG) (nI i) p q := by
  have h6 := qa_v6 hP.1
  have h16 := qa_c16 hP.1
  have hO := qa_gO hP hi
  unfold qa_res at h
  unfold wpY_result
  refine ⟨pk_in i 16 (by omega), ?_⟩
  rw [nI_clamp (by omega), hO.1]
  refine pk_eq (qa_o P i) 0 (fun o => ⟨pk_in i 16 (by omega), ?_⟩) (fun o0 => ⟨pk_in i 16 (by omega), ?_⟩)
  · rwa [if_pos o] at h
  rw [if_neg o0] at h
  refine pk_eq (qa_o P i) 5 (fun o => ⟨pk_in i 16 (by omega), ?_⟩) (fun o5 => ⟨pk_in i 16 (by omega), ?_⟩)
  · rw [if_pos o] at h
    refine br_c (fun e => ?_) (fun e => ?_)
    · rwa [if_pos e] at h
    · rwa [if_neg e] at h
  rw [if_neg o5] at h
  have hY := qa_gY hP hi (by omega) (by omega)
  rw [hY.1]
  refine ⟨qa_in (by omega), ?_⟩
  rw [nI_clamp (n := qa_y P i) (by omega)]
  refine nm_e ⟨pk_in i 16 (by omega), ?_⟩
  refine pk_eq (qa_o P i) 1 (fun o => ?_) (fun o1 => ⟨pk_in i 16 (by omega), ?_⟩)
  · rwa [if_pos o] at h
  rw [if_neg o1] at h
  have hZ := qa_gZ hP hi (by omega) (by omega)
  rw [hZ.1]
  refine ⟨qa_in (by omega), ?_⟩
  rw [nI_clamp (n := qa_z P i) (by omega)]
  refine nm_e ⟨pk_in i 16 (by omega), ?_⟩
  refine pk_eq (qa_o P i) 2 (fun o => ?_) (fun o2 => ⟨pk_in i 16 (by omega), ?_⟩)
  · rwa [if_pos o] at h
  rw [if_neg o2] at h
  refine pk_eq (qa_o P i) 3 (fun o => ?_) (fun o3 => ?_)
  · rwa [if_pos o] at h
  · rwa [if_neg o3] at h
theorem qy_store {post : SY → Prop} (hP : qa_PG P aK aC aO aX aY aZ aW) {c : Nat} (hc : c < 2 ^ 31) (ha : ∀ v, v < qa_v P → a v = qa_dg c v) {x : Nat} {r : Int32} (hx : x < qa_v P) (hf : qa_fit P x (a x) = true) (h : post (mV, mI, mC, vC, nV, nC, oC, (nI c), cW, sT, aK, aC, aO, aX, aY, aZ, aW, bC, bN, bL, bB, bP, bA, (upd bV x (qa_nv P x r)), aU, (qa_sG P a aG x r))) : wpY_store post (mV, mI, mC, vC, nV, nC, oC, (nI c), cW, sT, aK, aC, aO, aX, aY, aZ, aW, bC, bN, bL, bB, bP, bA, bV, aU, aG) (nI x) r := by
  have h6 := qa_v6 hP.1
  have hk := qa_gK hP hx
  have l4 := qa_fit_lt hf
  have g : wY_store_21 post (nI x) r (qa_nv P x r) (nI x) mV mI mC vC nV nC oC (nI c) cW sT aK aC aO aX aY aZ aW bC bN bL bB bP bA bV aU aG := by
    unfold qa_sG at h
    unfold wY_store_21
    refine ⟨pk_in x 6 (by omega), ?_⟩
    rw [nI_clamp (n := x) (by omega)]
    refine nm_e (qy_digit (by omega) hc ?_)
    rw [← ha x hx]
    refine pk_le 4 (a x) (fun e => ?_) (fun e => ⟨qa_in (by omega), ?_⟩)
    · rw [if_pos (by omega)] at h
      unfold wY_store_45
      exact pk_le 3 (a x) (fun _ => h) (fun z => absurd z (by omega))
    · rw [if_neg (by omega)] at h
      rw [nI_clamp (by omega)]
      refine nm_e ?_
      unfold wY_store_45
      refine pk_le 3 (a x) (fun e3 => ?_) (fun e3 => ⟨pk_in x 6 (by omega), ?_⟩)
      · rw [if_neg (fun z => by have := qa_fit_w hf z; omega)] at h
        exact h
      · rw [nI_clamp (by omega), hk.1, nI_1]
        refine pk_eq (qa_k P x) 1 (fun k => ⟨qa_in (by omega), ?_⟩) (fun k => ?_)
        · rw [if_pos k] at h
          rw [nI_clamp (by omega)]
          exact nm_e h
        · rw [if_neg k] at h
          exact h
  unfold wpY_store
  refine ⟨pk_in x 6 (by omega), ?_⟩
  rw [nI_clamp (by omega), hk.1]
  unfold qa_nv at g
  refine pk_eq (qa_k P x) 1 (fun k => ?_) (fun k => ?_)
  · rw [if_pos k] at g; exact g
  · rw [if_neg k] at g; exact g
end
end
section
/-! ===== run: both machines turn by turn ===== -/
section
variable {P : QA_P} {jV jI w o : Nat} {st : Bool} {mV mI cW sT sK pM oC hC : Int32} {aK aC aO aX aY aZ aW aB aA aI aM aP aN aR aL aT aG aS aU bC bN bL bB bP bA bV : Nat → Int32} {aV aE : Nat → Int64}
theorem qr_run {a : Nat → Nat} {c : Nat} (hP : qa_PG P aK aC aO aX aY aZ aW) (hL : ∀ v, v < qa_v P → aL v = nI (a v)) (hal : qa_alw P a = true) (hc : c < 2 ^ 31) (ha : ∀ v, v < qa_v P → a v = qa_dg c v) (p q : Int32) :
    ∀ (d i nx oc : Nat) (aG aS aU bV : Nat → Int32), i + d = qa_c P → nx ≤ 40 → oc ≤ i → (∀ u, u < qa_v P → qa_lb P u (if nx ≤ i then i else nx) = true → qa_ld P a aG aS u = bV u) → (∀ u, u < qa_v P → ¬ qa_k P u = 1 → qa_s16 (bV u) = bV u) →
    ∃ (oc' : Nat) (aG' aS' aU' bV' : Nat → Int32), oc' ≤ 16 ∧
      (∀ post : Int32 → SX → Prop, post (nI oc') (mV, mI, (nI (qa_m P)), (nI (qa_w P)), 15625, 1000000000000, (nI (qa_v P)), (nI (qa_c P)), cW, sT, sK, pM, (nI oc'), aK, aC, aO, aX, aY, aZ, aW, aB, aA, aI, aM, aP, aN, aV, aE, aR, aL, aT, aG', aS', aU') → wX_run_18 post p q (d + 1) (nI nx) (nI i) mV mI (nI (qa_m P)) (nI (qa_w P)) 15625 1000000000000 (nI (qa_v P)) (nI (qa_c P)) cW sT sK pM (nI oc) aK aC aO aX aY aZ aW aB aA aI aM aP aN aV aE aR aL aT aG aS aU) ∧
      (∀ post : Int32 → SY → Prop, post (nI oc') (mV, mI, (nI (qa_m P)), (nI (qa_w P)), (nI (qa_v P)), (nI (qa_c P)), (nI oc'), (nI c), cW, sT, aK, aC, aO, aX, aY, aZ, aW, bC, bN, bL, bB, bP, bA, bV', aU', aG') → wY_run_39 post p q (d + 1) (nI nx) (nI i) mV mI (nI (qa_m P)) (nI (qa_w P)) (nI (qa_v P)) (nI (qa_c P)) (nI oc) (nI c) cW sT aK aC aO aX aY aZ aW bC bN bL bB bP bA bV aU aG) := by
  have h6 := qa_v6 hP.1
  have h16 := qa_c16 hP.1
  have hf : ∀ v, v < qa_v P → qa_fit P v (a v) = true := fun v hv => (qa_alw_iff.mp hal v hv).1
  intro d
  induction d with
  | zero =>
    intro i nx oc aG aS aU bV hi hx ho hl hn
    exact ⟨oc, aG, aS, aU, bV, by omega, fun post hp => pk_le (qa_c P) i (fun _ => hp) (fun z => absurd z (by omega)), fun post hp => pk_le (qa_c P) i (fun _ => hp) (fun z => absurd z (by omega))⟩
  | succ d ih =>
    intro i nx oc aG aS aU bV hid hx ho hl hn
    have hi : i < qa_c P := by omega
    have hO := qa_gO hP hi
    have hX := qa_gX hP hi
    by_cases hnx : nx ≤ i
    · rw [if_pos hnx] at hl
      have la : ∀ u, qa_lb P u (i + 1) = true → qa_la P u i = true := fun u z => qa_la_iff.mpr (Or.inl z)
      have nw : ¬ qa_o P i ≤ 5 → ∀ u, qa_la P u i = true → qa_lb P u i = true := by
        intro z u hu
        rw [qa_lb_eq, decide_eq_true hi, hu, show qa_wr P i u = false from decide_eq_false (by omega)]
        cases qa_rd P i u <;> rfl
      have rx : 6 ≤ qa_o P i → qa_ld P a aG aS (qa_x P i) = bV (qa_x P i) := by
        intro z
        refine hl _ hX.2 ?_
        rw [qa_lb_eq, decide_eq_true hi]
        unfold qa_rd
        rw [show decide (6 ≤ qa_o P i ∧ qa_x P i = qa_x P i) = true from decide_eq_true ⟨z, rfl⟩, Bool.or_true]
        rfl
      by_cases o7 : qa_o P i = 7
      · have hS := qa_gS hP hi o7
        by_cases z : bV (qa_x P i) = 0
        · obtain ⟨oc', aG', aS', aU', bV', e1, e2, e3⟩ := ih (i + 1) (i + 1 + qa_y P i) oc aG aS aU bV (by omega) (by omega) (by omega) (fun u hu hlb => hl u hu (nw (by omega) u (qa_la_iff.mpr (by
            by_cases y0 : i + 1 + qa_y P i ≤ i + 1
            · rw [if_pos y0] at hlb; exact Or.inl hlb
            · rw [if_neg y0] at hlb; exact Or.inr ⟨o7, hlb⟩)))) hn
          refine ⟨oc', aG', aS', aU', bV', e1, fun post hp => ?_, fun post hp => ?_⟩
          · refine pk_le (qa_c P) i (fun z => absurd z (by omega)) (fun _ => pk_le nx i (fun _ => ⟨pk_in i 16 (by omega), ?_⟩) (fun z => absurd z (by omega)))
            rw [nI_clamp (n := i) (by omega), hO.1]
            refine pk_eq (qa_o P i) 7 (fun _ => ⟨pk_in i 16 (by omega), ?_⟩) (fun z => absurd o7 z)
            rw [hX.1]
            refine qx_load hP hL hX.2 (hf _ hX.2) ?_
            rw [rx (by omega)]
            refine br_t z ⟨pk_in i 16 (by omega), ?_⟩
            rw [hS.1, nI_1, nI_add]
            exact nm_e (nm_e (e2 post hp))
          · refine pk_le (qa_c P) i (fun z => absurd z (by omega)) (fun _ => pk_le nx i (fun _ => ⟨pk_in i 16 (by omega), ?_⟩) (fun z => absurd z (by omega)))
            rw [nI_clamp (n := i) (by omega), hO.1]
            refine pk_eq (qa_o P i) 6 (fun z => absurd o7 (by omega)) (fun _ => ⟨pk_in i 16 (by omega), ?_⟩)
            refine pk_eq (qa_o P i) 7 (fun _ => ⟨pk_in i 16 (by omega), ?_⟩) (fun z => absurd o7 z)
            rw [hX.1]
            refine ⟨qa_in (by omega), ?_⟩
            rw [nI_clamp (by omega)]
            refine br_t z ⟨pk_in i 16 (by omega), ?_⟩
            rw [hS.1, nI_1, nI_add]
            exact nm_e (nm_e (e3 post hp))
        · obtain ⟨oc', aG', aS', aU', bV', e1, e2, e3⟩ := ih (i + 1) nx oc aG aS aU bV (by omega) (by omega) (by omega) (fun u hu hlb => hl u hu (nw (by omega) u (la u (by rwa [if_pos (by omega)] at hlb)))) hn
          refine ⟨oc', aG', aS', aU', bV', e1, fun post hp => ?_, fun post hp => ?_⟩
          · refine pk_le (qa_c P) i (fun z => absurd z (by omega)) (fun _ => pk_le nx i (fun _ => ⟨pk_in i 16 (by omega), ?_⟩) (fun z => absurd z (by omega)))
            rw [nI_clamp (n := i) (by omega), hO.1]
            refine pk_eq (qa_o P i) 7 (fun _ => ⟨pk_in i 16 (by omega), ?_⟩) (fun z => absurd o7 z)
            rw [hX.1]
            refine qx_load hP hL hX.2 (hf _ hX.2) ?_
            rw [rx (by omega)]
            exact br_f z (nm_r (nI_1 i) (e2 post hp))
          · refine pk_le (qa_c P) i (fun z => absurd z (by omega)) (fun _ => pk_le nx i (fun _ => ⟨pk_in i 16 (by omega), ?_⟩) (fun z => absurd z (by omega)))
            rw [nI_clamp (n := i) (by omega), hO.1]
            refine pk_eq (qa_o P i) 6 (fun z => absurd o7 (by omega)) (fun _ => ⟨pk_in i 16 (by omega), ?_⟩)
            refine pk_eq (qa_o P i) 7 (fun _ => ⟨pk_in i 16 (by omega), ?_⟩) (fun z => absurd o7 z)
            rw [hX.1]
            refine ⟨qa_in (by omega), ?_⟩
            rw [nI_clamp (by omega)]
            exact br_f z (nm_r (nI_1 i) (e3 post hp))
      · by_cases o6 : qa_o P i = 6
        · obtain ⟨oc', aG', aS', aU', bV', e1, e2, e3⟩ := ih (i + 1) nx (oc + 1) aG aS (upd aU oc (bV (qa_x P i))) bV (by omega) (by omega) (by omega) (fun u hu hlb => hl u hu (nw (by omega) u (la u (by rwa [if_pos (by omega)] at hlb)))) hn
          refine ⟨oc', aG', aS', aU', bV', e1, fun post hp => ?_, fun post hp => ?_⟩
          · refine pk_le (qa_c P) i (fun z => absurd z (by omega)) (fun _ => pk_le nx i (fun _ => ⟨pk_in i 16 (by omega), ?_⟩) (fun z => absurd z (by omega)))
            rw [nI_clamp (n := i) (by omega), hO.1]
            refine pk_eq (qa_o P i) 7 (fun z => absurd z o7) (fun _ => ⟨pk_in i 16 (by omega), ?_⟩)
            refine pk_eq (qa_o P i) 6 (fun _ => ⟨pk_in i 16 (by omega), ?_⟩) (fun z => absurd o6 z)
            rw [hX.1]
            refine qx_load hP hL hX.2 (hf _ hX.2) ⟨qa_in (by omega), ?_⟩
            rw [rx (by omega), nI_clamp (n := oc) (by omega), nI_1 oc]
            exact nm_e (nm_e (nm_r (nI_1 i) (e2 post hp)))
          · refine pk_le (qa_c P) i (fun z => absurd z (by omega)) (fun _ => pk_le nx i (fun _ => ⟨pk_in i 16 (by omega), ?_⟩) (fun z => absurd z (by omega)))
            rw [nI_clamp (n := i) (by omega), hO.1]
            refine pk_eq (qa_o P i) 6 (fun _ => ⟨pk_in i 16 (by omega), ?_⟩) (fun z => absurd o6 z)
            rw [hX.1]
            refine ⟨qa_in (by omega), qa_in (by omega), ?_⟩
            rw [nI_clamp (n := qa_x P i) (by omega), nI_clamp (n := oc) (by omega), nI_1 oc]
            exact nm_e (nm_e (nm_r (nI_1 i) (e3 post hp)))
        · have h5 : qa_o P i ≤ 5 := by omega
          have lr : ∀ u, u < qa_v P → qa_rd P i u = true → qa_ld P a aG aS u = bV u := by
            intro u hu z
            refine hl u hu ?_
            rw [qa_lb_eq, decide_eq_true hi, z]; rfl
          have er : qa_res P aY (qa_ld P a aG aS) p q i = qa_res P aY bV p q i := by
            refine qa_res_eq h5 (fun z1 z2 => lr _ (qa_gY hP hi z1 z2).2 ?_) (fun z1 z2 => lr _ (qa_gZ hP hi z1 z2).2 ?_)
            · unfold qa_rd
              rw [show qa_sec P i (qa_y P i) = true from decide_eq_true ⟨z1, z2, rfl⟩]; rfl
            · unfold qa_rd
              rw [show qa_thd P i (qa_z P i) = true from decide_eq_true ⟨z1, z2, rfl⟩, Bool.or_true]; rfl
          have hr : qa_o P i = 1 → qa_res P aY bV p q i = bV (qa_y P i) := by
            intro z
            unfold qa_res
            rw [if_neg (by omega), if_neg (by omega), if_pos z]
          obtain ⟨oc', aG', aS', aU', bV', e1, e2, e3⟩ := ih (i + 1) nx oc (qa_sG P a aG (qa_x P i) (qa_res P aY bV p q i)) (qa_sS P a aS (qa_x P i) (qa_res P aY bV p q i)) aU (upd bV (qa_x P i) (qa_nv P (qa_x P i) (qa_res P aY bV p q i))) (by omega) (by omega) (by omega) (fun u hu hlb => qa_keep hal hi h5 hX.2 hl hn hr hu (la u (by rwa [if_pos (by omega)] at hlb))) (qa_narrow hn _ _)
          refine ⟨oc', aG', aS', aU', bV', e1, fun post hp => ?_, fun post hp => ?_⟩
          · refine pk_le (qa_c P) i (fun z => absurd z (by omega)) (fun _ => pk_le nx i (fun _ => ⟨pk_in i 16 (by omega), ?_⟩) (fun z => absurd z (by omega)))
            rw [nI_clamp (n := i) (by omega), hO.1]
            refine pk_eq (qa_o P i) 7 (fun z => absurd z o7) (fun _ => ⟨pk_in i 16 (by omega), ?_⟩)
            refine pk_eq (qa_o P i) 6 (fun z => absurd z o6) (fun _ => ?_)
            refine qx_result hP hL hf hi h5 ⟨pk_in i 16 (by omega), ?_⟩
            rw [er, hX.1]
            exact qx_store hP hL hX.2 (hf _ hX.2) (nm_r (nI_1 i) (e2 post hp))
          · refine pk_le (qa_c P) i (fun z => absurd z (by omega)) (fun _ => pk_le nx i (fun _ => ⟨pk_in i 16 (by omega), ?_⟩) (fun z => absurd z (by omega)))
            rw [nI_clamp (n := i) (by omega), hO.1]
            refine pk_eq (qa_o P i) 6 (fun z => absurd z o6) (fun _ => ⟨pk_in i 16 (by omega), ?_⟩)
            refine pk_eq (qa_o P i) 7 (fun z => absurd z o7) (fun _ => ?_)
            refine qy_result hP hi h5 ⟨pk_in i 16 (by omega), ?_⟩
            rw [hX.1]
            exact qy_store hP hc ha hX.2 (hf _ hX.2) (nm_r (nI_1 i) (e3 post hp))
    · rw [if_neg hnx] at hl
      obtain ⟨oc', aG', aS', aU', bV', e1, e2, e3⟩ := ih (i + 1) nx oc aG aS aU bV (by omega) hx (by omega) (fun u hu hlb => hl u hu (by
        by_cases z : nx ≤ i + 1
        · rw [if_pos z, show i + 1 = nx by omega] at hlb; exact hlb
        · rw [if_neg z] at hlb; exact hlb)) hn
      exact ⟨oc', aG', aS', aU', bV', e1, fun post hp => pk_le (qa_c P) i (fun z => absurd z (by omega)) (fun _ => pk_le nx i (fun z => absurd z hnx) (fun _ => nm_r (nI_1 i) (e2 post hp))),
        fun post hp => pk_le (qa_c P) i (fun z => absurd z (by omega)) (fun _ => pk_le nx i (fun z => absurd z hnx) (fun _ => nm_r (nI_1 i) (e3 post hp)))⟩
end
end
section
/-! ===== the relation ===== -/
/-- what stands: X's and Y's allocation are one -/
def qa_ST (P : QA_P) (sK pM hC : Int32) (aI aM aP aL bC bP : Nat → Int32) (a : Nat → Nat) (c : Nat) : Prop :=
  qa_XS P aI aM aP aL pM a ∧ sK = nI (qa_cost P (qa_dg c)) ∧ hC = nI c ∧ c < 5 ^ qa_v P ∧ qa_alw P (qa_dg c) = true ∧ (∀ v, v < qa_v P → a v = qa_dg c v) ∧
  (∀ u v, u < qa_v P → v < qa_v P → bC (u * 6 + v) = qa_b (qa_I P u v)) ∧ qa_PB P (qa_F P) bP
def qa_RF (P : QA_P) (jV jI w o : Nat) (st : Bool) (sK pM hC : Int32) (aK aC aO aX aY aZ aW aI aM aP aL bC bP : Nat → Int32) : Prop :=
  qa_PG P aK aC aO aX aY aZ aW ∧ (qa_v P ≤ jV ∧ jV ≤ 6 ∧ qa_c P ≤ jI ∧ jI ≤ 16 ∧ w ≤ 9 ∧ o ≤ 16) ∧ (st = true → ∃ a c, qa_ST P sK pM hC aI aM aP aL bC bP a c)
def i_Rel (_ : Nat) (u : SX) (v : SY) : Prop := ∃ (P : QA_P) (jV : Nat) (jI : Nat) (w : Nat) (o : Nat) (st : Bool) (sK : Int32) (pM : Int32) (hC : Int32) (aK : Nat → Int32) (aC : Nat → Int32) (aO : Nat → Int32) (aX : Nat → Int32) (aY : Nat → Int32) (aZ : Nat → Int32) (aW : Nat → Int32) (aB : Nat → Int32) (aA : Nat → Int32) (aI : Nat → Int32) (aM : Nat → Int32) (aP : Nat → Int32) (aN : Nat → Int32) (aV : Nat → Int64) (aE : Nat → Int64) (aR : Nat → Int32) (aL : Nat → Int32) (aT : Nat → Int32) (aG : Nat → Int32) (aS : Nat → Int32) (aU : Nat → Int32) (bC : Nat → Int32) (bN : Nat → Int32) (bL : Nat → Int32) (bB : Nat → Int32) (bP : Nat → Int32) (bA : Nat → Int32) (bV : Nat → Int32), (u = ((nI jV), (nI jI), (nI (qa_m P)), (nI (qa_w P)), 15625, 1000000000000, (nI (qa_v P)), (nI (qa_c P)), (nI w), (qa_b st), sK, pM, (nI o), aK, aC, aO, aX, aY, aZ, aW, aB, aA, aI, aM, aP, aN, aV, aE, aR, aL, aT, aG, aS, aU) ∧ v = ((nI jV), (nI jI), (nI (qa_m P)), (nI (qa_w P)), (nI (qa_v P)), (nI (qa_c P)), (nI o), hC, (nI w), (qa_b st), aK, aC, aO, aX, aY, aZ, aW, bC, bN, bL, bB, bP, bA, bV, aU, aG)) ∧ qa_RF P jV jI w o st sK pM hC aK aC aO aX aY aZ aW aI aM aP aL bC bP
theorem qa_el {k : Nat} {u : SX} {v : SY} {Q : SX → SY → Prop} (H : ∀ (P : QA_P) (jV : Nat) (jI : Nat) (w : Nat) (o : Nat) (st : Bool) (sK : Int32) (pM : Int32) (hC : Int32) (aK : Nat → Int32) (aC : Nat → Int32) (aO : Nat → Int32) (aX : Nat → Int32) (aY : Nat → Int32) (aZ : Nat → Int32) (aW : Nat → Int32) (aB : Nat → Int32) (aA : Nat → Int32) (aI : Nat → Int32) (aM : Nat → Int32) (aP : Nat → Int32) (aN : Nat → Int32) (aV : Nat → Int64) (aE : Nat → Int64) (aR : Nat → Int32) (aL : Nat → Int32) (aT : Nat → Int32) (aG : Nat → Int32) (aS : Nat → Int32) (aU : Nat → Int32) (bC : Nat → Int32) (bN : Nat → Int32) (bL : Nat → Int32) (bB : Nat → Int32) (bP : Nat → Int32) (bA : Nat → Int32) (bV : Nat → Int32), qa_RF P jV jI w o st sK pM hC aK aC aO aX aY aZ aW aI aM aP aL bC bP → Q ((nI jV), (nI jI), (nI (qa_m P)), (nI (qa_w P)), 15625, 1000000000000, (nI (qa_v P)), (nI (qa_c P)), (nI w), (qa_b st), sK, pM, (nI o), aK, aC, aO, aX, aY, aZ, aW, aB, aA, aI, aM, aP, aN, aV, aE, aR, aL, aT, aG, aS, aU) ((nI jV), (nI jI), (nI (qa_m P)), (nI (qa_w P)), (nI (qa_v P)), (nI (qa_c P)), (nI o), hC, (nI w), (qa_b st), aK, aC, aO, aX, aY, aZ, aW, bC, bN, bL, bB, bP, bA, bV, aU, aG)) (I : i_Rel k u v) : Q u v :=
  Exists.elim I (fun P I => Exists.elim I (fun jV I => Exists.elim I (fun jI I => Exists.elim I (fun w I => Exists.elim I (fun o I => Exists.elim I (fun st I => Exists.elim I (fun sK I => Exists.elim I (fun pM I => Exists.elim I (fun hC I => Exists.elim I (fun aK I => Exists.elim I (fun aC I => Exists.elim I (fun aO I => Exists.elim I (fun aX I => Exists.elim I (fun aY I => Exists.elim I (fun aZ I => Exists.elim I (fun aW I => Exists.elim I (fun aB I => Exists.elim I (fun aA I => Exists.elim I (fun aI I => Exists.elim I (fun aM I => Exists.elim I (fun aP I => Exists.elim I (fun aN I => Exists.elim I (fun aV I => Exists.elim I (fun aE I => Exists.elim I (fun aR I => Exists.elim I (fun aL I => Exists.elim I (fun aT I => Exists.elim I (fun aG I => Exists.elim I (fun aS I => Exists.elim I (fun aU I => Exists.elim I (fun bC I => Exists.elim I (fun bN I => Exists.elim I (fun bL I => Exists.elim I (fun bB I => Exists.elim I (fun bP I => Exists.elim I (fun bA I => Exists.elim I (fun bV I => (by rw [I.1.1, I.1.2]; exact H P jV jI w o st sK pM hC aK aC aO aX aY aZ aW aB aA aI aM aP aN aV aE aR aL aT aG aS aU bC bN bL bB bP bA bV I.2))))))))))))))))))))))))))))))))))))))
theorem qa_rel {k : Nat} {P : QA_P} {jV : Nat} {jI : Nat} {w : Nat} {o : Nat} {st : Bool} {sK : Int32} {pM : Int32} {hC : Int32} {aK : Nat → Int32} {aC : Nat → Int32} {aO : Nat → Int32} {aX : Nat → Int32} {aY : Nat → Int32} {aZ : Nat → Int32} {aW : Nat → Int32} {aB : Nat → Int32} {aA : Nat → Int32} {aI : Nat → Int32} {aM : Nat → Int32} {aP : Nat → Int32} {aN : Nat → Int32} {aV : Nat → Int64} {aE : Nat → Int64} {aR : Nat → Int32} {aL : Nat → Int32} {aT : Nat → Int32} {aG : Nat → Int32} {aS : Nat → Int32} {aU : Nat → Int32} {bC : Nat → Int32} {bN : Nat → Int32} {bL : Nat → Int32} {bB : Nat → Int32} {bP : Nat → Int32} {bA : Nat → Int32} {bV : Nat → Int32} (h : qa_RF P jV jI w o st sK pM hC aK aC aO aX aY aZ aW aI aM aP aL bC bP) : i_Rel k ((nI jV), (nI jI), (nI (qa_m P)), (nI (qa_w P)), 15625, 1000000000000, (nI (qa_v P)), (nI (qa_c P)), (nI w), (qa_b st), sK, pM, (nI o), aK, aC, aO, aX, aY, aZ, aW, aB, aA, aI, aM, aP, aN, aV, aE, aR, aL, aT, aG, aS, aU) ((nI jV), (nI jI), (nI (qa_m P)), (nI (qa_w P)), (nI (qa_v P)), (nI (qa_c P)), (nI o), hC, (nI w), (qa_b st), aK, aC, aO, aX, aY, aZ, aW, bC, bN, bL, bB, bP, bA, bV, aU, aG) := ⟨P, jV, jI, w, o, st, sK, pM, hC, aK, aC, aO, aX, aY, aZ, aW, aB, aA, aI, aM, aP, aN, aV, aE, aR, aL, aT, aG, aS, aU, bC, bN, bL, bB, bP, bA, bV, ⟨rfl, rfl⟩, h⟩
theorem i_up {k : Nat} {u : SX} {v : SY} (h : i_Rel k u v) : i_Rel (k + 5) u v := h
end
section
/-! ===== the owed statements: the start, answers, allocation, run ===== -/
theorem qa_PG0 (m w : Nat) (hm : m ≤ 9) (hw : w ≤ 9) : qa_PG (0, 0, m, w, fun _ => 0, fun _ => 0, fun _ => 0, fun _ => 0, fun _ => 0, fun _ => 0, fun _ => 0) (fun _ => 0) (fun _ => 0) (fun _ => 0) (fun _ => 0) (fun _ => 0) (fun _ => 0) (fun _ => 0) := by
  refine ⟨⟨⟨Nat.zero_le _, Nat.zero_le _, hm, hw⟩, ?_, ?_, ?_, ?_, ?_, ?_⟩, ?_, ?_, ?_, ?_, ?_, ?_⟩
  · intro v hv; exact absurd hv (Nat.not_lt_zero v)
  · intro k _; exact Nat.zero_le _
  · intro v hv; exact absurd hv (Nat.not_lt_zero v)
  · intro v hv; exact absurd hv (Nat.not_lt_zero v)
  · intro v hv; exact absurd hv (Nat.not_lt_zero v)
  · intro v hv; exact absurd hv (Nat.not_lt_zero v)
  · intro v hv; exact absurd hv (Nat.not_lt_zero v)
  · intro k _; rfl
  · intro v hv; exact absurd hv (Nat.not_lt_zero v)
  · intro v hv; exact absurd hv (Nat.not_lt_zero v)
  · intro v hv; exact absurd hv (Nat.not_lt_zero v)
  · intro v hv; exact absurd hv (Nat.not_lt_zero v)
theorem i_vc0 (k0 : Int32) (k1 : Int32) (k2 : Int32) (k3 : Int32) : wpX_init (fun u => wpY_init (fun v => i_Rel 4 u v) k0 k1 k2 k3) k0 k1 k2 k3 := by
  obtain ⟨j0, _, h0, e0⟩ := qa_cp_in k0 (l := 1) (g := 6) (by omega) (by omega)
  obtain ⟨j1, _, h1, e1⟩ := qa_cp_in k1 (l := 1) (g := 16) (by omega) (by omega)
  obtain ⟨j2, _, h2, e2⟩ := qa_cp_in k2 (l := 1) (g := 9) (by omega) (by omega)
  obtain ⟨j3, _, h3, e3⟩ := qa_cp_in k3 (l := 0) (g := 9) (by omega) (by omega)
  have e0' : qa_cp k0 1 6 = nI j0 := e0
  have e1' : qa_cp k1 1 16 = nI j1 := e1
  have e2' : qa_cp k2 1 9 = nI j2 := e2
  have e3' : qa_cp k3 0 9 = nI j3 := e3
  unfold wpX_init
  refine qx_clamp (qx_clamp (qx_clamp (qx_clamp ?_)))
  unfold wpY_init
  refine qy_clamp (qy_clamp (qy_clamp (qy_clamp ?_)))
  rw [e0', e1', e2', e3']
  exact qa_rel (P := (0, 0, j2, j3, fun _ => 0, fun _ => 0, fun _ => 0, fun _ => 0, fun _ => 0, fun _ => 0, fun _ => 0)) (jV := j0) (jI := j1) (w := 1) (o := 0) (st := false) ⟨qa_PG0 j2 j3 h2 h3, ⟨Nat.zero_le _, h0, Nat.zero_le _, h1, by omega, by omega⟩, fun z => Bool.noConfusion z⟩
theorem i_vc_weight {k : Nat} {u : SX} {v : SY} (I : i_Rel k u v) (hk : k + 5 ≤ 2564) (v1 : Int32) : wpX_weight (fun r u' => wpY_weight (fun r' v' => r' = r ∧ i_Rel (k + 5) u' v') v v1) u v1 := by
  refine qa_el (Q := fun u v => wpX_weight (fun r u' => wpY_weight (fun r' v' => r' = r ∧ i_Rel (k + 5) u' v') v v1) u v1) ?_ I
  intro P jV jI w o st sK pM hC aK aC aO aX aY aZ aW aB aA aI aM aP aN aV aE aR aL aT aG aS aU bC bN bL bB bP bA bV hR; obtain ⟨hP, hb, hst⟩ := hR; have h6 := qa_v6 hP.1; have h16 := qa_c16 hP.1
  obtain ⟨j, _, h9, e⟩ := qa_cp_in v1 (l := 1) (g := 9) (by omega) (by omega)
  have e' : qa_cp v1 1 9 = nI j := e
  unfold wpX_weight
  refine qx_clamp ?_
  unfold wpY_weight
  refine qy_clamp ⟨rfl, ?_⟩
  rw [e']
  exact qa_rel (w := j) ⟨hP, ⟨hb.1, hb.2.1, hb.2.2.1, hb.2.2.2.1, h9, hb.2.2.2.2.2⟩, hst⟩
theorem i_vc_output {k : Nat} {u : SX} {v : SY} (I : i_Rel k u v) (hk : k + 5 ≤ 2564) (v1 : Int32) : wpX_output (fun r => wpY_output (fun r' => r' = r ∧ i_Rel (k + 5) u v) v v1) u v1 := by
  refine qa_el (Q := fun u v => wpX_output (fun r => wpY_output (fun r' => r' = r ∧ i_Rel (k + 5) u v) v v1) u v1) ?_ I
  intro P jV jI w o st sK pM hC aK aC aO aX aY aZ aW aB aA aI aM aP aN aV aE aR aL aT aG aS aU bC bN bL bB bP bA bV hR; obtain ⟨hP, hb, hst⟩ := hR; have h6 := qa_v6 hP.1; have h16 := qa_c16 hP.1
  have R := qa_rel (k := k + 5) (aB := aB) (aA := aA) (aN := aN) (aV := aV) (aE := aE) (aR := aR) (aT := aT) (aG := aG) (aS := aS) (aU := aU) (bN := bN) (bL := bL) (bB := bB) (bA := bA) (bV := bV) (⟨hP, hb, hst⟩ : qa_RF P jV jI w o st sK pM hC aK aC aO aX aY aZ aW aI aM aP aL bC bP)
  unfold wpX_output wpY_output
  by_cases c : v1 < 0
  · exact br_t c (br_t c ⟨rfl, R⟩)
  · obtain ⟨j, hj, rfl⟩ := nI_of c
    refine br_f c (pk_le o j (fun h => br_f c (pk_lt j o (fun z => absurd z (by omega)) (fun _ => ⟨rfl, R⟩))) (fun h => ⟨pk_in j 16 (by omega), br_f c (pk_lt j o (fun _ => ⟨pk_in j 16 (by omega), rfl, R⟩) (fun z => absurd z (by omega)))⟩))
theorem i_vc_register {k : Nat} {u : SX} {v : SY} (I : i_Rel k u v) (hk : k + 5 ≤ 2564) (v1 : Int32) : wpX_register (fun r => wpY_register (fun r' => r' = r ∧ i_Rel (k + 5) u v) v v1) u v1 := by
  refine qa_el (Q := fun u v => wpX_register (fun r => wpY_register (fun r' => r' = r ∧ i_Rel (k + 5) u v) v v1) u v1) ?_ I
  intro P jV jI w o st sK pM hC aK aC aO aX aY aZ aW aB aA aI aM aP aN aV aE aR aL aT aG aS aU bC bN bL bB bP bA bV hR; obtain ⟨hP, hb, hst⟩ := hR; have h6 := qa_v6 hP.1; have h16 := qa_c16 hP.1
  have R := qa_rel (k := k + 5) (aB := aB) (aA := aA) (aN := aN) (aV := aV) (aE := aE) (aR := aR) (aT := aT) (aG := aG) (aS := aS) (aU := aU) (bN := bN) (bL := bL) (bB := bB) (bA := bA) (bV := bV) (⟨hP, hb, hst⟩ : qa_RF P jV jI w o st sK pM hC aK aC aO aX aY aZ aW aI aM aP aL bC bP)
  unfold wpX_register wpY_register
  by_cases c : v1 < 0
  · exact br_t c (br_t c ⟨rfl, R⟩)
  · obtain ⟨j, hj, rfl⟩ := nI_of c
    refine br_f c (pk_le 4 j (fun h => br_f c (pk_le j 3 (fun z => absurd z (by omega)) (fun _ => ⟨rfl, R⟩))) (fun h => ⟨pk_in j 4 (by omega), br_f c (pk_le j 3 (fun _ => ⟨pk_in j 4 (by omega), rfl, R⟩) (fun z => absurd z (by omega)))⟩))
theorem i_vc_reset {k : Nat} {u : SX} {v : SY} (I : i_Rel k u v) (hk : k + 5 ≤ 2564) : wpX_reset (fun u' => wpY_reset (fun v' => i_Rel (k + 5) u' v') v) u := by
  refine qa_el (Q := fun u v => wpX_reset (fun u' => wpY_reset (fun v' => i_Rel (k + 5) u' v') v) u) ?_ I
  intro P jV jI w o st sK pM hC aK aC aO aX aY aZ aW aB aA aI aM aP aN aV aE aR aL aT aG aS aU bC bN bL bB bP bA bV hR; obtain ⟨hP, hb, hst⟩ := hR; have h6 := qa_v6 hP.1; have h16 := qa_c16 hP.1
  unfold wpX_reset
  refine qx_drop ?_
  unfold wpY_reset
  refine qy_drop ?_
  have hP' : qa_PG (0, 0, qa_m P, qa_w P, qa_k P, qa_h P, qa_o P, qa_x P, qa_y P, qa_z P, qa_e P) aK aC aO aX aY aZ aW := by
    have n0 : ∀ {Q : Nat → Prop}, ∀ v, v < 0 → Q v := fun v hv => absurd hv (Nat.not_lt_zero v)
    exact ⟨⟨⟨Nat.zero_le _, Nat.zero_le _, hP.1.1.2.2.1, hP.1.1.2.2.2⟩, n0, hP.1.2.2.1, n0, n0, n0, n0⟩, n0, hP.2.2.1, n0, n0, n0, n0⟩
  exact qa_rel (P := (0, 0, qa_m P, qa_w P, qa_k P, qa_h P, qa_o P, qa_x P, qa_y P, qa_z P, qa_e P)) (w := 1) (o := 0) (st := false) ⟨hP', ⟨Nat.zero_le _, hb.2.1, Nat.zero_le _, hb.2.2.2.1, by omega, by omega⟩, fun z => Bool.noConfusion z⟩
theorem i_vc_allocate {k : Nat} {u : SX} {v : SY} (I : i_Rel k u v) (hk : k + 5 ≤ 2564) : wpX_allocate (fun r u' => wpY_allocate (fun r' v' => r' = r ∧ i_Rel (k + 5) u' v') v) u := by
  refine qa_el (Q := fun u v => wpX_allocate (fun r u' => wpY_allocate (fun r' v' => r' = r ∧ i_Rel (k + 5) u' v') v) u) ?_ I
  intro P jV jI w o st sK pM hC aK aC aO aX aY aZ aW aB aA aI aM aP aN aV aE aR aL aT aG aS aU bC bN bL bB bP bA bV hR; obtain ⟨hP, hb, hst⟩ := hR; have h6 := qa_v6 hP.1; have h16 := qa_c16 hP.1
  refine qx_allocate hP (fun pM' aB' aA' aI' aM' aP' aN' aV' aE' aR' aL' aT' a hc XS => ?_)
  refine qy_allocate hP (fun c bC' bN' bL' bB' bP' bA' h1 h2 h3 h4 h5 => ?_)
  have e := qa_same hP.1 hc h1 h2.1 h2.2 h3
  rw [qa_cost_congr e]
  exact ⟨rfl, qa_rel (o := 0) (st := true) ⟨hP, ⟨hb.1, hb.2.1, hb.2.2.1, hb.2.2.2.1, hb.2.2.2.2.1, by omega⟩, fun _ => ⟨a, c, XS, rfl, rfl, h1, h2.2, e, h4, h5⟩⟩⟩
end
section
/-! ===== the owed statements: questions about what stands ===== -/
section
variable {P : QA_P} {jV jI w o : Nat} {st : Bool} {mV mI cW sT sK pM oC hC : Int32} {aK aC aO aX aY aZ aW aB aA aI aM aP aN aR aL aT aG aS aU bC bN bL bB bP bA bV : Nat → Int32} {aV aE : Nat → Int64}
theorem qx_size {post : Int32 → Prop} {x : Int32} (h6 : qa_v P ≤ 6) (hM : st = true → qa_mk (qa_v P) pM (fun u => decide (qa_pn (qa_F P) u < 5)))
    (h : post (if x = 0 then nI (qa_v P) else if x = 1 then nI (qa_c P) else if x = 2 then oC else if x = 3 then nI (qa_sum (fun u => (st && decide (qa_pn (qa_F P) u < 5)).toNat) (qa_v P)) else if x = 4 then cW else -1)) : wpX_size post (mV, mI, (nI (qa_m P)), (nI (qa_w P)), 15625, 1000000000000, (nI (qa_v P)), (nI (qa_c P)), cW, (qa_b st), sK, pM, oC, aK, aC, aO, aX, aY, aZ, aW, aB, aA, aI, aM, aP, aN, aV, aE, aR, aL, aT, aG, aS, aU) x := by
  unfold wpX_size
  refine br_c (fun c => ?_) (fun c => ?_)
  · have n : ∀ y : Int32, ¬ y < 0 → ¬ x = y := fun y hy e => hy (e ▸ c)
    rwa [if_neg (n 0 (by decide)), if_neg (n 1 (by decide)), if_neg (n 2 (by decide)), if_neg (n 3 (by decide)), if_neg (n 4 (by decide))] at h
  · refine br_c (fun d => ?_) (fun d => ?_)
    · have n : ∀ y : Int32, ¬ 4 < y → ¬ x = y := fun y hy e => hy (e ▸ d)
      rwa [if_neg (n 0 (by decide)), if_neg (n 1 (by decide)), if_neg (n 2 (by decide)), if_neg (n 3 (by decide)), if_neg (n 4 (by decide))] at h
    · refine br_c (fun e => by rwa [if_pos e] at h) (fun e => ?_)
      rw [if_neg e] at h
      refine br_c (fun e => by rwa [if_pos e] at h) (fun e => ?_)
      rw [if_neg e] at h
      refine br_c (fun e => by rwa [if_pos e] at h) (fun e => ?_)
      rw [if_neg e] at h
      refine br_c (fun e => ?_) (fun e => ?_)
      · rw [if_pos e] at h
        cases st with
        | false =>
          refine br_t rfl ?_
          rw [show qa_sum (fun u => (false && decide (qa_pn (qa_F P) u < 5)).toNat) (qa_v P) = 0 from qa_sum_z (fun u _ => rfl)] at h
          exact h
        | true =>
          refine br_f (by decide) (qx_bits h6 (hM rfl) ?_)
          rw [qa_sum_congr (g := fun u => (decide (qa_pn (qa_F P) u < 5)).toNat) (fun u _ => by rw [Bool.true_and])] at h
          exact h
      · rw [if_neg e] at h
        refine br_c (fun e => by rwa [if_pos e] at h) (fun e => trivial)
theorem qy_size {post : Int32 → Prop} {x : Int32} (h6 : qa_v P ≤ 6) (hB : st = true → qa_PB P (qa_F P) bP)
    (h : post (if x = 0 then nI (qa_v P) else if x = 1 then nI (qa_c P) else if x = 2 then oC else if x = 3 then nI (qa_sum (fun u => (st && decide (qa_pn (qa_F P) u < 5)).toNat) (qa_v P)) else if x = 4 then cW else -1)) : wpY_size post (mV, mI, (nI (qa_m P)), (nI (qa_w P)), (nI (qa_v P)), (nI (qa_c P)), oC, hC, cW, (qa_b st), aK, aC, aO, aX, aY, aZ, aW, bC, bN, bL, bB, bP, bA, bV, aU, aG) x := by
  unfold wpY_size
  refine qa_up (fun n j => wY_size_4 post x mV mI (nI (qa_m P)) (nI (qa_w P)) (nI (qa_v P)) (nI (qa_c P)) oC hC cW (qa_b st) aK aC aO aX aY aZ aW bC bN bL bB bP bA bV aU aG n (nI (qa_sum (fun u => (st && decide (qa_pn (qa_F P) u < 5)).toNat) j)) (nI j)) (qa_v P) (fun n => ?_) (fun n j hj ih => ?_)
  · refine pk_le (qa_v P) (qa_v P) (fun _ => ?_) (fun h => absurd h (by omega))
    refine br_c (fun e => by rwa [if_pos e] at h) (fun e => ?_)
    rw [if_neg e] at h
    refine br_c (fun e => by rwa [if_pos e] at h) (fun e => ?_)
    rw [if_neg e] at h
    refine br_c (fun e => by rwa [if_pos e] at h) (fun e => ?_)
    rw [if_neg e] at h
    refine br_c (fun e => by rwa [if_pos e] at h) (fun e => ?_)
    rw [if_neg e] at h
    exact br_c (fun e => by rwa [if_pos e] at h) (fun e => by rwa [if_neg e] at h)
  · rw [qa_sum_s] at ih
    refine pk_le (qa_v P) j (fun h => absurd h (by omega)) (fun _ => ?_)
    cases st with
    | false => exact br_t rfl (nm_r (nI_1 j) ih)
    | true =>
      refine br_f (by decide) ⟨pk_in j 6 (by omega), ?_⟩
      rw [nI_clamp (by omega), hB rfl j hj]
      by_cases c : qa_pn (qa_F P) j < 5
      · rw [if_pos c]
        rw [show (true && decide (qa_pn (qa_F P) j < 5)).toNat = 1 by rw [decide_eq_true c]; rfl] at ih
        exact br_f (nI_pos (by omega)) (nm_r (nI_1 _) (nm_r (nI_1 j) ih))
      · rw [if_neg c]
        rw [show (true && decide (qa_pn (qa_F P) j < 5)).toNat = 0 by rw [decide_eq_false c]; rfl, Nat.add_zero] at ih
        exact br_t (by decide) (nm_r (nI_1 j) ih)
end
theorem i_vc_size {k : Nat} {u : SX} {v : SY} (I : i_Rel k u v) (hk : k + 5 ≤ 2564) (v1 : Int32) : wpX_size (fun r => wpY_size (fun r' => r' = r ∧ i_Rel (k + 5) u v) v v1) u v1 := by
  refine qa_el (Q := fun u v => wpX_size (fun r => wpY_size (fun r' => r' = r ∧ i_Rel (k + 5) u v) v v1) u v1) ?_ I
  intro P jV jI w o st sK pM hC aK aC aO aX aY aZ aW aB aA aI aM aP aN aV aE aR aL aT aG aS aU bC bN bL bB bP bA bV hR; obtain ⟨hP, hb, hst⟩ := hR; have h6 := qa_v6 hP.1; have h16 := qa_c16 hP.1
  have R := qa_rel (k := k + 5) (aB := aB) (aA := aA) (aN := aN) (aV := aV) (aE := aE) (aR := aR) (aT := aT) (aG := aG) (aS := aS) (aU := aU) (bN := bN) (bL := bL) (bB := bB) (bA := bA) (bV := bV) (⟨hP, hb, hst⟩ : qa_RF P jV jI w o st sK pM hC aK aC aO aX aY aZ aW aI aM aP aL bC bP)
  exact qx_size h6 (fun z => by obtain ⟨a, c, h⟩ := hst z; exact h.1.2.2.2.2) (qy_size h6 (fun z => by obtain ⟨a, c, h⟩ := hst z; exact h.2.2.2.2.2.2.2) ⟨rfl, R⟩)
theorem i_vc_place {k : Nat} {u : SX} {v : SY} (I : i_Rel k u v) (hk : k + 5 ≤ 2564) (v1 : Int32) : wpX_place (fun r => wpY_place (fun r' => r' = r ∧ i_Rel (k + 5) u v) v v1) u v1 := by
  refine qa_el (Q := fun u v => wpX_place (fun r => wpY_place (fun r' => r' = r ∧ i_Rel (k + 5) u v) v v1) u v1) ?_ I
  intro P jV jI w o st sK pM hC aK aC aO aX aY aZ aW aB aA aI aM aP aN aV aE aR aL aT aG aS aU bC bN bL bB bP bA bV hR; obtain ⟨hP, hb, hst⟩ := hR; have h6 := qa_v6 hP.1; have h16 := qa_c16 hP.1
  have R := qa_rel (k := k + 5) (aB := aB) (aA := aA) (aN := aN) (aV := aV) (aE := aE) (aR := aR) (aT := aT) (aG := aG) (aS := aS) (aU := aU) (bN := bN) (bL := bL) (bB := bB) (bA := bA) (bV := bV) (⟨hP, hb, hst⟩ : qa_RF P jV jI w o st sK pM hC aK aC aO aX aY aZ aW aI aM aP aL bC bP)
  unfold wpX_place wpY_place
  cases st with
  | false => exact br_t rfl (br_t rfl ⟨rfl, R⟩)
  | true =>
    obtain ⟨a, c, hS⟩ := hst rfl
    obtain ⟨XS, e1, e2, e3, e4, e5, e6, e7⟩ := hS
    have p6 := qa_pow6 h6
    refine br_f (by decide) ?_
    rcases pk_ix v1 (n := qa_v P) (by omega) with d | d | ⟨j, hj, rfl⟩
    · exact qx_isVar0 (Or.inl d) (br_t rfl (br_f (by decide) (qy_known0 (Or.inl d) (br_t rfl ⟨rfl, R⟩))))
    · exact qx_isVar0 (Or.inr d) (br_t rfl (br_f (by decide) (qy_known0 (Or.inr d) (br_t rfl ⟨rfl, R⟩))))
    · refine qx_isVar1 hj h6 (br_f (by decide) ⟨pk_in j 6 (by omega), br_f (by decide) (qy_known1 hj h6 (br_f (by decide) ?_))⟩)
      rw [nI_clamp (by omega), XS.2.2.2.1 j hj, e5 j hj]
      subst e2
      exact qy_digit (by omega) (by omega) ⟨rfl, R⟩
theorem i_vc_pinned {k : Nat} {u : SX} {v : SY} (I : i_Rel k u v) (hk : k + 5 ≤ 2564) (v1 : Int32) : wpX_pinned (fun r => wpY_pinned (fun r' => r' = r ∧ i_Rel (k + 5) u v) v v1) u v1 := by
  refine qa_el (Q := fun u v => wpX_pinned (fun r => wpY_pinned (fun r' => r' = r ∧ i_Rel (k + 5) u v) v v1) u v1) ?_ I
  intro P jV jI w o st sK pM hC aK aC aO aX aY aZ aW aB aA aI aM aP aN aV aE aR aL aT aG aS aU bC bN bL bB bP bA bV hR; obtain ⟨hP, hb, hst⟩ := hR; have h6 := qa_v6 hP.1; have h16 := qa_c16 hP.1
  have R := qa_rel (k := k + 5) (aB := aB) (aA := aA) (aN := aN) (aV := aV) (aE := aE) (aR := aR) (aT := aT) (aG := aG) (aS := aS) (aU := aU) (bN := bN) (bL := bL) (bB := bB) (bA := bA) (bV := bV) (⟨hP, hb, hst⟩ : qa_RF P jV jI w o st sK pM hC aK aC aO aX aY aZ aW aI aM aP aL bC bP)
  unfold wpX_pinned wpY_pinned
  cases st with
  | false => exact br_t rfl (br_t rfl ⟨rfl, R⟩)
  | true =>
    obtain ⟨a, c, hS⟩ := hst rfl
    obtain ⟨XS, e1, e2, e3, e4, e5, e6, e7⟩ := hS
    refine br_f (by decide) ?_
    rcases pk_ix v1 (n := qa_v P) (by omega) with d | d | ⟨j, hj, rfl⟩
    · exact qx_isVar0 (Or.inl d) (br_t rfl (br_f (by decide) (qy_known0 (Or.inl d) (br_t rfl ⟨rfl, R⟩))))
    · exact qx_isVar0 (Or.inr d) (br_t rfl (br_f (by decide) (qy_known0 (Or.inr d) (br_t rfl ⟨rfl, R⟩))))
    · refine qx_isVar1 hj h6 (br_f (by decide) (br_f (by decide) (qy_known1 hj h6 (br_f (by decide) ⟨pk_in j 6 (by omega), ?_⟩))))
      rw [nI_clamp (by omega), qa_bit pM (by omega), qa_mk_b XS.2.2.2.2 hj h6, e7 j hj]
      by_cases q : qa_pn (qa_F P) j < 5
      · rw [if_pos q, decide_eq_true q]
        exact br_f (nI_pos (by omega)) ⟨rfl, R⟩
      · rw [if_neg q, decide_eq_false q]
        exact br_t (by decide) ⟨rfl, R⟩
theorem i_vc_interferes {k : Nat} {u : SX} {v : SY} (I : i_Rel k u v) (hk : k + 5 ≤ 2564) (v1 : Int32) (v2 : Int32) : wpX_interferes (fun r => wpY_interferes (fun r' => r' = r ∧ i_Rel (k + 5) u v) v v1 v2) u v1 v2 := by
  refine qa_el (Q := fun u v => wpX_interferes (fun r => wpY_interferes (fun r' => r' = r ∧ i_Rel (k + 5) u v) v v1 v2) u v1 v2) ?_ I
  intro P jV jI w o st sK pM hC aK aC aO aX aY aZ aW aB aA aI aM aP aN aV aE aR aL aT aG aS aU bC bN bL bB bP bA bV hR; obtain ⟨hP, hb, hst⟩ := hR; have h6 := qa_v6 hP.1; have h16 := qa_c16 hP.1
  have R := qa_rel (k := k + 5) (aB := aB) (aA := aA) (aN := aN) (aV := aV) (aE := aE) (aR := aR) (aT := aT) (aG := aG) (aS := aS) (aU := aU) (bN := bN) (bL := bL) (bB := bB) (bA := bA) (bV := bV) (⟨hP, hb, hst⟩ : qa_RF P jV jI w o st sK pM hC aK aC aO aX aY aZ aW aI aM aP aL bC bP)
  unfold wpX_interferes wpY_interferes
  cases st with
  | false => exact br_t rfl (br_t rfl ⟨rfl, R⟩)
  | true =>
    obtain ⟨a, c, hS⟩ := hst rfl
    obtain ⟨XS, e1, e2, e3, e4, e5, e6, e7⟩ := hS
    refine br_f (by decide) ?_
    rcases pk_ix v1 (n := qa_v P) (by omega) with d | d | ⟨j, hj, rfl⟩
    · exact qx_isVar0 (Or.inl d) (br_t rfl (br_f (by decide) (qy_known0 (Or.inl d) (br_t rfl ⟨rfl, R⟩))))
    · exact qx_isVar0 (Or.inr d) (br_t rfl (br_f (by decide) (qy_known0 (Or.inr d) (br_t rfl ⟨rfl, R⟩))))
    · refine qx_isVar1 hj h6 (br_f (by decide) ?_)
      rcases pk_ix v2 (n := qa_v P) (by omega) with d | d | ⟨i, hi, rfl⟩
      · exact qx_isVar0 (Or.inl d) (br_t rfl (br_f (by decide) (qy_known1 hj h6 (br_f (by decide) (qy_known0 (Or.inl d) (br_t rfl ⟨rfl, R⟩))))))
      · exact qx_isVar0 (Or.inr d) (br_t rfl (br_f (by decide) (qy_known1 hj h6 (br_f (by decide) (qy_known0 (Or.inr d) (br_t rfl ⟨rfl, R⟩))))))
      · refine qx_isVar1 hi h6 (br_f (by decide) ⟨pk_in j 6 (by omega), br_f (by decide) (qy_known1 hj h6 (br_f (by decide) (qy_known1 hi h6 (br_f (by decide) ?_))))⟩)
        rw [qa_i6]
        refine ⟨qa_in (by omega), ?_⟩
        rw [nI_clamp (n := j) (by omega), nI_clamp (n := j * 6 + i) (by omega), qa_bit _ (by omega), qa_mk_b (XS.1 j hj) hi h6, e6 j i hj hi]
        refine qa_br (fun f => ?_) (fun f => ?_)
        · rw [f]; exact ⟨rfl, R⟩
        · rw [f]; exact ⟨rfl, R⟩
theorem i_vc_cost {k : Nat} {u : SX} {v : SY} (I : i_Rel k u v) (hk : k + 5 ≤ 2564) : wpX_cost (fun r => wpY_cost (fun r' v' => r' = r ∧ i_Rel (k + 5) u v') v) u := by
  refine qa_el (Q := fun u v => wpX_cost (fun r => wpY_cost (fun r' v' => r' = r ∧ i_Rel (k + 5) u v') v) u) ?_ I
  intro P jV jI w o st sK pM hC aK aC aO aX aY aZ aW aB aA aI aM aP aN aV aE aR aL aT aG aS aU bC bN bL bB bP bA bV hR; obtain ⟨hP, hb, hst⟩ := hR; have h6 := qa_v6 hP.1; have h16 := qa_c16 hP.1
  unfold wpX_cost wpY_cost
  cases st with
  | false => exact br_t rfl (br_t rfl ⟨rfl, qa_rel ⟨hP, hb, hst⟩⟩)
  | true =>
    obtain ⟨a, c, hS⟩ := hst rfl
    obtain ⟨XS, e1, e2, e3, e4, e5, e6, e7⟩ := id hS
    have p6 := qa_pow6 h6
    refine br_f (by decide) (br_f (by decide) ?_)
    subst e2
    refine qy_judge hP e6 (by omega) (fun bA' => ⟨?_, qa_rel ⟨hP, hb, hst⟩⟩)
    unfold qa_jd
    rw [if_pos e4, e1]
theorem i_vc_costOf {k : Nat} {u : SX} {v : SY} (I : i_Rel k u v) (hk : k + 5 ≤ 2564) (v1 : Int32) : wpX_costOf (fun r u' => wpY_costOf (fun r' v' => r' = r ∧ i_Rel (k + 5) u' v') v v1) u v1 := by
  refine qa_el (Q := fun u v => wpX_costOf (fun r u' => wpY_costOf (fun r' v' => r' = r ∧ i_Rel (k + 5) u' v') v v1) u v1) ?_ I
  intro P jV jI w o st sK pM hC aK aC aO aX aY aZ aW aB aA aI aM aP aN aV aE aR aL aT aG aS aU bC bN bL bB bP bA bV hR; obtain ⟨hP, hb, hst⟩ := hR; have h6 := qa_v6 hP.1; have h16 := qa_c16 hP.1
  unfold wpX_costOf wpY_costOf
  cases st with
  | false => exact br_t rfl (br_t rfl ⟨rfl, qa_rel ⟨hP, hb, hst⟩⟩)
  | true =>
    obtain ⟨a, c, hS⟩ := hst rfl
    obtain ⟨XS, e1, e2, e3, e4, e5, e6, e7⟩ := id hS
    have p6 := qa_pow6 h6
    refine br_f (by decide) ?_
    by_cases n : v1 < 0
    · exact br_f (fun z => Int32.not_lt.mpr z n) (br_f (by decide) (br_t n ⟨rfl, qa_rel ⟨hP, hb, hst⟩⟩))
    · refine br_t (Int32.not_lt.mp n) ?_
      obtain ⟨d, hd, rfl⟩ := nI_of n
      have hdv : ∀ k, d / 5 ^ k < 2 ^ 31 := fun k => Nat.lt_of_le_of_lt (Nat.div_le_self _ _) hd
      have key : ∃ n, (fun n j t => wX_costOf_17 (fun r u' => (qa_b true = 0 → (-1 : Int32) = r ∧ i_Rel (k + 5) u' ((nI jV), (nI jI), (nI (qa_m P)), (nI (qa_w P)), (nI (qa_v P)), (nI (qa_c P)), (nI o), hC, (nI w), (qa_b true), aK, aC, aO, aX, aY, aZ, aW, bC, bN, bL, bB, bP, bA, bV, aU, aG)) ∧ (¬ qa_b true = 0 → ((nI d < 0 → (-1 : Int32) = r ∧ i_Rel (k + 5) u' ((nI jV), (nI jI), (nI (qa_m P)), (nI (qa_w P)), (nI (qa_v P)), (nI (qa_c P)), (nI o), hC, (nI w), (qa_b true), aK, aC, aO, aX, aY, aZ, aW, bC, bN, bL, bB, bP, bA, bV, aU, aG)) ∧ (¬ nI d < 0 → wpY_codes (fun r_3 => (nI d < r_3 → wpY_judge (fun r_31 v' => r_31 = r ∧ i_Rel (k + 5) u' v') ((nI jV), (nI jI), (nI (qa_m P)), (nI (qa_w P)), (nI (qa_v P)), (nI (qa_c P)), (nI o), hC, (nI w), (qa_b true), aK, aC, aO, aX, aY, aZ, aW, bC, bN, bL, bB, bP, bA, bV, aU, aG) (nI d)) ∧ (¬ nI d < r_3 → (-1 : Int32) = r ∧ i_Rel (k + 5) u' ((nI jV), (nI jI), (nI (qa_m P)), (nI (qa_w P)), (nI (qa_v P)), (nI (qa_c P)), (nI o), hC, (nI w), (qa_b true), aK, aC, aO, aX, aY, aZ, aW, bC, bN, bL, bB, bP, bA, bV, aU, aG))) ((nI jV), (nI jI), (nI (qa_m P)), (nI (qa_w P)), (nI (qa_v P)), (nI (qa_c P)), (nI o), hC, (nI w), (qa_b true), aK, aC, aO, aX, aY, aZ, aW, bC, bN, bL, bB, bP, bA, bV, aU, aG))))) (nI jV) (nI jI) (nI (qa_m P)) (nI (qa_w P)) 15625 1000000000000 (nI (qa_v P)) (nI (qa_c P)) (nI w) (qa_b true) sK pM (nI o) n (nI (d / 5 ^ j)) (nI j) aK aC aO aX aY aZ aW aB aA aI aM aP aN aV aE aR aL t aG aS aU) n 0 aT := by
        refine qa_upF (fun n j t => wX_costOf_17 _ (nI jV) (nI jI) (nI (qa_m P)) (nI (qa_w P)) 15625 1000000000000 (nI (qa_v P)) (nI (qa_c P)) (nI w) (qa_b true) sK pM (nI o) n (nI (d / 5 ^ j)) (nI j) aK aC aO aX aY aZ aW aB aA aI aM aP aN aV aE aR aL t aG aS aU) aT (fun v => nI (qa_dg d v)) (qa_v P) (fun n => ?_) (fun n j hj ih => ?_)
        · refine pk_le (qa_v P) (qa_v P) (fun _ => ?_) (fun h => absurd h (by omega))
          have tr : ∀ v, v < qa_v P → qa_fill aT (fun v => nI (qa_dg d v)) (qa_v P) v = nI (qa_dg d v) ∧ qa_dg d v < 5 := fun v hv => ⟨qa_fill_lt hv, qa_dg_lt d v⟩
          have d0 : d / 5 ^ qa_v P = 0 ↔ d < 5 ^ qa_v P := Nat.div_eq_zero_iff_lt (Nat.pow_pos (by omega))
          have hq := hdv (qa_v P)
          have nn := nI_pos (n := d) hd
          refine pk_eq (d / 5 ^ qa_v P) 0 (fun z => ?_) (fun z => ?_)
          · refine qx_trialAllowed hP XS.1 tr (qa_br (fun f => ?_) (fun f => ?_))
            · refine br_f (by decide) (br_f nn (qy_codes h6 (pk_lt d (5 ^ qa_v P) (fun _ => ?_) (fun y => absurd y (by omega)))))
              refine qy_judge hP e6 hd (fun bA' => ⟨?_, qa_rel ⟨hP, hb, hst⟩⟩)
              unfold qa_jd; rw [f, if_neg (by decide)]
            · refine qx_trialCost h6 XS.2.1 XS.2.2.1 tr ?_
              refine br_f (by decide) (br_f nn (qy_codes h6 (pk_lt d (5 ^ qa_v P) (fun _ => ?_) (fun y => absurd y (by omega)))))
              refine qy_judge hP e6 hd (fun bA' => ⟨?_, qa_rel ⟨hP, hb, hst⟩⟩)
              unfold qa_jd; rw [f, if_pos rfl]
          · exact br_f (by decide) (br_f nn (qy_codes h6 (pk_lt d (5 ^ qa_v P) (fun y => absurd y (by omega)) (fun _ => ⟨rfl, qa_rel ⟨hP, hb, hst⟩⟩))))
        · have e : nI (d / 5 ^ j) / 5 = nI (d / 5 ^ (j + 1)) := by
            have := pk_div (hdv j) (by omega : 0 < 5) (by omega)
            rw [Nat.div_div_eq_div_mul, ← Nat.pow_succ] at this
            exact this
          have e' : nI (d / 5 ^ j) - nI (d / 5 ^ j) / 5 * 5 = nI (qa_dg d j) := pk_rem (d := 5) (hdv j) (by omega) (by omega)
          refine pk_le (qa_v P) j (fun h => absurd h (by omega)) (fun _ => ⟨by decide, pk_in j 6 (by omega), ?_⟩)
          rw [nI_clamp (by omega), e', e]
          exact nm_e ⟨by decide, nm_e (nm_r (nI_1 j) ih)⟩
      obtain ⟨n, hn⟩ := key
      (try dsimp only at hn)
      rw [Nat.pow_zero, Nat.div_one] at hn
      exact ⟨n, hn⟩
theorem i_vc_run {k : Nat} {u : SX} {v : SY} (I : i_Rel k u v) (hk : k + 5 ≤ 2564) (v1 : Int32) (v2 : Int32) : wpX_run (fun r u' => wpY_run (fun r' v' => r' = r ∧ i_Rel (k + 5) u' v') v v1 v2) u v1 v2 := by
  refine qa_el (Q := fun u v => wpX_run (fun r u' => wpY_run (fun r' v' => r' = r ∧ i_Rel (k + 5) u' v') v v1 v2) u v1 v2) ?_ I
  intro P jV jI w o st sK pM hC aK aC aO aX aY aZ aW aB aA aI aM aP aN aV aE aR aL aT aG aS aU bC bN bL bB bP bA bV hR; obtain ⟨hP, hb, hst⟩ := hR; have h6 := qa_v6 hP.1; have h16 := qa_c16 hP.1
  unfold wpX_run wpY_run
  cases st with
  | false => exact br_t rfl (br_t rfl ⟨rfl, qa_rel ⟨hP, hb, hst⟩⟩)
  | true =>
    obtain ⟨a, c, hS⟩ := hst rfl
    obtain ⟨XS, e1, e2, e3, e4, e5, e6, e7⟩ := id hS
    have p6 := qa_pow6 h6
    subst e2
    have hal : qa_alw P a = true := (qa_alw_congr e5).trans e4
    obtain ⟨oc', aG', aS', aU', bV', o1, eX, eY⟩ := qr_run (mV := nI jV) (mI := nI jI) (cW := nI w) (sT := qa_b true) (sK := sK) (pM := pM) (aB := aB) (aA := aA) (aI := aI) (aM := aM) (aP := aP) (aN := aN) (aR := aR) (aT := aT) (bC := bC) (bN := bN) (bL := bL) (bB := bB) (bP := bP) (bA := bA) (aV := aV) (aE := aE)
      hP XS.2.2.2.1 hal (c := c) (by omega) e5 v1 v2 (qa_c P) 0 0 0 (qa_fill aG (fun _ => 0) 4) (qa_fill aS (fun _ => 0) 6) aU (qa_fill bV (fun _ => 0) 6) (by omega) (by omega) (by omega) (fun u hu _ => by
        have f := (qa_alw_iff.mp hal u hu).1
        have f4 := qa_fit_lt f
        rw [qa_fill_lt (by omega)]
        unfold qa_ld
        by_cases c4 : a u = 4
        · rw [if_pos c4, qa_fill_lt (by omega)]
        · rw [if_neg c4]
          by_cases c1 : qa_k P u = 1
          · have := qa_fit_w f c1
            rw [if_pos c1, qa_fill_lt (by omega), qa_fill_lt (by omega)]; decide
          · rw [if_neg c1, qa_fill_lt (by omega)]) (fun u hu _ => by rw [qa_fill_lt (by omega)]; decide)
    refine br_f (by decide) (qx_clear ⟨_, eX _ (br_f (by decide) (qy_clear ?_))⟩)
    refine qa_upF (fun n j t => wY_run_15 _ v1 v2 (nI jV) (nI jI) (nI (qa_m P)) (nI (qa_w P)) (nI (qa_v P)) (nI (qa_c P)) 0 (nI c) (nI w) (qa_b true) n (nI j) aK aC aO aX aY aZ aW bC bN bL bB bP bA t aU (qa_fill aG (fun _ => 0) 4)) bV (fun _ => 0) 6 (fun n => ?_) (fun n j hj ih => ?_)
    · exact pk_le 6 6 (fun _ => ⟨_, eY _ ⟨rfl, qa_rel ⟨hP, ⟨hb.1, hb.2.1, hb.2.2.1, hb.2.2.2.1, hb.2.2.2.2.1, o1⟩, hst⟩⟩⟩) (fun h => absurd h (by omega))
    · exact pk_le 6 j (fun h => absurd h (by omega)) (fun _ => ⟨pk_in j 6 hj, nm_r (by rw [nI_clamp (by omega)]) (nm_r (nI_1 j) ih)⟩)
end
section
/-! ===== the owed statements: declare, charge, emit ===== -/
def qa_z5 (a : Nat → Int32) (b k : Nat) : Nat → Int32 := fun i => if b ≤ i ∧ i < b + k then 0 else a i
theorem qa_up5 (W : Nat → Nat → (Nat → Int32) → Prop) (a : Nat → Int32) (b e : Nat) (hx : ∀ n, W (n + 1) e (qa_z5 a b e))
    (hs : ∀ n j, j < e → W n (j + 1) (upd (qa_z5 a b j) (b + j) 0) → W (n + 1) j (qa_z5 a b j)) : ∃ n, W n 0 a := by
  have z : qa_z5 a b 0 = a := funext (fun j => if_neg (by omega))
  have s : ∀ k, upd (qa_z5 a b k) (b + k) 0 = qa_z5 a b (k + 1) := by
    intro k
    funext j
    unfold qa_z5
    by_cases e : j = b + k
    · rw [e, pk_us, if_pos (by omega)]
    · rw [pk_un e]
      by_cases c : b ≤ j ∧ j < b + k
      · rw [if_pos c, if_pos (by omega)]
      · rw [if_neg c, if_neg (by omega)]
  obtain ⟨n, h⟩ := qa_up (fun n j => W n j (qa_z5 a b j)) e hx (fun n j hj h => hs n j hj (by rw [s]; exact h))
  exact ⟨n, by (try dsimp only at h); rwa [z] at h⟩
def qa_Pd (P : QA_P) (k : Nat) : QA_P := (qa_v P + 1, qa_c P, qa_m P, qa_w P, fun u => if u = qa_v P then k else qa_k P u, fun i => if qa_v P * 5 ≤ i ∧ i < qa_v P * 5 + 5 then 0 else qa_h P i, qa_o P, qa_x P, qa_y P, qa_z P, qa_e P)
def qa_Pc (P : QA_P) (i c : Nat) : QA_P := (qa_v P, qa_c P, qa_m P, qa_w P, qa_k P, fun j => if j = i then c else qa_h P j, qa_o P, qa_x P, qa_y P, qa_z P, qa_e P)
def qa_Pe (P : QA_P) (o x y z e : Nat) : QA_P := (qa_v P, qa_c P + 1, qa_m P, qa_w P, qa_k P, qa_h P, fun j => if j = qa_c P then o else qa_o P j, fun j => if j = qa_c P then x else qa_x P j, fun j => if j = qa_c P then y else qa_y P j, fun j => if j = qa_c P then z else qa_z P j, fun j => if j = qa_c P then e else qa_e P j)
section
variable {P : QA_P} {aK aC aO aX aY aZ aW : Nat → Int32}
theorem qa_PG_d (hP : qa_PG P aK aC aO aX aY aZ aW) {k : Nat} (hk : k ≤ 2) (hv : qa_v P < 6) : qa_PG (qa_Pd P k) (upd aK (qa_v P) (nI k)) (qa_z5 aC (qa_v P * 5) 5) aO aX aY aZ aW := by
  obtain ⟨⟨⟨a1, a2, a3, a4⟩, b, c, d, e, f, g⟩, b', c', d', e', f', g'⟩ := hP
  refine ⟨⟨⟨?_, a2, a3, a4⟩, ?_, ?_, ?_, ?_, ?_, g⟩, ?_, ?_, d', e', f', g'⟩
  · show qa_v P + 1 ≤ 6; omega
  · intro v hv'
    have hv2 : v < qa_v P + 1 := hv'
    show (if v = qa_v P then k else qa_k P v) ≤ 2
    by_cases q : v = qa_v P
    · rw [if_pos q]; exact hk
    · rw [if_neg q]; exact b v (by omega)
  · intro i hi
    show (if qa_v P * 5 ≤ i ∧ i < qa_v P * 5 + 5 then 0 else qa_h P i) ≤ 99
    have := c i hi
    split <;> omega
  · intro i hi
    have := d i hi
    exact ⟨this.1, Nat.lt_succ_of_lt this.2.1, this.2.2⟩
  · intro i hi h1 h2; exact Nat.lt_succ_of_lt (e i hi h1 h2)
  · intro i hi h1 h2; exact Nat.lt_succ_of_lt (f i hi h1 h2)
  · intro v hv'
    have hv2 : v < qa_v P + 1 := hv'
    show _ = nI (if v = qa_v P then k else qa_k P v)
    by_cases q : v = qa_v P
    · rw [if_pos q, q, pk_us]
    · rw [if_neg q, pk_un q]; exact b' v (by omega)
  · intro i hi
    show _ = nI (if qa_v P * 5 ≤ i ∧ i < qa_v P * 5 + 5 then 0 else qa_h P i)
    unfold qa_z5
    by_cases q : qa_v P * 5 ≤ i ∧ i < qa_v P * 5 + 5
    · rw [if_pos q, if_pos q]; rfl
    · rw [if_neg q, if_neg q]; exact c' i hi
theorem qa_PG_c (hP : qa_PG P aK aC aO aX aY aZ aW) {i c : Nat} (hc : c ≤ 99) : qa_PG (qa_Pc P i c) aK (upd aC i (nI c)) aO aX aY aZ aW := by
  obtain ⟨⟨a, b, c1, d, e, f, g⟩, b', c', d', e', f', g'⟩ := hP
  refine ⟨⟨a, b, ?_, d, e, f, g⟩, b', ?_, d', e', f', g'⟩
  · intro j hj
    show (if j = i then c else qa_h P j) ≤ 99
    have := c1 j hj
    split <;> omega
  · intro j hj
    show _ = nI (if j = i then c else qa_h P j)
    by_cases q : j = i
    · rw [if_pos q, q, pk_us]
    · rw [if_neg q, pk_un q]; exact c' j hj
theorem qa_PG_e (hP : qa_PG P aK aC aO aX aY aZ aW) (hc : qa_c P < 16) {o x e : Nat} {y z : Int32} (ho : o ≤ 7) (hx : x < qa_v P) (he : e ≤ 9) (hy : 1 ≤ o → o ≤ 4 → ∃ j, j < qa_v P ∧ y = nI j) (hz : 2 ≤ o → o ≤ 4 → ∃ j, j < qa_v P ∧ z = nI j) (hs : o = 7 → ∃ j, j ≤ 15 ∧ y = nI j) :
    qa_PG (qa_Pe P o x y.toNatClampNeg z.toNatClampNeg e) aK aC (upd aO (qa_c P) (nI o)) (upd aX (qa_c P) (nI x)) (upd aY (qa_c P) y) (upd aZ (qa_c P) z) (upd aW (qa_c P) (nI e)) := by
  obtain ⟨⟨⟨a1, a2, a3, a4⟩, b, c, d, e1, f, g⟩, b', c', d', e', f', g'⟩ := hP
  have yc : ∀ j, j < 2 ^ 31 → y = nI j → y.toNatClampNeg = j := fun j hj q => by rw [q, nI_clamp hj]
  have zc : ∀ j, j < 2 ^ 31 → z = nI j → z.toNatClampNeg = j := fun j hj q => by rw [q, nI_clamp hj]
  have lt : ∀ i, i < qa_c P + 1 → ¬ i = qa_c P → i < qa_c P := fun i h1 h2 => by omega
  refine ⟨⟨⟨a1, ?_, a3, a4⟩, b, c, ?_, ?_, ?_, ?_⟩, b', c', ?_, ?_, ?_, ?_⟩
  · show qa_c P + 1 ≤ 16; omega
  · intro i hi
    show (if i = qa_c P then o else qa_o P i) ≤ 7 ∧ (if i = qa_c P then x else qa_x P i) < qa_v P ∧ (if i = qa_c P then e else qa_e P i) ≤ 9
    by_cases q : i = qa_c P
    · rw [if_pos q, if_pos q, if_pos q]; exact ⟨ho, hx, he⟩
    · rw [if_neg q, if_neg q, if_neg q]; exact d i (lt i hi q)
  · intro i hi
    show 1 ≤ (if i = qa_c P then o else qa_o P i) → (if i = qa_c P then o else qa_o P i) ≤ 4 → (if i = qa_c P then y.toNatClampNeg else qa_y P i) < qa_v P
    by_cases q : i = qa_c P
    · rw [if_pos q, if_pos q]
      intro h1 h2
      obtain ⟨j, hj, e⟩ := hy h1 h2
      rw [yc j (by omega) e]; exact hj
    · rw [if_neg q, if_neg q]; exact e1 i (lt i hi q)
  · intro i hi
    show 2 ≤ (if i = qa_c P then o else qa_o P i) → (if i = qa_c P then o else qa_o P i) ≤ 4 → (if i = qa_c P then z.toNatClampNeg else qa_z P i) < qa_v P
    by_cases q : i = qa_c P
    · rw [if_pos q, if_pos q]
      intro h1 h2
      obtain ⟨j, hj, e⟩ := hz h1 h2
      rw [zc j (by omega) e]; exact hj
    · rw [if_neg q, if_neg q]; exact f i (lt i hi q)
  · intro i hi
    show (if i = qa_c P then o else qa_o P i) = 7 → (if i = qa_c P then y.toNatClampNeg else qa_y P i) ≤ 15
    by_cases q : i = qa_c P
    · rw [if_pos q, if_pos q]
      intro h1
      obtain ⟨j, hj, e⟩ := hs h1
      rw [yc j (by omega) e]; exact hj
    · rw [if_neg q, if_neg q]; exact g i (lt i hi q)
  · intro i hi
    show _ = nI (if i = qa_c P then o else qa_o P i) ∧ _ = nI (if i = qa_c P then x else qa_x P i) ∧ _ = nI (if i = qa_c P then e else qa_e P i)
    by_cases q : i = qa_c P
    · rw [if_pos q, if_pos q, if_pos q, q, pk_us, pk_us, pk_us]; exact ⟨rfl, rfl, rfl⟩
    · rw [if_neg q, if_neg q, if_neg q, pk_un q, pk_un q, pk_un q]; exact d' i (lt i hi q)
  · intro i hi
    show 1 ≤ (if i = qa_c P then o else qa_o P i) → (if i = qa_c P then o else qa_o P i) ≤ 4 → _ = nI (if i = qa_c P then y.toNatClampNeg else qa_y P i)
    by_cases q : i = qa_c P
    · rw [if_pos q, if_pos q, q, pk_us]
      intro h1 h2
      obtain ⟨j, hj, e⟩ := hy h1 h2
      rw [yc j (by omega) e]; exact e
    · rw [if_neg q, if_neg q, pk_un q]; exact e' i (lt i hi q)
  · intro i hi
    show 2 ≤ (if i = qa_c P then o else qa_o P i) → (if i = qa_c P then o else qa_o P i) ≤ 4 → _ = nI (if i = qa_c P then z.toNatClampNeg else qa_z P i)
    by_cases q : i = qa_c P
    · rw [if_pos q, if_pos q, q, pk_us]
      intro h1 h2
      obtain ⟨j, hj, e⟩ := hz h1 h2
      rw [zc j (by omega) e]; exact e
    · rw [if_neg q, if_neg q, pk_un q]; exact f' i (lt i hi q)
  · intro i hi
    show (if i = qa_c P then o else qa_o P i) = 7 → _ = nI (if i = qa_c P then y.toNatClampNeg else qa_y P i)
    by_cases q : i = qa_c P
    · rw [if_pos q, if_pos q, q, pk_us]
      intro h1
      obtain ⟨j, hj, e⟩ := hs h1
      rw [yc j (by omega) e]; exact e
    · rw [if_neg q, if_neg q, pk_un q]; exact g' i (lt i hi q)
end
section
variable {P : QA_P} {jV jI w o : Nat} {st : Bool} {mV mI cW sT sK pM oC hC : Int32} {aK aC aO aX aY aZ aW aB aA aI aM aP aN aR aL aT aG aS aU bC bN bL bB bP bA bV : Nat → Int32} {aV aE : Nat → Int64}
theorem qx_declare1 {post : Int32 → SX → Prop} {k : Nat} (hk : k ≤ 2) (hv : qa_v P < jV) (hj : jV ≤ 6)
    (h : post (nI (qa_v P)) ((nI jV), mI, (nI (qa_m P)), (nI (qa_w P)), 15625, 1000000000000, (nI (qa_v P + 1)), (nI (qa_c P)), cW, 0, sK, 0, 0, (upd aK (qa_v P) (nI k)), (qa_z5 aC (qa_v P * 5) 5), aO, aX, aY, aZ, aW, aB, aA, aI, aM, aP, aN, aV, aE, aR, aL, aT, (qa_fill aG (fun _ => 0) 4), (qa_fill aS (fun _ => 0) 6), aU)) : wpX_declare post ((nI jV), mI, (nI (qa_m P)), (nI (qa_w P)), 15625, 1000000000000, (nI (qa_v P)), (nI (qa_c P)), cW, sT, sK, pM, oC, aK, aC, aO, aX, aY, aZ, aW, aB, aA, aI, aM, aP, aN, aV, aE, aR, aL, aT, aG, aS, aU) (nI k) := by
  unfold wpX_declare
  refine br_f (nI_pos (by omega)) (pk_lt 2 k (fun z => absurd z (by omega)) (fun _ => pk_lt (qa_v P) jV (fun _ => ⟨pk_in (qa_v P) 6 (by omega), ?_⟩) (fun z => absurd z (by omega))))
  rw [nI_clamp (by omega)]
  refine nm_e ?_
  refine qa_up5 (fun n p a => wX_declare_36 post (nI (qa_v P)) (nI jV) mI (nI (qa_m P)) (nI (qa_w P)) 15625 1000000000000 (nI (qa_v P)) (nI (qa_c P)) cW sT sK pM oC n (nI p) (upd aK (qa_v P) (nI k)) a aO aX aY aZ aW aB aA aI aM aP aN aV aE aR aL aT aG aS aU) aC (qa_v P * 5) 5 (fun n => ?_) (fun n p hp ih => ?_)
  · exact pk_le 5 5 (fun _ => nm_r (nI_1 _) (qx_drop h)) (fun h => absurd h (by omega))
  · refine pk_le 5 p (fun h => absurd h (by omega)) (fun _ => ?_)
    rw [qa_i5]
    refine ⟨qa_in (by omega), ?_⟩
    rw [nI_clamp (by omega)]
    exact nm_e (nm_r (nI_1 p) ih)
theorem qy_declare1 {post : Int32 → SY → Prop} {k : Nat} (hk : k ≤ 2) (hv : qa_v P < jV) (hj : jV ≤ 6)
    (h : post (nI (qa_v P)) ((nI jV), mI, (nI (qa_m P)), (nI (qa_w P)), (nI (qa_v P + 1)), (nI (qa_c P)), 0, hC, cW, 0, (upd aK (qa_v P) (nI k)), (qa_z5 aC (qa_v P * 5) 5), aO, aX, aY, aZ, aW, bC, bN, bL, bB, bP, bA, bV, aU, (qa_fill aG (fun _ => 0) 4))) : wpY_declare post ((nI jV), mI, (nI (qa_m P)), (nI (qa_w P)), (nI (qa_v P)), (nI (qa_c P)), oC, hC, cW, sT, aK, aC, aO, aX, aY, aZ, aW, bC, bN, bL, bB, bP, bA, bV, aU, aG) (nI k) := by
  unfold wpY_declare
  refine br_f (nI_pos (by omega)) (pk_lt 2 k (fun z => absurd z (by omega)) (fun _ => pk_lt (qa_v P) jV (fun _ => ⟨pk_in (qa_v P) 6 (by omega), ?_⟩) (fun z => absurd z (by omega))))
  rw [nI_clamp (by omega)]
  refine nm_e ?_
  refine qa_up5 (fun n p a => wY_declare_34 post (nI jV) mI (nI (qa_m P)) (nI (qa_w P)) (nI (qa_v P)) (nI (qa_c P)) oC hC cW sT n (nI p) (upd aK (qa_v P) (nI k)) a aO aX aY aZ aW bC bN bL bB bP bA bV aU aG) aC (qa_v P * 5) 5 (fun n => ?_) (fun n p hp ih => ?_)
  · refine pk_le 5 5 (fun _ => qy_drop (nm_r (nI_1 _) ?_)) (fun h => absurd h (by omega))
    rw [nI_pred]
    exact h
  · refine pk_le 5 p (fun h => absurd h (by omega)) (fun _ => ?_)
    rw [qa_i5]
    refine ⟨qa_in (by omega), ?_⟩
    rw [nI_clamp (by omega)]
    exact nm_e (nm_r (nI_1 p) ih)
end
theorem i_vc_declare {k : Nat} {u : SX} {v : SY} (I : i_Rel k u v) (hk : k + 5 ≤ 2564) (v1 : Int32) : wpX_declare (fun r u' => wpY_declare (fun r' v' => r' = r ∧ i_Rel (k + 5) u' v') v v1) u v1 := by
  refine qa_el (Q := fun u v => wpX_declare (fun r u' => wpY_declare (fun r' v' => r' = r ∧ i_Rel (k + 5) u' v') v v1) u v1) ?_ I
  intro P jV jI w o st sK pM hC aK aC aO aX aY aZ aW aB aA aI aM aP aN aV aE aR aL aT aG aS aU bC bN bL bB bP bA bV hR; obtain ⟨hP, hb, hst⟩ := hR; have h6 := qa_v6 hP.1; have h16 := qa_c16 hP.1
  by_cases c0 : v1 < 0
  · unfold wpX_declare wpY_declare
    exact br_t c0 (br_t c0 ⟨rfl, qa_rel ⟨hP, hb, hst⟩⟩)
  · by_cases c2 : 2 < v1
    · unfold wpX_declare wpY_declare
      exact br_f c0 (br_t c2 (br_f c0 (br_t c2 ⟨rfl, qa_rel ⟨hP, hb, hst⟩⟩)))
    · by_cases c3 : qa_v P < jV
      · obtain ⟨j, hj, rfl⟩ := nI_of2 (M := 2) (n := 2) (by decide) c0 (Int32.not_lt.mp c2)
        refine qx_declare1 hj c3 hb.2.1 (qy_declare1 hj c3 hb.2.1 ⟨rfl, ?_⟩)
        exact qa_rel (P := qa_Pd P j) (st := false) (o := 0) ⟨qa_PG_d hP hj (by omega), ⟨c3, hb.2.1, hb.2.2.1, hb.2.2.2.1, hb.2.2.2.2.1, by omega⟩, fun z => Bool.noConfusion z⟩
      · unfold wpX_declare wpY_declare
        have n : ¬ nI (qa_v P) < nI jV := nI_nlt (by omega) (by omega)
        exact br_f c0 (br_f c2 (br_f n (br_f c0 (br_f c2 (br_f n ⟨rfl, qa_rel ⟨hP, hb, hst⟩⟩)))))
/-! charge -/
def qa_fi (P : QA_P) (v : Nat) (w : Int32) : Bool := if w < 0 then false else qa_fit P v w.toNatClampNeg
section
variable {P : QA_P} {jV jI w o : Nat} {st : Bool} {mV mI cW sT sK pM oC hC : Int32} {aK aC aO aX aY aZ aW aB aA aI aM aP aN aR aL aT aG aS aU bC bN bL bB bP bA bV : Nat → Int32} {aV aE : Nat → Int64}
theorem qx_isPlaceW {post : Int32 → Prop} (hP : qa_PG P aK aC aO aX aY aZ aW) {v : Nat} (hv : v < qa_v P) (w : Int32) (h : post (qa_b (qa_fi P v w))) : wpX_isPlace post (mV, mI, (nI (qa_m P)), (nI (qa_w P)), 15625, 1000000000000, (nI (qa_v P)), (nI (qa_c P)), cW, sT, sK, pM, oC, aK, aC, aO, aX, aY, aZ, aW, aB, aA, aI, aM, aP, aN, aV, aE, aR, aL, aT, aG, aS, aU) (nI (qa_k P v)) w := by
  unfold qa_fi at h
  by_cases c : w < 0
  · rw [if_pos c] at h
    exact qx_isPlaceN c h
  · rw [if_neg c] at h
    obtain ⟨j, hj, rfl⟩ := nI_of c
    rw [nI_clamp hj] at h
    exact qx_isPlace (qa_gK hP hv).2 hj h
theorem qy_fitsW {post : Int32 → Prop} (hP : qa_PG P aK aC aO aX aY aZ aW) {v : Nat} (hv : v < qa_v P) (w : Int32) (h : post (qa_b (qa_fi P v w))) : wpY_fits post (mV, mI, (nI (qa_m P)), (nI (qa_w P)), (nI (qa_v P)), (nI (qa_c P)), oC, hC, cW, sT, aK, aC, aO, aX, aY, aZ, aW, bC, bN, bL, bB, bP, bA, bV, aU, aG) (nI v) w := by
  unfold qa_fi at h
  by_cases c : w < 0
  · rw [if_pos c] at h
    exact qy_fitsN c h
  · rw [if_neg c] at h
    obtain ⟨j, hj, rfl⟩ := nI_of c
    rw [nI_clamp hj] at h
    exact qy_fits hP hv hj h
end
theorem qa_fi_t {P : QA_P} {v : Nat} {w : Int32} (h : qa_fi P v w = true) : ∃ q, q ≤ 4 ∧ w = nI q ∧ qa_fit P v q = true := by
  unfold qa_fi at h
  by_cases c : w < 0
  · rw [if_pos c] at h; exact Bool.noConfusion h
  · rw [if_neg c] at h
    obtain ⟨j, hj, rfl⟩ := nI_of c
    rw [nI_clamp hj] at h
    exact ⟨j, qa_fit_lt h, rfl, h⟩
theorem i_vc_charge {k : Nat} {u : SX} {v : SY} (I : i_Rel k u v) (hk : k + 5 ≤ 2564) (v1 : Int32) (v2 : Int32) (v3 : Int32) : wpX_charge (fun r u' => wpY_charge (fun r' v' => r' = r ∧ i_Rel (k + 5) u' v') v v1 v2 v3) u v1 v2 v3 := by
  refine qa_el (Q := fun u v => wpX_charge (fun r u' => wpY_charge (fun r' v' => r' = r ∧ i_Rel (k + 5) u' v') v v1 v2 v3) u v1 v2 v3) ?_ I
  intro P jV jI w o st sK pM hC aK aC aO aX aY aZ aW aB aA aI aM aP aN aV aE aR aL aT aG aS aU bC bN bL bB bP bA bV hR; obtain ⟨hP, hb, hst⟩ := hR; have h6 := qa_v6 hP.1; have h16 := qa_c16 hP.1
  unfold wpX_charge wpY_charge
  rcases pk_ix v1 (n := qa_v P) (by omega) with d | d | ⟨j, hj, rfl⟩
  · exact qx_isVar0 (Or.inl d) (br_t rfl (qy_known0 (Or.inl d) (br_t rfl ⟨rfl, qa_rel ⟨hP, hb, hst⟩⟩)))
  · exact qx_isVar0 (Or.inr d) (br_t rfl (qy_known0 (Or.inr d) (br_t rfl ⟨rfl, qa_rel ⟨hP, hb, hst⟩⟩)))
  · have hk' := qa_gK hP hj
    refine qx_isVar1 hj h6 (br_f (by decide) ?_)
    by_cases c0 : v3 < 0
    · refine br_t c0 (qy_known1 hj h6 (br_f (by decide) (qy_fitsW hP hj v2 (qa_br (fun e => ⟨rfl, qa_rel ⟨hP, hb, hst⟩⟩) (fun e => br_t c0 ⟨rfl, qa_rel ⟨hP, hb, hst⟩⟩)))))
    · by_cases c9 : v3 ≤ 99
      · refine br_f c0 (br_t c9 ⟨pk_in j 6 (by omega), ?_⟩)
        rw [nI_clamp (by omega), hk'.1]
        refine qx_isPlaceW hP hj v2 (qa_br (fun e => ?_) (fun e => ?_))
        · refine qy_known1 hj h6 (br_f (by decide) (qy_fitsW hP hj v2 ?_))
          rw [e]
          exact br_t rfl ⟨rfl, qa_rel ⟨hP, hb, hst⟩⟩
        · obtain ⟨q, hq, rfl, hf⟩ := qa_fi_t e
          obtain ⟨cc, hc, rfl⟩ := nI_of2 (M := 99) (n := 99) (by decide) c0 c9
          rw [qa_i5]
          refine ⟨qa_in (by omega), ?_⟩
          rw [nI_clamp (n := j * 5 + q) (by omega)]
          refine nm_e ⟨qa_in (by omega), nm_e (qx_drop ?_)⟩
          refine qy_known1 hj h6 (br_f (by decide) (qy_fitsW hP hj (nI q) ?_))
          rw [e]
          refine br_f (by decide) (br_f c0 (br_t c9 ?_))
          refine ⟨qa_in (by omega), nm_e ⟨qa_in (by omega), nm_e (qy_drop ⟨rfl, ?_⟩)⟩⟩
          exact qa_rel (P := qa_Pc P (j * 5 + q) cc) (st := false) (o := 0) ⟨qa_PG_c hP hc, ⟨hb.1, hb.2.1, hb.2.2.1, hb.2.2.2.1, hb.2.2.2.2.1, by omega⟩, fun z => Bool.noConfusion z⟩
      · refine br_f c0 (br_f c9 (qy_known1 hj h6 (br_f (by decide) (qy_fitsW hP hj v2 (qa_br (fun e => ⟨rfl, qa_rel ⟨hP, hb, hst⟩⟩) (fun e => br_f c0 (br_f c9 ⟨rfl, qa_rel ⟨hP, hb, hst⟩⟩)))))))
end
section
/-! ===== the owed statements: emit ===== -/
def qa_VO (P : QA_P) (op : Nat) (x y z : Int32) : Prop :=
  (∃ j, j < qa_v P ∧ x = nI j) ∧ (1 ≤ op → op ≤ 4 → ∃ j, j < qa_v P ∧ y = nI j) ∧ (2 ≤ op → op ≤ 4 → ∃ j, j < qa_v P ∧ z = nI j) ∧
  (op = 5 → ∃ j, j ≤ 1 ∧ y = nI j) ∧ (op = 7 → ∃ j, j ≤ 15 ∧ y = nI j)
theorem qa_nvar {n : Nat} (hn : n ≤ 6) {w : Int32} (h : w < 0 ∨ nI n ≤ w) : ¬ ∃ j, j < n ∧ w = nI j := by
  rintro ⟨j, hj, rfl⟩
  rcases h with h | h
  · exact nI_pos (by omega) h
  · rw [nI_leI (by omega) (by omega)] at h; omega
section
variable {P : QA_P} {jV jI w o : Nat} {st : Bool} {mV mI cW sT sK pM oC hC : Int32} {aK aC aO aX aY aZ aW aB aA aI aM aP aN aR aL aT aG aS aU bC bN bL bB bP bA bV : Nat → Int32} {aV aE : Nat → Int64}
theorem qx_isVarC {post : Int32 → Prop} (h6 : qa_v P ≤ 6) {x : Int32} (h1 : (∃ j, j < qa_v P ∧ x = nI j) → post 1) (h0 : ¬ (∃ j, j < qa_v P ∧ x = nI j) → post 0) : wpX_isVariable post (mV, mI, (nI (qa_m P)), (nI (qa_w P)), 15625, 1000000000000, (nI (qa_v P)), (nI (qa_c P)), cW, sT, sK, pM, oC, aK, aC, aO, aX, aY, aZ, aW, aB, aA, aI, aM, aP, aN, aV, aE, aR, aL, aT, aG, aS, aU) x := by
  rcases pk_ix x (n := qa_v P) (by omega) with d | d | ⟨j, hj, e⟩
  · exact qx_isVar0 (Or.inl d) (h0 (qa_nvar h6 (Or.inl d)))
  · exact qx_isVar0 (Or.inr d) (h0 (qa_nvar h6 (Or.inr d)))
  · have := h1 ⟨j, hj, e⟩
    subst e
    exact qx_isVar1 hj h6 this
theorem qy_knownC {post : Int32 → Prop} (h6 : qa_v P ≤ 6) {x : Int32} (h1 : (∃ j, j < qa_v P ∧ x = nI j) → post 1) (h0 : ¬ (∃ j, j < qa_v P ∧ x = nI j) → post 0) : wpY_known post (mV, mI, (nI (qa_m P)), (nI (qa_w P)), (nI (qa_v P)), (nI (qa_c P)), oC, hC, cW, sT, aK, aC, aO, aX, aY, aZ, aW, bC, bN, bL, bB, bP, bA, bV, aU, aG) x := by
  rcases pk_ix x (n := qa_v P) (by omega) with d | d | ⟨j, hj, e⟩
  · exact qy_known0 (Or.inl d) (h0 (qa_nvar h6 (Or.inl d)))
  · exact qy_known0 (Or.inr d) (h0 (qa_nvar h6 (Or.inr d)))
  · have := h1 ⟨j, hj, e⟩
    subst e
    exact qy_known1 hj h6 this
theorem qx_valid {post : Int32 → Prop} (h6 : qa_v P ≤ 6) {op : Nat} (hop : op ≤ 7) {x y z : Int32} (h1 : qa_VO P op x y z → post 1) (h0 : ¬ qa_VO P op x y z → post 0) : wpX_validOperands post (mV, mI, (nI (qa_m P)), (nI (qa_w P)), 15625, 1000000000000, (nI (qa_v P)), (nI (qa_c P)), cW, sT, sK, pM, oC, aK, aC, aO, aX, aY, aZ, aW, aB, aA, aI, aM, aP, aN, aV, aE, aR, aL, aT, aG, aS, aU) (nI op) x y z := by
  unfold wpX_validOperands
  refine qx_isVarC h6 (fun vx => br_f (by decide) ?_) (fun n => br_t rfl (h0 (fun V => n V.1)))
  refine pk_eq op 5 (fun o5 => ?_) (fun o5 => ?_)
  · refine br_c (fun e => h1 ⟨vx, fun _ b => absurd b (by omega), fun _ b => absurd b (by omega), fun _ => ⟨0, by omega, e⟩, fun b => absurd b (by omega)⟩) (fun e => ?_)
    refine br_c (fun e => h1 ⟨vx, fun _ b => absurd b (by omega), fun _ b => absurd b (by omega), fun _ => ⟨1, by omega, e⟩, fun b => absurd b (by omega)⟩) (fun f => h0 (fun V => ?_))
    obtain ⟨j, hj, ej⟩ := V.2.2.2.1 o5
    have : j = 0 ∨ j = 1 := by omega
    rcases this with rfl | rfl
    · exact e ej
    · exact f ej
  · refine pk_eq op 7 (fun o7 => ?_) (fun o7 => ?_)
    · refine br_c (fun e => h0 (fun V => ?_)) (fun e => br_c (fun f => h0 (fun V => ?_)) (fun f => h1 ⟨vx, fun _ b => absurd b (by omega), fun _ b => absurd b (by omega), fun b => absurd b (by omega), fun _ => nI_of2 (M := 15) (n := 15) (by decide) e (Int32.not_lt.mp f)⟩))
      · obtain ⟨j, hj, rfl⟩ := V.2.2.2.2 o7
        exact nI_pos (by omega) e
      · obtain ⟨j, hj, rfl⟩ := V.2.2.2.2 o7
        exact nI_nlt (a := 15) (b := j) hj (by omega) f
    · have g : (1 ≤ op → op ≤ 4 → ∃ j, j < qa_v P ∧ y = nI j) → wX_validOperands_72 post (nI op) z mV mI (nI (qa_m P)) (nI (qa_w P)) 15625 1000000000000 (nI (qa_v P)) (nI (qa_c P)) cW sT sK pM oC aK aC aO aX aY aZ aW aB aA aI aM aP aN aV aE aR aL aT aG aS aU := by
        intro vy
        unfold wX_validOperands_72
        refine pk_lt op 2 (fun o => h1 ⟨vx, vy, fun b => absurd b (by omega), fun b => absurd b o5, fun b => absurd b o7⟩) (fun o2 => ?_)
        refine pk_lt 4 op (fun o => h1 ⟨vx, vy, fun _ b => absurd b (by omega), fun b => absurd b o5, fun b => absurd b o7⟩) (fun o4 => ?_)
        exact qx_isVarC h6 (fun vz => br_f (by decide) (h1 ⟨vx, vy, fun _ _ => vz, fun b => absurd b o5, fun b => absurd b o7⟩)) (fun n => br_t rfl (h0 (fun V => n (V.2.2.1 o2 o4))))
      refine pk_lt op 1 (fun o => g (fun b => absurd b (by omega))) (fun o1 => pk_lt 4 op (fun o => g (fun _ b => absurd b (by omega))) (fun o4 => ?_))
      exact qx_isVarC h6 (fun vy => br_f (by decide) (g (fun _ _ => vy))) (fun n => br_t rfl (h0 (fun V => n (V.2.1 o1 o4))))
theorem qy_emitV {post : Int32 → SY → Prop} (h6 : qa_v P ≤ 6) {op : Nat} (hop : op ≤ 7) (hc : qa_c P < jI) (hj : jI ≤ 16) {x y z : Int32} (h1 : qa_VO P op x y z → wY_emit_102 post (nI op) x y z mV (nI jI) (nI (qa_m P)) (nI (qa_w P)) (nI (qa_v P)) (nI (qa_c P)) oC hC cW sT aK aC aO aX aY aZ aW bC bN bL bB bP bA bV aU aG) (h0 : ¬ qa_VO P op x y z → post (-1) (mV, (nI jI), (nI (qa_m P)), (nI (qa_w P)), (nI (qa_v P)), (nI (qa_c P)), oC, hC, cW, sT, aK, aC, aO, aX, aY, aZ, aW, bC, bN, bL, bB, bP, bA, bV, aU, aG)) : wpY_emit post (mV, (nI jI), (nI (qa_m P)), (nI (qa_w P)), (nI (qa_v P)), (nI (qa_c P)), oC, hC, cW, sT, aK, aC, aO, aX, aY, aZ, aW, bC, bN, bL, bB, bP, bA, bV, aU, aG) (nI op) x y z := by
  have k84 : (∃ j, j < qa_v P ∧ x = nI j) → (1 ≤ op → op ≤ 4 → ∃ j, j < qa_v P ∧ y = nI j) → (2 ≤ op → op ≤ 4 → ∃ j, j < qa_v P ∧ z = nI j) → (op = 5 → ∃ j, j ≤ 1 ∧ y = nI j) → wY_emit_84 post (nI op) x y z mV (nI jI) (nI (qa_m P)) (nI (qa_w P)) (nI (qa_v P)) (nI (qa_c P)) oC hC cW sT aK aC aO aX aY aZ aW bC bN bL bB bP bA bV aU aG := by
    intro vx vy vz v5
    unfold wY_emit_84
    refine pk_eq op 7 (fun o7 => ?_) (fun o7 => h1 ⟨vx, vy, vz, v5, fun b => absurd b o7⟩)
    refine br_c (fun e => h0 (fun V => ?_)) (fun e => br_c (fun f => h1 ⟨vx, vy, vz, v5, fun _ => nI_of2 (M := 15) (n := 15) (by decide) e f⟩) (fun f => h0 (fun V => ?_)))
    · obtain ⟨j, hj, rfl⟩ := V.2.2.2.2 o7
      exact nI_pos (by omega) e
    · obtain ⟨j, hj, rfl⟩ := V.2.2.2.2 o7
      exact f (nI_le (a := j) (b := 15) hj (by omega))
  have k70 : (∃ j, j < qa_v P ∧ x = nI j) → (1 ≤ op → op ≤ 4 → ∃ j, j < qa_v P ∧ y = nI j) → (2 ≤ op → op ≤ 4 → ∃ j, j < qa_v P ∧ z = nI j) → wY_emit_70 post (nI op) x y z mV (nI jI) (nI (qa_m P)) (nI (qa_w P)) (nI (qa_v P)) (nI (qa_c P)) oC hC cW sT aK aC aO aX aY aZ aW bC bN bL bB bP bA bV aU aG := by
    intro vx vy vz
    unfold wY_emit_70
    refine pk_eq op 5 (fun o5 => ?_) (fun o5 => k84 vx vy vz (fun b => absurd b o5))
    refine br_c (fun e => h0 (fun V => ?_)) (fun e => br_c (fun f => h0 (fun V => ?_)) (fun f => k84 vx vy vz (fun _ => nI_of2 (M := 1) (n := 1) (by decide) e (Int32.not_lt.mp f))))
    · obtain ⟨j, hj, rfl⟩ := V.2.2.2.1 o5
      exact nI_pos (by omega) e
    · obtain ⟨j, hj, rfl⟩ := V.2.2.2.1 o5
      exact nI_nlt (a := 1) (b := j) hj (by omega) f
  have k49 : (∃ j, j < qa_v P ∧ x = nI j) → (1 ≤ op → op ≤ 4 → ∃ j, j < qa_v P ∧ y = nI j) → wY_emit_49 post (nI op) x y z mV (nI jI) (nI (qa_m P)) (nI (qa_w P)) (nI (qa_v P)) (nI (qa_c P)) oC hC cW sT aK aC aO aX aY aZ aW bC bN bL bB bP bA bV aU aG := by
    intro vx vy
    unfold wY_emit_49
    refine pk_lt op 2 (fun o => k70 vx vy (fun b => absurd b (by omega))) (fun o2 => pk_lt 4 op (fun o => k70 vx vy (fun _ b => absurd b (by omega))) (fun o4 => ?_))
    exact qy_knownC h6 (fun vz => br_f (by decide) (k70 vx vy (fun _ _ => vz))) (fun n => br_t rfl (h0 (fun V => n (V.2.2.1 o2 o4))))
  unfold wpY_emit
  refine br_f (nI_pos (by omega)) (pk_lt 7 op (fun o => absurd o (by omega)) (fun _ => pk_le jI (qa_c P) (fun o => absurd o (by omega)) (fun _ => ?_)))
  refine qy_knownC h6 (fun vx => br_f (by decide) ?_) (fun n => br_t rfl (h0 (fun V => n V.1)))
  refine pk_lt op 1 (fun o => k49 vx (fun b => absurd b (by omega))) (fun o1 => pk_lt 4 op (fun o => k49 vx (fun _ b => absurd b (by omega))) (fun o4 => ?_))
  exact qy_knownC h6 (fun vy => br_f (by decide) (k49 vx (fun _ _ => vy))) (fun n => br_t rfl (h0 (fun V => n (V.2.1 o1 o4))))
theorem qy_emit1 {post : Int32 → SY → Prop} {p0 x y z : Int32} (hc : qa_c P < 16)
    (h : post (nI (qa_c P)) (mV, mI, (nI (qa_m P)), (nI (qa_w P)), (nI (qa_v P)), (nI (qa_c P + 1)), 0, hC, cW, 0, aK, aC, (upd aO (qa_c P) p0), (upd aX (qa_c P) x), (upd aY (qa_c P) y), (upd aZ (qa_c P) z), (upd aW (qa_c P) cW), bC, bN, bL, bB, bP, bA, bV, aU, (qa_fill aG (fun _ => 0) 4))) : wY_emit_102 post p0 x y z mV mI (nI (qa_m P)) (nI (qa_w P)) (nI (qa_v P)) (nI (qa_c P)) oC hC cW sT aK aC aO aX aY aZ aW bC bN bL bB bP bA bV aU aG := by
  unfold wY_emit_102
  have hin := pk_in (qa_c P) 16 hc
  rw [nI_clamp (by omega)]
  refine ⟨hin, nm_e ⟨hin, nm_e ⟨hin, nm_e ⟨hin, nm_e ⟨hin, nm_e (qy_drop (nm_r (nI_1 _) ?_))⟩⟩⟩⟩⟩
  rw [nI_pred]
  exact h
theorem qx_emitV {post : Int32 → SX → Prop} (h6 : qa_v P ≤ 6) {op : Nat} (hop : op ≤ 7) (hc : qa_c P < jI) (hj : jI ≤ 16) {x y z : Int32}
    (h1 : qa_VO P op x y z → post (nI (qa_c P)) (mV, (nI jI), (nI (qa_m P)), (nI (qa_w P)), 15625, 1000000000000, (nI (qa_v P)), (nI (qa_c P + 1)), cW, 0, sK, 0, 0, aK, aC, (upd aO (qa_c P) (nI op)), (upd aX (qa_c P) x), (upd aY (qa_c P) y), (upd aZ (qa_c P) z), (upd aW (qa_c P) cW), aB, aA, aI, aM, aP, aN, aV, aE, aR, aL, aT, (qa_fill aG (fun _ => 0) 4), (qa_fill aS (fun _ => 0) 6), aU))
    (h0 : ¬ qa_VO P op x y z → post (-1) (mV, (nI jI), (nI (qa_m P)), (nI (qa_w P)), 15625, 1000000000000, (nI (qa_v P)), (nI (qa_c P)), cW, sT, sK, pM, oC, aK, aC, aO, aX, aY, aZ, aW, aB, aA, aI, aM, aP, aN, aV, aE, aR, aL, aT, aG, aS, aU)) : wpX_emit post (mV, (nI jI), (nI (qa_m P)), (nI (qa_w P)), 15625, 1000000000000, (nI (qa_v P)), (nI (qa_c P)), cW, sT, sK, pM, oC, aK, aC, aO, aX, aY, aZ, aW, aB, aA, aI, aM, aP, aN, aV, aE, aR, aL, aT, aG, aS, aU) (nI op) x y z := by
  have hin := pk_in (qa_c P) 16 (by omega)
  unfold wpX_emit
  refine br_f (nI_pos (by omega)) (pk_lt 7 op (fun o => absurd o (by omega)) (fun _ => pk_lt (qa_c P) jI (fun _ => ?_) (fun o => absurd o (by omega))))
  refine qx_valid h6 hop (fun V => br_f (by decide) ?_) (fun n => br_t rfl (h0 n))
  rw [nI_clamp (by omega)]
  exact ⟨hin, nm_e ⟨hin, nm_e ⟨hin, nm_e ⟨hin, nm_e ⟨hin, nm_e (nm_r (nI_1 _) (qx_drop (h1 V)))⟩⟩⟩⟩⟩
end
theorem i_vc_emit {k : Nat} {u : SX} {v : SY} (I : i_Rel k u v) (hk : k + 5 ≤ 2564) (v1 : Int32) (v2 : Int32) (v3 : Int32) (v4 : Int32) : wpX_emit (fun r u' => wpY_emit (fun r' v' => r' = r ∧ i_Rel (k + 5) u' v') v v1 v2 v3 v4) u v1 v2 v3 v4 := by
  refine qa_el (Q := fun u v => wpX_emit (fun r u' => wpY_emit (fun r' v' => r' = r ∧ i_Rel (k + 5) u' v') v v1 v2 v3 v4) u v1 v2 v3 v4) ?_ I
  intro P jV jI w o st sK pM hC aK aC aO aX aY aZ aW aB aA aI aM aP aN aV aE aR aL aT aG aS aU bC bN bL bB bP bA bV hR; obtain ⟨hP, hb, hst⟩ := hR; have h6 := qa_v6 hP.1; have h16 := qa_c16 hP.1
  by_cases c0 : v1 < 0
  · unfold wpX_emit wpY_emit
    exact br_t c0 (br_t c0 ⟨rfl, qa_rel ⟨hP, hb, hst⟩⟩)
  · by_cases c7 : 7 < v1
    · unfold wpX_emit wpY_emit
      exact br_f c0 (br_t c7 (br_f c0 (br_t c7 ⟨rfl, qa_rel ⟨hP, hb, hst⟩⟩)))
    · by_cases c3 : qa_c P < jI
      · obtain ⟨op, hop, rfl⟩ := nI_of2 (M := 7) (n := 7) (by decide) c0 (Int32.not_lt.mp c7)
        refine qx_emitV h6 hop c3 hb.2.2.2.1 (fun V => qy_emitV h6 hop c3 hb.2.2.2.1 (fun _ => qy_emit1 (by omega) ⟨rfl, ?_⟩) (fun n => absurd V n)) (fun n => qy_emitV h6 hop c3 hb.2.2.2.1 (fun V => absurd V n) (fun _ => ⟨rfl, qa_rel ⟨hP, hb, hst⟩⟩))
        obtain ⟨⟨x, hx, rfl⟩, vy, vz, v5, v7⟩ := V
        exact qa_rel (P := qa_Pe P op x v3.toNatClampNeg v4.toNatClampNeg w) (st := false) (o := 0) ⟨qa_PG_e hP (by omega) hop hx hb.2.2.2.2.1 vy vz v7, ⟨hb.1, hb.2.1, c3, hb.2.2.2.1, hb.2.2.2.2.1, by omega⟩, fun z => Bool.noConfusion z⟩
      · unfold wpX_emit wpY_emit
        have n : ¬ nI (qa_c P) < nI jI := nI_nlt (by omega) (by omega)
        have n' : nI jI ≤ nI (qa_c P) := nI_le (by omega) (by omega)
        exact br_f c0 (br_f c7 (br_f n (br_f c0 (br_f c7 (br_t n' ⟨rfl, qa_rel ⟨hP, hb, hst⟩⟩)))))
end
