section
/-! rows on bits, shifts and unsigned numbers, to paste: each family out of a closed proof of our own, whole with what it rests on; each by itself clean at Lean in its own claim (generation 39, form 5). Take a family whole -/
/-! ===== Int32 by its bits: bt x i ===== -/
def bt (x : Int32) (i : Nat) : Bool := x.toBitVec.getLsbD i
theorem b_ext {x y : Int32} (h : ∀ i, i < 32 → bt x i = bt y i) : x = y := Int32.toBitVec_inj.mp (BitVec.eq_of_getLsbD_eq (fun i hi => h i hi))
theorem b_or (x y : Int32) (i : Nat) : bt (x ||| y) i = (bt x i || bt y i) := by unfold bt; rw [Int32.toBitVec_or, BitVec.getLsbD_or]
theorem b_and (x y : Int32) (i : Nat) : bt (x &&& y) i = (bt x i && bt y i) := by unfold bt; rw [Int32.toBitVec_and, BitVec.getLsbD_and]
theorem b_xor (x y : Int32) (i : Nat) : bt (x ^^^ y) i = (bt x i ^^ bt y i) := by unfold bt; rw [Int32.toBitVec_xor, BitVec.getLsbD_xor]
theorem b_big {x : Int32} {i : Nat} (h : 32 ≤ i) : bt x i = false := BitVec.getLsbD_of_ge _ _ h
theorem b_255 (i : Nat) : bt 255 i = decide (i < 8) := by
  rcases Nat.lt_or_ge i 32 with h | h
  · exact (by decide +kernel : ∀ i, i < 32 → bt 255 i = decide (i < 8)) i h
  · rw [b_big h, decide_eq_false (by omega)]
theorem b_65535 (i : Nat) : bt 65535 i = decide (i < 16) := by
  rcases Nat.lt_or_ge i 32 with h | h
  · exact (by decide +kernel : ∀ i, i < 32 → bt 65535 i = decide (i < 16)) i h
  · rw [b_big h, decide_eq_false (by omega)]
theorem b_m1 : ∀ i, i < 32 → bt (-1) i = true := by decide +kernel
theorem b_0 (i : Nat) : bt 0 i = false := BitVec.getLsbD_zero
theorem s_l : ∀ n, n < 32 → ((nI n &&& 31).toBitVec.smod 32).toNat = n := by decide +kernel
theorem s_u : ∀ n, n < 32 → (((nI n).toUInt32 &&& Int32.toUInt32 31).toBitVec % 32).toNat = n := by decide +kernel
theorem b_shl (n : Nat) (hn : n < 32) (x : Int32) {i : Nat} (hi : i < 32) : bt (x <<< (nI n &&& 31)) i = (decide (n ≤ i) && bt x (i - n)) := by
  unfold bt
  rw [Int32.toBitVec_shiftLeft]
  show (x.toBitVec <<< ((nI n &&& 31).toBitVec.smod 32).toNat).getLsbD i = _
  rw [s_l n hn, BitVec.getLsbD_shiftLeft]
  rcases Nat.lt_or_ge i n with h | h
  · simp [h, Nat.not_le.mpr h]
  · simp [hi, h, Nat.not_lt.mpr h]
theorem b_ushr (n : Nat) (hn : n < 32) (x : Int32) (i : Nat) : bt ((x.toUInt32 >>> ((nI n).toUInt32 &&& Int32.toUInt32 31)).toInt32) i = bt x (n + i) := by
  show (x.toUInt32 >>> ((nI n).toUInt32 &&& Int32.toUInt32 31)).toBitVec.getLsbD i = x.toUInt32.toBitVec.getLsbD (n + i)
  rw [UInt32.toBitVec_shiftRight]
  show (x.toUInt32.toBitVec >>> (((nI n).toUInt32 &&& Int32.toUInt32 31).toBitVec % 32).toNat).getLsbD i = _
  rw [s_u n hn, BitVec.getLsbD_ushiftRight]
theorem b_sshr (n : Nat) (hn : n < 32) (x : Int32) {i : Nat} (hi : i < 32) : bt (x >>> (nI n &&& 31)) i = if n + i < 32 then bt x (n + i) else bt x 31 := by
  unfold bt
  rw [Int32.toBitVec_shiftRight]
  show (x.toBitVec.sshiftRight ((nI n &&& 31).toBitVec.smod 32).toNat).getLsbD i = _
  rw [s_l n hn, BitVec.getLsbD_sshiftRight, BitVec.msb_eq_getLsbD_last]
  simp [hi]
theorem b_shl8 (x : Int32) {i : Nat} (hi : i < 32) : bt (x <<< ((8 : Int32) &&& 31)) i = (decide (8 ≤ i) && bt x (i - 8)) := b_shl 8 (by omega) x hi
theorem b_shl16 (x : Int32) {i : Nat} (hi : i < 32) : bt (x <<< ((16 : Int32) &&& 31)) i = (decide (16 ≤ i) && bt x (i - 16)) := b_shl 16 (by omega) x hi
theorem b_shl24 (x : Int32) {i : Nat} (hi : i < 32) : bt (x <<< ((24 : Int32) &&& 31)) i = (decide (24 ≤ i) && bt x (i - 24)) := b_shl 24 (by omega) x hi
theorem b_sshr8 (x : Int32) {i : Nat} (hi : i < 32) : bt (x >>> ((8 : Int32) &&& 31)) i = if 8 + i < 32 then bt x (8 + i) else bt x 31 := b_sshr 8 (by omega) x hi
/-! pure rows to paste: stores, nI and lN arithmetic, masks, shifts, narrowing, branches by naturals (pk_le, pk_lt, pk_eq), loops (lp1 .. lp16: the measure of the state; rp1 ..: recursion), negatives. Take what you need -/
theorem pk_us {f : Nat → Int32} {k : Nat} {x : Int32} : upd f k x k = x := if_pos rfl
theorem pk_un {f : Nat → Int32} {k j : Nat} {x : Int32} (h : j ≠ k) : upd f k x j = f j := if_neg h
theorem pk_uLs {f : Nat → Int64} {k : Nat} {x : Int64} : vp_updL f k x k = x := if_pos rfl
theorem pk_uLn {f : Nat → Int64} {k j : Nat} {x : Int64} (h : j ≠ k) : vp_updL f k x j = f j := if_neg h
theorem pk_sub {a b : Nat} (h : b ≤ a) : nI a - nI b = nI (a - b) := by
  obtain ⟨c, rfl⟩ : ∃ c, a = c + b := ⟨a - b, by omega⟩
  rw [← nI_add, Int32.add_sub_cancel, Nat.add_sub_cancel]
theorem pk_m1 (n : Nat) : nI (n + 1) + (-1) = nI n := by
  rw [← nI_1, Int32.add_assoc, show (1 : Int32) + (-1) = 0 from rfl, Int32.add_zero]
theorem pk_mul (a b : Nat) : nI a * nI b = nI (a * b) := (Int32.ofNat_mul a b).symm
theorem pk_div {a d : Nat} (ha : a < 2 ^ 31) (h0 : 0 < d) (hd : d < 2 ^ 31) : nI a / nI d = nI (a / d) := by
  apply Int32.toInt_inj.mp
  rw [lg_idiv_nonneg (by rw [nI_toInt ha]; omega) (by rw [nI_toInt hd]; omega), nI_toInt ha, nI_toInt hd, nI_toInt (Nat.lt_of_le_of_lt (Nat.div_le_self a d) ha)]
  first | rfl | exact (Int.natCast_ediv _ _).symm
theorem pk_rem {a d : Nat} (ha : a < 2 ^ 31) (h0 : 0 < d) (hd : d < 2 ^ 31) : nI a - nI a / nI d * nI d = nI (a % d) := by
  rw [pk_div ha h0 hd, pk_mul, pk_sub (Nat.div_mul_le_self a d)]
  exact congrArg nI (by have := Nat.div_add_mod' a d; omega)
theorem pk_sub_toInt {a b : Nat} (ha : a < 2 ^ 30) (hb : b < 2 ^ 30) : (nI a - nI b).toInt = (a : Int) - b := by
  rw [Int32.toInt_sub, nI_toInt (by omega), nI_toInt (by omega)]
  exact Int.bmod_eq_of_le (by omega) (by omega)
theorem pk_sneg {a b : Nat} (hb : b < 2 ^ 30) (h : a < b) : nI a - nI b < 0 := by
  rw [Int32.lt_iff_toInt_lt, pk_sub_toInt (by omega) hb, show (0 : Int32).toInt = 0 from by decide]
  omega
theorem pk_ix (x : Int32) {n : Nat} (hn : n < 2 ^ 31) : x < 0 ∨ nI n ≤ x ∨ ∃ j : Nat, j < n ∧ x = nI j := by
  by_cases h : x < 0
  · exact Or.inl h
  · obtain ⟨j, hj, rfl⟩ := nI_of h
    by_cases h2 : j < n
    · exact Or.inr (Or.inr ⟨j, h2, rfl⟩)
    · exact Or.inr (Or.inl (nI_le (by omega) hj))
theorem pk_le {x y : Int32} {A B : Prop} (a b : Nat) (f : a ≤ b → A) (g : b < a → B) (hx : x = nI a := by rfl) (hy : y = nI b := by rfl) (ha : a < 2 ^ 31 := by omega) (hb : b < 2 ^ 31 := by omega) : (x ≤ y → A) ∧ (¬ x ≤ y → B) := by
  subst hx hy
  rw [nI_leI ha hb]
  exact ⟨f, fun z => g (by omega)⟩
theorem pk_lt {x y : Int32} {A B : Prop} (a b : Nat) (f : a < b → A) (g : b ≤ a → B) (hx : x = nI a := by rfl) (hy : y = nI b := by rfl) (ha : a < 2 ^ 31 := by omega) (hb : b < 2 ^ 31 := by omega) : (x < y → A) ∧ (¬ x < y → B) := by
  subst hx hy
  rw [nI_ltI ha hb]
  exact ⟨f, fun z => g (by omega)⟩
theorem pk_eq {x y : Int32} {A B : Prop} (a b : Nat) (f : a = b → A) (g : a ≠ b → B) (hx : x = nI a := by rfl) (hy : y = nI b := by rfl) (ha : a < 2 ^ 31 := by omega) (hb : b < 2 ^ 31 := by omega) : (x = y → A) ∧ (¬ x = y → B) := by
  subst hx hy
  rw [nI_eq ha hb]
  exact ⟨f, g⟩
theorem pk_in {x : Int32} (n N : Nat) (h : n < N) (hx : x = nI n := by rfl) (hN : N < 2 ^ 31 := by omega) : vp_in x N := by
  subst hx
  exact vp_in_nI h hN
theorem pk_cl {x : Int32} (n : Nat) (hx : x = nI n := by rfl) (h : n < 2 ^ 31 := by omega) : x.toNatClampNeg = n := by
  subst hx
  exact nI_clamp h
theorem pk_tn {n : Nat} (h : n < 2 ^ 32) : (nI n).toBitVec.toNat = n := Nat.mod_eq_of_lt h
theorem pk_and (x : Int32) {m : Int32} (k : Nat) (hm : m.toBitVec.toNat = 2 ^ k - 1) : x &&& m = nI (x.toBitVec.toNat % 2 ^ k) := by
  apply Int32.toBitVec_inj.mp
  apply BitVec.eq_of_toNat_eq
  rw [Int32.toBitVec_and, BitVec.toNat_and, hm, Nat.and_two_pow_sub_one_eq_mod]
  show _ = (BitVec.ofNat 32 _).toNat
  rw [BitVec.toNat_ofNat]
  exact (Nat.mod_eq_of_lt (Nat.lt_of_le_of_lt (Nat.mod_le _ _) x.toBitVec.isLt)).symm
theorem pk_andN {n : Nat} (h : n < 2 ^ 32) {m : Int32} (k : Nat) (hm : m.toBitVec.toNat = 2 ^ k - 1) : nI n &&& m = nI (n % 2 ^ k) := by
  rw [pk_and _ k hm, pk_tn h]
theorem pk_andE (x : Int32) {m : Int32} (k : Nat) (hm : m.toBitVec.toNat = 2 ^ k - 1) : ∃ j : Nat, j < 2 ^ k ∧ x &&& m = nI j := ⟨_, Nat.mod_lt _ (Nat.two_pow_pos k), pk_and x k hm⟩
theorem pk_andIn (x : Int32) {m : Int32} (k : Nat) (hm : m.toBitVec.toNat = 2 ^ k - 1) (hk : k ≤ 30) : vp_in (x &&& m) (2 ^ k) := by
  obtain ⟨j, hj, e⟩ := pk_andE x k hm
  rw [e]
  exact vp_in_nI hj (Nat.lt_of_le_of_lt (Nat.pow_le_pow_right (by decide) hk) (by decide))
theorem pk_shl (a s : Int32) (k : Nat) (hs : (s.toBitVec.smod 32).toNat = k) : (a <<< s).toBitVec.toNat = a.toBitVec.toNat * 2 ^ k % 2 ^ 32 := by
  show (a.toBitVec <<< (s.toBitVec.smod 32).toNat).toNat = _
  rw [hs, BitVec.toNat_shiftLeft, Nat.shiftLeft_eq]
theorem pk_shlN {n : Nat} (s : Int32) (k : Nat) (hs : (s.toBitVec.smod 32).toNat = k) (h : n * 2 ^ k < 2 ^ 32) : nI n <<< s = nI (n * 2 ^ k) := by
  apply Int32.toBitVec_inj.mp
  apply BitVec.eq_of_toNat_eq
  have hn : n < 2 ^ 32 := Nat.lt_of_le_of_lt (Nat.le_mul_of_pos_right n (Nat.two_pow_pos k)) h
  rw [pk_shl _ _ k hs, pk_tn hn, pk_tn h, Nat.mod_eq_of_lt h]
theorem pk_shr (a s : Int32) (k : Nat) (hs : (s.toBitVec.smod 32).toNat = k) : (a >>> s).toInt = a.toInt >>> k := by
  show (a.toBitVec.sshiftRight (s.toBitVec.smod 32).toNat).toInt = _
  rw [hs, BitVec.toInt_sshiftRight]
  rfl
theorem pk_shrN {n : Nat} (h : n < 2 ^ 31) (s : Int32) (k : Nat) (hs : (s.toBitVec.smod 32).toNat = k) : nI n >>> s = nI (n / 2 ^ k) := by
  apply Int32.toInt_inj.mp
  have h2 : n / 2 ^ k ≤ n := Nat.div_le_self _ _
  rw [pk_shr _ _ k hs, nI_toInt h, nI_toInt (by omega), Int.shiftRight_eq_div_pow]
  rfl
theorem pk_ushr (x s : Int32) (k : Nat) (hs : ((s.toUInt32 &&& Int32.toUInt32 31).toBitVec % 32).toNat = k) : (x.toUInt32 >>> (s.toUInt32 &&& Int32.toUInt32 31)).toInt32.toBitVec.toNat = x.toBitVec.toNat / 2 ^ k := by
  have e : (x.toUInt32 >>> (s.toUInt32 &&& Int32.toUInt32 31)).toInt32.toBitVec = x.toBitVec >>> k := by
    rw [← hs]
    exact UInt32.toBitVec_shiftRight _ _
  rw [e, BitVec.toNat_ushiftRight, Nat.shiftRight_eq_div_pow]
theorem pk_ushrN {n : Nat} (hn : n < 2 ^ 32) (s : Int32) (k : Nat) (hs : ((s.toUInt32 &&& Int32.toUInt32 31).toBitVec % 32).toNat = k) : ((nI n).toUInt32 >>> (s.toUInt32 &&& Int32.toUInt32 31)).toInt32 = nI (n / 2 ^ k) := by
  apply Int32.toBitVec_inj.mp
  apply BitVec.eq_of_toNat_eq
  rw [pk_ushr _ s k hs, pk_tn hn, pk_tn (Nat.lt_of_le_of_lt (Nat.div_le_self _ _) hn)]
theorem pk_nb (z : Int32) : narrow .byte (.int z.toInt8.toInt32) = .int z.toInt8.toInt32 := congrArg Value.int (by simp)
theorem pk_ns (z : Int32) : narrow .short (.int z.toInt16.toInt32) = .int z.toInt16.toInt32 := congrArg Value.int (by simp)
theorem pk_fb (r : Int32) : fits .byte (.int r.toInt8.toInt32) = true := by
  have ⟨a, b⟩ := lg_i2b_range r
  have h1 : (-128 : Int32).toInt = -128 := by decide
  have h2 : (127 : Int32).toInt = 127 := by decide
  simp only [fits, Bool.and_eq_true, decide_eq_true_eq, Int32.le_iff_toInt_le, h1, h2]
  omega
theorem pk_fs (r : Int32) : fits .short (.int r.toInt16.toInt32) = true := by
  have ⟨a, b⟩ := lg_i2s_range r
  have h1 : (-32768 : Int32).toInt = -32768 := by decide
  have h2 : (32767 : Int32).toInt = 32767 := by decide
  simp only [fits, Bool.and_eq_true, decide_eq_true_eq, Int32.le_iff_toInt_le, h1, h2]
  omega
theorem pk_charN {q : Nat} (hq : q < 65536) : narrow .char (.int (nI q)) = .int (nI q) ∧ fits .char (.int (nI q)) = true := by
  constructor
  · have e : (nI q).toUInt32.toUInt16.toUInt32.toInt32 = nI q := by
      apply Int32.toBitVec_inj.mp
      apply BitVec.eq_of_toNat_eq
      show (nI q).toUInt32.toUInt16.toUInt32.toNat = q % 2 ^ 32
      rw [UInt16.toNat_toUInt32, UInt32.toNat_toUInt16, show (nI q).toUInt32.toNat = q % 2 ^ 32 from rfl]
      omega
    exact congrArg Value.int e
  · have a : (0 : Int32) ≤ nI q := nI_pos' (by omega)
    have b : nI q ≤ 65535 := nI_le (b := 65535) (by omega) (by decide)
    show (decide ((0 : Int32) ≤ nI q) && decide (nI q ≤ 65535)) = true
    rw [decide_eq_true a, decide_eq_true b]
    rfl
theorem pk_char (x : Int32) : (x.toUInt32 % 65536).toInt32 = nI (x.toBitVec.toNat % 65536) := by
  apply Int32.toBitVec_inj.mp
  apply BitVec.eq_of_toNat_eq
  rw [pk_tn (by omega)]
  show (x.toUInt32 % 65536).toNat = _
  rw [UInt32.toNat_mod]
  rfl
theorem pk_nc (x : Int32) : narrow .char (.int (x.toUInt32 % 65536).toInt32) = .int (x.toUInt32 % 65536).toInt32 := by
  rw [pk_char]
  exact (pk_charN (Nat.mod_lt _ (by decide))).1
theorem pk_fc (x : Int32) : fits .char (.int (x.toUInt32 % 65536).toInt32) = true := by
  rw [pk_char]
  exact (pk_charN (Nat.mod_lt _ (by decide))).2
theorem pk_vb (z : Int32) : vp_nar .byte z.toInt8.toInt32 = z.toInt8.toInt32 := by rw [vp_nar_byte]; simp
theorem pk_vs (z : Int32) : vp_nar .short z.toInt16.toInt32 = z.toInt16.toInt32 := by rw [vp_nar_short]; simp
theorem pk_vc (z : Int32) : vp_nar .char (z.toUInt32 % 65536).toInt32 = (z.toUInt32 % 65536).toInt32 := Value.int.inj (pk_nc z)
theorem pk_lT {n : Nat} (h : n < 2 ^ 63) : (lN n).toInt = (n : Int) := lg_ofNat_toInt h
theorem pk_lLT {a b : Nat} (ha : a < 2 ^ 63) (hb : b < 2 ^ 63) : lN a < lN b ↔ a < b := by
  rw [Int64.lt_iff_toInt_lt, pk_lT ha, pk_lT hb]; omega
theorem pk_lLE {a b : Nat} (ha : a < 2 ^ 63) (hb : b < 2 ^ 63) : lN a ≤ lN b ↔ a ≤ b := by
  rw [Int64.le_iff_toInt_le, pk_lT ha, pk_lT hb]; omega
theorem pk_lEQ {a b : Nat} (ha : a < 2 ^ 63) (hb : b < 2 ^ 63) : lN a = lN b ↔ a = b := by
  rw [← Int64.toInt_inj, pk_lT ha, pk_lT hb]; omega
theorem pk_lOf {x : Int64} (h : ¬ x < 0) : ∃ k : Nat, k < 2 ^ 63 ∧ x = lN k := by
  rw [Int64.lt_iff_toInt_lt] at h
  have h0 : (0 : Int64).toInt = 0 := by decide
  have hx := Int64.toInt_lt x
  refine ⟨x.toInt.toNat, by omega, Int64.toInt_inj.mp ?_⟩
  rw [pk_lT (by omega)]
  omega
theorem pk_lDiv {a b : Nat} (ha : a < 2 ^ 63) (h0 : 0 < b) (hb : b < 2 ^ 63) : lN a / lN b = lN (a / b) := by
  apply Int64.toInt_inj.mp
  rw [lg_ldiv_nonneg (by rw [pk_lT ha]; omega) (by rw [pk_lT hb]; omega), pk_lT ha, pk_lT hb, pk_lT (Nat.lt_of_le_of_lt (Nat.div_le_self a b) ha)]
  rfl
theorem pk_lRem {a b : Nat} (ha : a < 2 ^ 63) (h0 : 0 < b) (hb : b < 2 ^ 63) : lN a - lN a / lN b * lN b = lN (a % b) := by
  rw [pk_lDiv ha h0 hb, lN_mul, lN_sub (Nat.div_mul_le_self a b)]
  exact congrArg lN (by have := Nat.div_add_mod' a b; omega)
theorem pk_loop {σ : Type} (W : Nat → Nat → σ → Prop) (I : Nat → σ → Prop) (e i0 : Nat) (s : σ) (hi : i0 ≤ e) (h0 : I i0 s) (hx : ∀ n s, I e s → W (n + 1) e s)
    (hs : ∀ n i s, i < e → I i s → (∀ s', I (i + 1) s' → W n (i + 1) s') → W (n + 1) i s) : ∃ n, W n i0 s :=
  ⟨e + 1, loop_i W I e hx hs (e + 1) i0 s hi (by omega) h0⟩
theorem pk_loopD {σ : Type} (W : Nat → Nat → σ → Prop) (I : Nat → σ → Prop) (hx : ∀ n s, I 0 s → W (n + 1) 0 s)
    (hs : ∀ n i s, I (i + 1) s → (∀ s', I i s' → W n i s') → W (n + 1) (i + 1) s) : ∀ (e : Nat) (s : σ), I e s → W (e + 1) e s := by
  intro e
  induction e with
  | zero => exact fun s h => hx 0 s h
  | succ e ih => exact fun s h => hs (e + 1) e s h (fun s' h' => ih s' h')
theorem lp1 {A1 : Type} (W : Nat → A1 → Prop) (I : A1 → Prop) (μ : A1 → Nat) (hs : ∀ (n : Nat) (a1 : A1), I a1 → (∀ (b1 : A1), I b1 → μ b1 < μ a1 → W n b1) → W (n + 1) a1) (a1 : A1) (h : I a1) : ∃ n, W n a1 :=
  loop_m (σ := A1) (fun n s => W n s) (fun s => I s) (fun s => μ s) (fun n s hI hk => hs n s hI (fun b1 h9 hm => hk b1 h9 hm)) a1 h
theorem lp2 {A1 A2 : Type} (W : Nat → A1 → A2 → Prop) (I : A1 → A2 → Prop) (μ : A1 → A2 → Nat) (hs : ∀ (n : Nat) (a1 : A1) (a2 : A2), I a1 a2 → (∀ (b1 : A1) (b2 : A2), I b1 b2 → μ b1 b2 < μ a1 a2 → W n b1 b2) → W (n + 1) a1 a2) (a1 : A1) (a2 : A2) (h : I a1 a2) : ∃ n, W n a1 a2 :=
  loop_m (σ := A1 × A2) (fun n s => W n s.1 s.2) (fun s => I s.1 s.2) (fun s => μ s.1 s.2) (fun n s hI hk => hs n s.1 s.2 hI (fun b1 b2 h9 hm => hk (b1, b2) h9 hm)) (a1, a2) h
theorem lp3 {A1 A2 A3 : Type} (W : Nat → A1 → A2 → A3 → Prop) (I : A1 → A2 → A3 → Prop) (μ : A1 → A2 → A3 → Nat) (hs : ∀ (n : Nat) (a1 : A1) (a2 : A2) (a3 : A3), I a1 a2 a3 → (∀ (b1 : A1) (b2 : A2) (b3 : A3), I b1 b2 b3 → μ b1 b2 b3 < μ a1 a2 a3 → W n b1 b2 b3) → W (n + 1) a1 a2 a3) (a1 : A1) (a2 : A2) (a3 : A3) (h : I a1 a2 a3) : ∃ n, W n a1 a2 a3 :=
  loop_m (σ := A1 × A2 × A3) (fun n s => W n s.1 s.2.1 s.2.2) (fun s => I s.1 s.2.1 s.2.2) (fun s => μ s.1 s.2.1 s.2.2) (fun n s hI hk => hs n s.1 s.2.1 s.2.2 hI (fun b1 b2 b3 h9 hm => hk (b1, b2, b3) h9 hm)) (a1, a2, a3) h
theorem lp4 {A1 A2 A3 A4 : Type} (W : Nat → A1 → A2 → A3 → A4 → Prop) (I : A1 → A2 → A3 → A4 → Prop) (μ : A1 → A2 → A3 → A4 → Nat) (hs : ∀ (n : Nat) (a1 : A1) (a2 : A2) (a3 : A3) (a4 : A4), I a1 a2 a3 a4 → (∀ (b1 : A1) (b2 : A2) (b3 : A3) (b4 : A4), I b1 b2 b3 b4 → μ b1 b2 b3 b4 < μ a1 a2 a3 a4 → W n b1 b2 b3 b4) → W (n + 1) a1 a2 a3 a4) (a1 : A1) (a2 : A2) (a3 : A3) (a4 : A4) (h : I a1 a2 a3 a4) : ∃ n, W n a1 a2 a3 a4 :=
  loop_m (σ := A1 × A2 × A3 × A4) (fun n s => W n s.1 s.2.1 s.2.2.1 s.2.2.2) (fun s => I s.1 s.2.1 s.2.2.1 s.2.2.2) (fun s => μ s.1 s.2.1 s.2.2.1 s.2.2.2) (fun n s hI hk => hs n s.1 s.2.1 s.2.2.1 s.2.2.2 hI (fun b1 b2 b3 b4 h9 hm => hk (b1, b2, b3, b4) h9 hm)) (a1, a2, a3, a4) h
theorem lp5 {A1 A2 A3 A4 A5 : Type} (W : Nat → A1 → A2 → A3 → A4 → A5 → Prop) (I : A1 → A2 → A3 → A4 → A5 → Prop) (μ : A1 → A2 → A3 → A4 → A5 → Nat) (hs : ∀ (n : Nat) (a1 : A1) (a2 : A2) (a3 : A3) (a4 : A4) (a5 : A5), I a1 a2 a3 a4 a5 → (∀ (b1 : A1) (b2 : A2) (b3 : A3) (b4 : A4) (b5 : A5), I b1 b2 b3 b4 b5 → μ b1 b2 b3 b4 b5 < μ a1 a2 a3 a4 a5 → W n b1 b2 b3 b4 b5) → W (n + 1) a1 a2 a3 a4 a5) (a1 : A1) (a2 : A2) (a3 : A3) (a4 : A4) (a5 : A5) (h : I a1 a2 a3 a4 a5) : ∃ n, W n a1 a2 a3 a4 a5 :=
  loop_m (σ := A1 × A2 × A3 × A4 × A5) (fun n s => W n s.1 s.2.1 s.2.2.1 s.2.2.2.1 s.2.2.2.2) (fun s => I s.1 s.2.1 s.2.2.1 s.2.2.2.1 s.2.2.2.2) (fun s => μ s.1 s.2.1 s.2.2.1 s.2.2.2.1 s.2.2.2.2) (fun n s hI hk => hs n s.1 s.2.1 s.2.2.1 s.2.2.2.1 s.2.2.2.2 hI (fun b1 b2 b3 b4 b5 h9 hm => hk (b1, b2, b3, b4, b5) h9 hm)) (a1, a2, a3, a4, a5) h
theorem lp6 {A1 A2 A3 A4 A5 A6 : Type} (W : Nat → A1 → A2 → A3 → A4 → A5 → A6 → Prop) (I : A1 → A2 → A3 → A4 → A5 → A6 → Prop) (μ : A1 → A2 → A3 → A4 → A5 → A6 → Nat) (hs : ∀ (n : Nat) (a1 : A1) (a2 : A2) (a3 : A3) (a4 : A4) (a5 : A5) (a6 : A6), I a1 a2 a3 a4 a5 a6 → (∀ (b1 : A1) (b2 : A2) (b3 : A3) (b4 : A4) (b5 : A5) (b6 : A6), I b1 b2 b3 b4 b5 b6 → μ b1 b2 b3 b4 b5 b6 < μ a1 a2 a3 a4 a5 a6 → W n b1 b2 b3 b4 b5 b6) → W (n + 1) a1 a2 a3 a4 a5 a6) (a1 : A1) (a2 : A2) (a3 : A3) (a4 : A4) (a5 : A5) (a6 : A6) (h : I a1 a2 a3 a4 a5 a6) : ∃ n, W n a1 a2 a3 a4 a5 a6 :=
  loop_m (σ := A1 × A2 × A3 × A4 × A5 × A6) (fun n s => W n s.1 s.2.1 s.2.2.1 s.2.2.2.1 s.2.2.2.2.1 s.2.2.2.2.2) (fun s => I s.1 s.2.1 s.2.2.1 s.2.2.2.1 s.2.2.2.2.1 s.2.2.2.2.2) (fun s => μ s.1 s.2.1 s.2.2.1 s.2.2.2.1 s.2.2.2.2.1 s.2.2.2.2.2) (fun n s hI hk => hs n s.1 s.2.1 s.2.2.1 s.2.2.2.1 s.2.2.2.2.1 s.2.2.2.2.2 hI (fun b1 b2 b3 b4 b5 b6 h9 hm => hk (b1, b2, b3, b4, b5, b6) h9 hm)) (a1, a2, a3, a4, a5, a6) h
theorem lp7 {A1 A2 A3 A4 A5 A6 A7 : Type} (W : Nat → A1 → A2 → A3 → A4 → A5 → A6 → A7 → Prop) (I : A1 → A2 → A3 → A4 → A5 → A6 → A7 → Prop) (μ : A1 → A2 → A3 → A4 → A5 → A6 → A7 → Nat) (hs : ∀ (n : Nat) (a1 : A1) (a2 : A2) (a3 : A3) (a4 : A4) (a5 : A5) (a6 : A6) (a7 : A7), I a1 a2 a3 a4 a5 a6 a7 → (∀ (b1 : A1) (b2 : A2) (b3 : A3) (b4 : A4) (b5 : A5) (b6 : A6) (b7 : A7), I b1 b2 b3 b4 b5 b6 b7 → μ b1 b2 b3 b4 b5 b6 b7 < μ a1 a2 a3 a4 a5 a6 a7 → W n b1 b2 b3 b4 b5 b6 b7) → W (n + 1) a1 a2 a3 a4 a5 a6 a7) (a1 : A1) (a2 : A2) (a3 : A3) (a4 : A4) (a5 : A5) (a6 : A6) (a7 : A7) (h : I a1 a2 a3 a4 a5 a6 a7) : ∃ n, W n a1 a2 a3 a4 a5 a6 a7 :=
  loop_m (σ := A1 × A2 × A3 × A4 × A5 × A6 × A7) (fun n s => W n s.1 s.2.1 s.2.2.1 s.2.2.2.1 s.2.2.2.2.1 s.2.2.2.2.2.1 s.2.2.2.2.2.2) (fun s => I s.1 s.2.1 s.2.2.1 s.2.2.2.1 s.2.2.2.2.1 s.2.2.2.2.2.1 s.2.2.2.2.2.2) (fun s => μ s.1 s.2.1 s.2.2.1 s.2.2.2.1 s.2.2.2.2.1 s.2.2.2.2.2.1 s.2.2.2.2.2.2) (fun n s hI hk => hs n s.1 s.2.1 s.2.2.1 s.2.2.2.1 s.2.2.2.2.1 s.2.2.2.2.2.1 s.2.2.2.2.2.2 hI (fun b1 b2 b3 b4 b5 b6 b7 h9 hm => hk (b1, b2, b3, b4, b5, b6, b7) h9 hm)) (a1, a2, a3, a4, a5, a6, a7) h
theorem lp8 {A1 A2 A3 A4 A5 A6 A7 A8 : Type} (W : Nat → A1 → A2 → A3 → A4 → A5 → A6 → A7 → A8 → Prop) (I : A1 → A2 → A3 → A4 → A5 → A6 → A7 → A8 → Prop) (μ : A1 → A2 → A3 → A4 → A5 → A6 → A7 → A8 → Nat) (hs : ∀ (n : Nat) (a1 : A1) (a2 : A2) (a3 : A3) (a4 : A4) (a5 : A5) (a6 : A6) (a7 : A7) (a8 : A8), I a1 a2 a3 a4 a5 a6 a7 a8 → (∀ (b1 : A1) (b2 : A2) (b3 : A3) (b4 : A4) (b5 : A5) (b6 : A6) (b7 : A7) (b8 : A8), I b1 b2 b3 b4 b5 b6 b7 b8 → μ b1 b2 b3 b4 b5 b6 b7 b8 < μ a1 a2 a3 a4 a5 a6 a7 a8 → W n b1 b2 b3 b4 b5 b6 b7 b8) → W (n + 1) a1 a2 a3 a4 a5 a6 a7 a8) (a1 : A1) (a2 : A2) (a3 : A3) (a4 : A4) (a5 : A5) (a6 : A6) (a7 : A7) (a8 : A8) (h : I a1 a2 a3 a4 a5 a6 a7 a8) : ∃ n, W n a1 a2 a3 a4 a5 a6 a7 a8 :=
  loop_m (σ := A1 × A2 × A3 × A4 × A5 × A6 × A7 × A8) (fun n s => W n s.1 s.2.1 s.2.2.1 s.2.2.2.1 s.2.2.2.2.1 s.2.2.2.2.2.1 s.2.2.2.2.2.2.1 s.2.2.2.2.2.2.2) (fun s => I s.1 s.2.1 s.2.2.1 s.2.2.2.1 s.2.2.2.2.1 s.2.2.2.2.2.1 s.2.2.2.2.2.2.1 s.2.2.2.2.2.2.2) (fun s => μ s.1 s.2.1 s.2.2.1 s.2.2.2.1 s.2.2.2.2.1 s.2.2.2.2.2.1 s.2.2.2.2.2.2.1 s.2.2.2.2.2.2.2) (fun n s hI hk => hs n s.1 s.2.1 s.2.2.1 s.2.2.2.1 s.2.2.2.2.1 s.2.2.2.2.2.1 s.2.2.2.2.2.2.1 s.2.2.2.2.2.2.2 hI (fun b1 b2 b3 b4 b5 b6 b7 b8 h9 hm => hk (b1, b2, b3, b4, b5, b6, b7, b8) h9 hm)) (a1, a2, a3, a4, a5, a6, a7, a8) h
theorem lp9 {A1 A2 A3 A4 A5 A6 A7 A8 A9 : Type} (W : Nat → A1 → A2 → A3 → A4 → A5 → A6 → A7 → A8 → A9 → Prop) (I : A1 → A2 → A3 → A4 → A5 → A6 → A7 → A8 → A9 → Prop) (μ : A1 → A2 → A3 → A4 → A5 → A6 → A7 → A8 → A9 → Nat) (hs : ∀ (n : Nat) (a1 : A1) (a2 : A2) (a3 : A3) (a4 : A4) (a5 : A5) (a6 : A6) (a7 : A7) (a8 : A8) (a9 : A9), I a1 a2 a3 a4 a5 a6 a7 a8 a9 → (∀ (b1 : A1) (b2 : A2) (b3 : A3) (b4 : A4) (b5 : A5) (b6 : A6) (b7 : A7) (b8 : A8) (b9 : A9), I b1 b2 b3 b4 b5 b6 b7 b8 b9 → μ b1 b2 b3 b4 b5 b6 b7 b8 b9 < μ a1 a2 a3 a4 a5 a6 a7 a8 a9 → W n b1 b2 b3 b4 b5 b6 b7 b8 b9) → W (n + 1) a1 a2 a3 a4 a5 a6 a7 a8 a9) (a1 : A1) (a2 : A2) (a3 : A3) (a4 : A4) (a5 : A5) (a6 : A6) (a7 : A7) (a8 : A8) (a9 : A9) (h : I a1 a2 a3 a4 a5 a6 a7 a8 a9) : ∃ n, W n a1 a2 a3 a4 a5 a6 a7 a8 a9 :=
  loop_m (σ := A1 × A2 × A3 × A4 × A5 × A6 × A7 × A8 × A9) (fun n s => W n s.1 s.2.1 s.2.2.1 s.2.2.2.1 s.2.2.2.2.1 s.2.2.2.2.2.1 s.2.2.2.2.2.2.1 s.2.2.2.2.2.2.2.1 s.2.2.2.2.2.2.2.2) (fun s => I s.1 s.2.1 s.2.2.1 s.2.2.2.1 s.2.2.2.2.1 s.2.2.2.2.2.1 s.2.2.2.2.2.2.1 s.2.2.2.2.2.2.2.1 s.2.2.2.2.2.2.2.2) (fun s => μ s.1 s.2.1 s.2.2.1 s.2.2.2.1 s.2.2.2.2.1 s.2.2.2.2.2.1 s.2.2.2.2.2.2.1 s.2.2.2.2.2.2.2.1 s.2.2.2.2.2.2.2.2) (fun n s hI hk => hs n s.1 s.2.1 s.2.2.1 s.2.2.2.1 s.2.2.2.2.1 s.2.2.2.2.2.1 s.2.2.2.2.2.2.1 s.2.2.2.2.2.2.2.1 s.2.2.2.2.2.2.2.2 hI (fun b1 b2 b3 b4 b5 b6 b7 b8 b9 h9 hm => hk (b1, b2, b3, b4, b5, b6, b7, b8, b9) h9 hm)) (a1, a2, a3, a4, a5, a6, a7, a8, a9) h
theorem lp10 {A1 A2 A3 A4 A5 A6 A7 A8 A9 A10 : Type} (W : Nat → A1 → A2 → A3 → A4 → A5 → A6 → A7 → A8 → A9 → A10 → Prop) (I : A1 → A2 → A3 → A4 → A5 → A6 → A7 → A8 → A9 → A10 → Prop) (μ : A1 → A2 → A3 → A4 → A5 → A6 → A7 → A8 → A9 → A10 → Nat) (hs : ∀ (n : Nat) (a1 : A1) (a2 : A2) (a3 : A3) (a4 : A4) (a5 : A5) (a6 : A6) (a7 : A7) (a8 : A8) (a9 : A9) (a10 : A10), I a1 a2 a3 a4 a5 a6 a7 a8 a9 a10 → (∀ (b1 : A1) (b2 : A2) (b3 : A3) (b4 : A4) (b5 : A5) (b6 : A6) (b7 : A7) (b8 : A8) (b9 : A9) (b10 : A10), I b1 b2 b3 b4 b5 b6 b7 b8 b9 b10 → μ b1 b2 b3 b4 b5 b6 b7 b8 b9 b10 < μ a1 a2 a3 a4 a5 a6 a7 a8 a9 a10 → W n b1 b2 b3 b4 b5 b6 b7 b8 b9 b10) → W (n + 1) a1 a2 a3 a4 a5 a6 a7 a8 a9 a10) (a1 : A1) (a2 : A2) (a3 : A3) (a4 : A4) (a5 : A5) (a6 : A6) (a7 : A7) (a8 : A8) (a9 : A9) (a10 : A10) (h : I a1 a2 a3 a4 a5 a6 a7 a8 a9 a10) : ∃ n, W n a1 a2 a3 a4 a5 a6 a7 a8 a9 a10 :=
  loop_m (σ := A1 × A2 × A3 × A4 × A5 × A6 × A7 × A8 × A9 × A10) (fun n s => W n s.1 s.2.1 s.2.2.1 s.2.2.2.1 s.2.2.2.2.1 s.2.2.2.2.2.1 s.2.2.2.2.2.2.1 s.2.2.2.2.2.2.2.1 s.2.2.2.2.2.2.2.2.1 s.2.2.2.2.2.2.2.2.2) (fun s => I s.1 s.2.1 s.2.2.1 s.2.2.2.1 s.2.2.2.2.1 s.2.2.2.2.2.1 s.2.2.2.2.2.2.1 s.2.2.2.2.2.2.2.1 s.2.2.2.2.2.2.2.2.1 s.2.2.2.2.2.2.2.2.2) (fun s => μ s.1 s.2.1 s.2.2.1 s.2.2.2.1 s.2.2.2.2.1 s.2.2.2.2.2.1 s.2.2.2.2.2.2.1 s.2.2.2.2.2.2.2.1 s.2.2.2.2.2.2.2.2.1 s.2.2.2.2.2.2.2.2.2) (fun n s hI hk => hs n s.1 s.2.1 s.2.2.1 s.2.2.2.1 s.2.2.2.2.1 s.2.2.2.2.2.1 s.2.2.2.2.2.2.1 s.2.2.2.2.2.2.2.1 s.2.2.2.2.2.2.2.2.1 s.2.2.2.2.2.2.2.2.2 hI (fun b1 b2 b3 b4 b5 b6 b7 b8 b9 b10 h9 hm => hk (b1, b2, b3, b4, b5, b6, b7, b8, b9, b10) h9 hm)) (a1, a2, a3, a4, a5, a6, a7, a8, a9, a10) h
theorem lp11 {A1 A2 A3 A4 A5 A6 A7 A8 A9 A10 A11 : Type} (W : Nat → A1 → A2 → A3 → A4 → A5 → A6 → A7 → A8 → A9 → A10 → A11 → Prop) (I : A1 → A2 → A3 → A4 → A5 → A6 → A7 → A8 → A9 → A10 → A11 → Prop) (μ : A1 → A2 → A3 → A4 → A5 → A6 → A7 → A8 → A9 → A10 → A11 → Nat) (hs : ∀ (n : Nat) (a1 : A1) (a2 : A2) (a3 : A3) (a4 : A4) (a5 : A5) (a6 : A6) (a7 : A7) (a8 : A8) (a9 : A9) (a10 : A10) (a11 : A11), I a1 a2 a3 a4 a5 a6 a7 a8 a9 a10 a11 → (∀ (b1 : A1) (b2 : A2) (b3 : A3) (b4 : A4) (b5 : A5) (b6 : A6) (b7 : A7) (b8 : A8) (b9 : A9) (b10 : A10) (b11 : A11), I b1 b2 b3 b4 b5 b6 b7 b8 b9 b10 b11 → μ b1 b2 b3 b4 b5 b6 b7 b8 b9 b10 b11 < μ a1 a2 a3 a4 a5 a6 a7 a8 a9 a10 a11 → W n b1 b2 b3 b4 b5 b6 b7 b8 b9 b10 b11) → W (n + 1) a1 a2 a3 a4 a5 a6 a7 a8 a9 a10 a11) (a1 : A1) (a2 : A2) (a3 : A3) (a4 : A4) (a5 : A5) (a6 : A6) (a7 : A7) (a8 : A8) (a9 : A9) (a10 : A10) (a11 : A11) (h : I a1 a2 a3 a4 a5 a6 a7 a8 a9 a10 a11) : ∃ n, W n a1 a2 a3 a4 a5 a6 a7 a8 a9 a10 a11 :=
  loop_m (σ := A1 × A2 × A3 × A4 × A5 × A6 × A7 × A8 × A9 × A10 × A11) (fun n s => W n s.1 s.2.1 s.2.2.1 s.2.2.2.1 s.2.2.2.2.1 s.2.2.2.2.2.1 s.2.2.2.2.2.2.1 s.2.2.2.2.2.2.2.1 s.2.2.2.2.2.2.2.2.1 s.2.2.2.2.2.2.2.2.2.1 s.2.2.2.2.2.2.2.2.2.2) (fun s => I s.1 s.2.1 s.2.2.1 s.2.2.2.1 s.2.2.2.2.1 s.2.2.2.2.2.1 s.2.2.2.2.2.2.1 s.2.2.2.2.2.2.2.1 s.2.2.2.2.2.2.2.2.1 s.2.2.2.2.2.2.2.2.2.1 s.2.2.2.2.2.2.2.2.2.2) (fun s => μ s.1 s.2.1 s.2.2.1 s.2.2.2.1 s.2.2.2.2.1 s.2.2.2.2.2.1 s.2.2.2.2.2.2.1 s.2.2.2.2.2.2.2.1 s.2.2.2.2.2.2.2.2.1 s.2.2.2.2.2.2.2.2.2.1 s.2.2.2.2.2.2.2.2.2.2) (fun n s hI hk => hs n s.1 s.2.1 s.2.2.1 s.2.2.2.1 s.2.2.2.2.1 s.2.2.2.2.2.1 s.2.2.2.2.2.2.1 s.2.2.2.2.2.2.2.1 s.2.2.2.2.2.2.2.2.1 s.2.2.2.2.2.2.2.2.2.1 s.2.2.2.2.2.2.2.2.2.2 hI (fun b1 b2 b3 b4 b5 b6 b7 b8 b9 b10 b11 h9 hm => hk (b1, b2, b3, b4, b5, b6, b7, b8, b9, b10, b11) h9 hm)) (a1, a2, a3, a4, a5, a6, a7, a8, a9, a10, a11) h
theorem lp12 {A1 A2 A3 A4 A5 A6 A7 A8 A9 A10 A11 A12 : Type} (W : Nat → A1 → A2 → A3 → A4 → A5 → A6 → A7 → A8 → A9 → A10 → A11 → A12 → Prop) (I : A1 → A2 → A3 → A4 → A5 → A6 → A7 → A8 → A9 → A10 → A11 → A12 → Prop) (μ : A1 → A2 → A3 → A4 → A5 → A6 → A7 → A8 → A9 → A10 → A11 → A12 → Nat) (hs : ∀ (n : Nat) (a1 : A1) (a2 : A2) (a3 : A3) (a4 : A4) (a5 : A5) (a6 : A6) (a7 : A7) (a8 : A8) (a9 : A9) (a10 : A10) (a11 : A11) (a12 : A12), I a1 a2 a3 a4 a5 a6 a7 a8 a9 a10 a11 a12 → (∀ (b1 : A1) (b2 : A2) (b3 : A3) (b4 : A4) (b5 : A5) (b6 : A6) (b7 : A7) (b8 : A8) (b9 : A9) (b10 : A10) (b11 : A11) (b12 : A12), I b1 b2 b3 b4 b5 b6 b7 b8 b9 b10 b11 b12 → μ b1 b2 b3 b4 b5 b6 b7 b8 b9 b10 b11 b12 < μ a1 a2 a3 a4 a5 a6 a7 a8 a9 a10 a11 a12 → W n b1 b2 b3 b4 b5 b6 b7 b8 b9 b10 b11 b12) → W (n + 1) a1 a2 a3 a4 a5 a6 a7 a8 a9 a10 a11 a12) (a1 : A1) (a2 : A2) (a3 : A3) (a4 : A4) (a5 : A5) (a6 : A6) (a7 : A7) (a8 : A8) (a9 : A9) (a10 : A10) (a11 : A11) (a12 : A12) (h : I a1 a2 a3 a4 a5 a6 a7 a8 a9 a10 a11 a12) : ∃ n, W n a1 a2 a3 a4 a5 a6 a7 a8 a9 a10 a11 a12 :=
  loop_m (σ := A1 × A2 × A3 × A4 × A5 × A6 × A7 × A8 × A9 × A10 × A11 × A12) (fun n s => W n s.1 s.2.1 s.2.2.1 s.2.2.2.1 s.2.2.2.2.1 s.2.2.2.2.2.1 s.2.2.2.2.2.2.1 s.2.2.2.2.2.2.2.1 s.2.2.2.2.2.2.2.2.1 s.2.2.2.2.2.2.2.2.2.1 s.2.2.2.2.2.2.2.2.2.2.1 s.2.2.2.2.2.2.2.2.2.2.2) (fun s => I s.1 s.2.1 s.2.2.1 s.2.2.2.1 s.2.2.2.2.1 s.2.2.2.2.2.1 s.2.2.2.2.2.2.1 s.2.2.2.2.2.2.2.1 s.2.2.2.2.2.2.2.2.1 s.2.2.2.2.2.2.2.2.2.1 s.2.2.2.2.2.2.2.2.2.2.1 s.2.2.2.2.2.2.2.2.2.2.2) (fun s => μ s.1 s.2.1 s.2.2.1 s.2.2.2.1 s.2.2.2.2.1 s.2.2.2.2.2.1 s.2.2.2.2.2.2.1 s.2.2.2.2.2.2.2.1 s.2.2.2.2.2.2.2.2.1 s.2.2.2.2.2.2.2.2.2.1 s.2.2.2.2.2.2.2.2.2.2.1 s.2.2.2.2.2.2.2.2.2.2.2) (fun n s hI hk => hs n s.1 s.2.1 s.2.2.1 s.2.2.2.1 s.2.2.2.2.1 s.2.2.2.2.2.1 s.2.2.2.2.2.2.1 s.2.2.2.2.2.2.2.1 s.2.2.2.2.2.2.2.2.1 s.2.2.2.2.2.2.2.2.2.1 s.2.2.2.2.2.2.2.2.2.2.1 s.2.2.2.2.2.2.2.2.2.2.2 hI (fun b1 b2 b3 b4 b5 b6 b7 b8 b9 b10 b11 b12 h9 hm => hk (b1, b2, b3, b4, b5, b6, b7, b8, b9, b10, b11, b12) h9 hm)) (a1, a2, a3, a4, a5, a6, a7, a8, a9, a10, a11, a12) h
theorem lp13 {A1 A2 A3 A4 A5 A6 A7 A8 A9 A10 A11 A12 A13 : Type} (W : Nat → A1 → A2 → A3 → A4 → A5 → A6 → A7 → A8 → A9 → A10 → A11 → A12 → A13 → Prop) (I : A1 → A2 → A3 → A4 → A5 → A6 → A7 → A8 → A9 → A10 → A11 → A12 → A13 → Prop) (μ : A1 → A2 → A3 → A4 → A5 → A6 → A7 → A8 → A9 → A10 → A11 → A12 → A13 → Nat) (hs : ∀ (n : Nat) (a1 : A1) (a2 : A2) (a3 : A3) (a4 : A4) (a5 : A5) (a6 : A6) (a7 : A7) (a8 : A8) (a9 : A9) (a10 : A10) (a11 : A11) (a12 : A12) (a13 : A13), I a1 a2 a3 a4 a5 a6 a7 a8 a9 a10 a11 a12 a13 → (∀ (b1 : A1) (b2 : A2) (b3 : A3) (b4 : A4) (b5 : A5) (b6 : A6) (b7 : A7) (b8 : A8) (b9 : A9) (b10 : A10) (b11 : A11) (b12 : A12) (b13 : A13), I b1 b2 b3 b4 b5 b6 b7 b8 b9 b10 b11 b12 b13 → μ b1 b2 b3 b4 b5 b6 b7 b8 b9 b10 b11 b12 b13 < μ a1 a2 a3 a4 a5 a6 a7 a8 a9 a10 a11 a12 a13 → W n b1 b2 b3 b4 b5 b6 b7 b8 b9 b10 b11 b12 b13) → W (n + 1) a1 a2 a3 a4 a5 a6 a7 a8 a9 a10 a11 a12 a13) (a1 : A1) (a2 : A2) (a3 : A3) (a4 : A4) (a5 : A5) (a6 : A6) (a7 : A7) (a8 : A8) (a9 : A9) (a10 : A10) (a11 : A11) (a12 : A12) (a13 : A13) (h : I a1 a2 a3 a4 a5 a6 a7 a8 a9 a10 a11 a12 a13) : ∃ n, W n a1 a2 a3 a4 a5 a6 a7 a8 a9 a10 a11 a12 a13 :=
  loop_m (σ := A1 × A2 × A3 × A4 × A5 × A6 × A7 × A8 × A9 × A10 × A11 × A12 × A13) (fun n s => W n s.1 s.2.1 s.2.2.1 s.2.2.2.1 s.2.2.2.2.1 s.2.2.2.2.2.1 s.2.2.2.2.2.2.1 s.2.2.2.2.2.2.2.1 s.2.2.2.2.2.2.2.2.1 s.2.2.2.2.2.2.2.2.2.1 s.2.2.2.2.2.2.2.2.2.2.1 s.2.2.2.2.2.2.2.2.2.2.2.1 s.2.2.2.2.2.2.2.2.2.2.2.2) (fun s => I s.1 s.2.1 s.2.2.1 s.2.2.2.1 s.2.2.2.2.1 s.2.2.2.2.2.1 s.2.2.2.2.2.2.1 s.2.2.2.2.2.2.2.1 s.2.2.2.2.2.2.2.2.1 s.2.2.2.2.2.2.2.2.2.1 s.2.2.2.2.2.2.2.2.2.2.1 s.2.2.2.2.2.2.2.2.2.2.2.1 s.2.2.2.2.2.2.2.2.2.2.2.2) (fun s => μ s.1 s.2.1 s.2.2.1 s.2.2.2.1 s.2.2.2.2.1 s.2.2.2.2.2.1 s.2.2.2.2.2.2.1 s.2.2.2.2.2.2.2.1 s.2.2.2.2.2.2.2.2.1 s.2.2.2.2.2.2.2.2.2.1 s.2.2.2.2.2.2.2.2.2.2.1 s.2.2.2.2.2.2.2.2.2.2.2.1 s.2.2.2.2.2.2.2.2.2.2.2.2) (fun n s hI hk => hs n s.1 s.2.1 s.2.2.1 s.2.2.2.1 s.2.2.2.2.1 s.2.2.2.2.2.1 s.2.2.2.2.2.2.1 s.2.2.2.2.2.2.2.1 s.2.2.2.2.2.2.2.2.1 s.2.2.2.2.2.2.2.2.2.1 s.2.2.2.2.2.2.2.2.2.2.1 s.2.2.2.2.2.2.2.2.2.2.2.1 s.2.2.2.2.2.2.2.2.2.2.2.2 hI (fun b1 b2 b3 b4 b5 b6 b7 b8 b9 b10 b11 b12 b13 h9 hm => hk (b1, b2, b3, b4, b5, b6, b7, b8, b9, b10, b11, b12, b13) h9 hm)) (a1, a2, a3, a4, a5, a6, a7, a8, a9, a10, a11, a12, a13) h
theorem lp14 {A1 A2 A3 A4 A5 A6 A7 A8 A9 A10 A11 A12 A13 A14 : Type} (W : Nat → A1 → A2 → A3 → A4 → A5 → A6 → A7 → A8 → A9 → A10 → A11 → A12 → A13 → A14 → Prop) (I : A1 → A2 → A3 → A4 → A5 → A6 → A7 → A8 → A9 → A10 → A11 → A12 → A13 → A14 → Prop) (μ : A1 → A2 → A3 → A4 → A5 → A6 → A7 → A8 → A9 → A10 → A11 → A12 → A13 → A14 → Nat) (hs : ∀ (n : Nat) (a1 : A1) (a2 : A2) (a3 : A3) (a4 : A4) (a5 : A5) (a6 : A6) (a7 : A7) (a8 : A8) (a9 : A9) (a10 : A10) (a11 : A11) (a12 : A12) (a13 : A13) (a14 : A14), I a1 a2 a3 a4 a5 a6 a7 a8 a9 a10 a11 a12 a13 a14 → (∀ (b1 : A1) (b2 : A2) (b3 : A3) (b4 : A4) (b5 : A5) (b6 : A6) (b7 : A7) (b8 : A8) (b9 : A9) (b10 : A10) (b11 : A11) (b12 : A12) (b13 : A13) (b14 : A14), I b1 b2 b3 b4 b5 b6 b7 b8 b9 b10 b11 b12 b13 b14 → μ b1 b2 b3 b4 b5 b6 b7 b8 b9 b10 b11 b12 b13 b14 < μ a1 a2 a3 a4 a5 a6 a7 a8 a9 a10 a11 a12 a13 a14 → W n b1 b2 b3 b4 b5 b6 b7 b8 b9 b10 b11 b12 b13 b14) → W (n + 1) a1 a2 a3 a4 a5 a6 a7 a8 a9 a10 a11 a12 a13 a14) (a1 : A1) (a2 : A2) (a3 : A3) (a4 : A4) (a5 : A5) (a6 : A6) (a7 : A7) (a8 : A8) (a9 : A9) (a10 : A10) (a11 : A11) (a12 : A12) (a13 : A13) (a14 : A14) (h : I a1 a2 a3 a4 a5 a6 a7 a8 a9 a10 a11 a12 a13 a14) : ∃ n, W n a1 a2 a3 a4 a5 a6 a7 a8 a9 a10 a11 a12 a13 a14 :=
  loop_m (σ := A1 × A2 × A3 × A4 × A5 × A6 × A7 × A8 × A9 × A10 × A11 × A12 × A13 × A14) (fun n s => W n s.1 s.2.1 s.2.2.1 s.2.2.2.1 s.2.2.2.2.1 s.2.2.2.2.2.1 s.2.2.2.2.2.2.1 s.2.2.2.2.2.2.2.1 s.2.2.2.2.2.2.2.2.1 s.2.2.2.2.2.2.2.2.2.1 s.2.2.2.2.2.2.2.2.2.2.1 s.2.2.2.2.2.2.2.2.2.2.2.1 s.2.2.2.2.2.2.2.2.2.2.2.2.1 s.2.2.2.2.2.2.2.2.2.2.2.2.2) (fun s => I s.1 s.2.1 s.2.2.1 s.2.2.2.1 s.2.2.2.2.1 s.2.2.2.2.2.1 s.2.2.2.2.2.2.1 s.2.2.2.2.2.2.2.1 s.2.2.2.2.2.2.2.2.1 s.2.2.2.2.2.2.2.2.2.1 s.2.2.2.2.2.2.2.2.2.2.1 s.2.2.2.2.2.2.2.2.2.2.2.1 s.2.2.2.2.2.2.2.2.2.2.2.2.1 s.2.2.2.2.2.2.2.2.2.2.2.2.2) (fun s => μ s.1 s.2.1 s.2.2.1 s.2.2.2.1 s.2.2.2.2.1 s.2.2.2.2.2.1 s.2.2.2.2.2.2.1 s.2.2.2.2.2.2.2.1 s.2.2.2.2.2.2.2.2.1 s.2.2.2.2.2.2.2.2.2.1 s.2.2.2.2.2.2.2.2.2.2.1 s.2.2.2.2.2.2.2.2.2.2.2.1 s.2.2.2.2.2.2.2.2.2.2.2.2.1 s.2.2.2.2.2.2.2.2.2.2.2.2.2) (fun n s hI hk => hs n s.1 s.2.1 s.2.2.1 s.2.2.2.1 s.2.2.2.2.1 s.2.2.2.2.2.1 s.2.2.2.2.2.2.1 s.2.2.2.2.2.2.2.1 s.2.2.2.2.2.2.2.2.1 s.2.2.2.2.2.2.2.2.2.1 s.2.2.2.2.2.2.2.2.2.2.1 s.2.2.2.2.2.2.2.2.2.2.2.1 s.2.2.2.2.2.2.2.2.2.2.2.2.1 s.2.2.2.2.2.2.2.2.2.2.2.2.2 hI (fun b1 b2 b3 b4 b5 b6 b7 b8 b9 b10 b11 b12 b13 b14 h9 hm => hk (b1, b2, b3, b4, b5, b6, b7, b8, b9, b10, b11, b12, b13, b14) h9 hm)) (a1, a2, a3, a4, a5, a6, a7, a8, a9, a10, a11, a12, a13, a14) h
theorem lp15 {A1 A2 A3 A4 A5 A6 A7 A8 A9 A10 A11 A12 A13 A14 A15 : Type} (W : Nat → A1 → A2 → A3 → A4 → A5 → A6 → A7 → A8 → A9 → A10 → A11 → A12 → A13 → A14 → A15 → Prop) (I : A1 → A2 → A3 → A4 → A5 → A6 → A7 → A8 → A9 → A10 → A11 → A12 → A13 → A14 → A15 → Prop) (μ : A1 → A2 → A3 → A4 → A5 → A6 → A7 → A8 → A9 → A10 → A11 → A12 → A13 → A14 → A15 → Nat) (hs : ∀ (n : Nat) (a1 : A1) (a2 : A2) (a3 : A3) (a4 : A4) (a5 : A5) (a6 : A6) (a7 : A7) (a8 : A8) (a9 : A9) (a10 : A10) (a11 : A11) (a12 : A12) (a13 : A13) (a14 : A14) (a15 : A15), I a1 a2 a3 a4 a5 a6 a7 a8 a9 a10 a11 a12 a13 a14 a15 → (∀ (b1 : A1) (b2 : A2) (b3 : A3) (b4 : A4) (b5 : A5) (b6 : A6) (b7 : A7) (b8 : A8) (b9 : A9) (b10 : A10) (b11 : A11) (b12 : A12) (b13 : A13) (b14 : A14) (b15 : A15), I b1 b2 b3 b4 b5 b6 b7 b8 b9 b10 b11 b12 b13 b14 b15 → μ b1 b2 b3 b4 b5 b6 b7 b8 b9 b10 b11 b12 b13 b14 b15 < μ a1 a2 a3 a4 a5 a6 a7 a8 a9 a10 a11 a12 a13 a14 a15 → W n b1 b2 b3 b4 b5 b6 b7 b8 b9 b10 b11 b12 b13 b14 b15) → W (n + 1) a1 a2 a3 a4 a5 a6 a7 a8 a9 a10 a11 a12 a13 a14 a15) (a1 : A1) (a2 : A2) (a3 : A3) (a4 : A4) (a5 : A5) (a6 : A6) (a7 : A7) (a8 : A8) (a9 : A9) (a10 : A10) (a11 : A11) (a12 : A12) (a13 : A13) (a14 : A14) (a15 : A15) (h : I a1 a2 a3 a4 a5 a6 a7 a8 a9 a10 a11 a12 a13 a14 a15) : ∃ n, W n a1 a2 a3 a4 a5 a6 a7 a8 a9 a10 a11 a12 a13 a14 a15 :=
  loop_m (σ := A1 × A2 × A3 × A4 × A5 × A6 × A7 × A8 × A9 × A10 × A11 × A12 × A13 × A14 × A15) (fun n s => W n s.1 s.2.1 s.2.2.1 s.2.2.2.1 s.2.2.2.2.1 s.2.2.2.2.2.1 s.2.2.2.2.2.2.1 s.2.2.2.2.2.2.2.1 s.2.2.2.2.2.2.2.2.1 s.2.2.2.2.2.2.2.2.2.1 s.2.2.2.2.2.2.2.2.2.2.1 s.2.2.2.2.2.2.2.2.2.2.2.1 s.2.2.2.2.2.2.2.2.2.2.2.2.1 s.2.2.2.2.2.2.2.2.2.2.2.2.2.1 s.2.2.2.2.2.2.2.2.2.2.2.2.2.2) (fun s => I s.1 s.2.1 s.2.2.1 s.2.2.2.1 s.2.2.2.2.1 s.2.2.2.2.2.1 s.2.2.2.2.2.2.1 s.2.2.2.2.2.2.2.1 s.2.2.2.2.2.2.2.2.1 s.2.2.2.2.2.2.2.2.2.1 s.2.2.2.2.2.2.2.2.2.2.1 s.2.2.2.2.2.2.2.2.2.2.2.1 s.2.2.2.2.2.2.2.2.2.2.2.2.1 s.2.2.2.2.2.2.2.2.2.2.2.2.2.1 s.2.2.2.2.2.2.2.2.2.2.2.2.2.2) (fun s => μ s.1 s.2.1 s.2.2.1 s.2.2.2.1 s.2.2.2.2.1 s.2.2.2.2.2.1 s.2.2.2.2.2.2.1 s.2.2.2.2.2.2.2.1 s.2.2.2.2.2.2.2.2.1 s.2.2.2.2.2.2.2.2.2.1 s.2.2.2.2.2.2.2.2.2.2.1 s.2.2.2.2.2.2.2.2.2.2.2.1 s.2.2.2.2.2.2.2.2.2.2.2.2.1 s.2.2.2.2.2.2.2.2.2.2.2.2.2.1 s.2.2.2.2.2.2.2.2.2.2.2.2.2.2) (fun n s hI hk => hs n s.1 s.2.1 s.2.2.1 s.2.2.2.1 s.2.2.2.2.1 s.2.2.2.2.2.1 s.2.2.2.2.2.2.1 s.2.2.2.2.2.2.2.1 s.2.2.2.2.2.2.2.2.1 s.2.2.2.2.2.2.2.2.2.1 s.2.2.2.2.2.2.2.2.2.2.1 s.2.2.2.2.2.2.2.2.2.2.2.1 s.2.2.2.2.2.2.2.2.2.2.2.2.1 s.2.2.2.2.2.2.2.2.2.2.2.2.2.1 s.2.2.2.2.2.2.2.2.2.2.2.2.2.2 hI (fun b1 b2 b3 b4 b5 b6 b7 b8 b9 b10 b11 b12 b13 b14 b15 h9 hm => hk (b1, b2, b3, b4, b5, b6, b7, b8, b9, b10, b11, b12, b13, b14, b15) h9 hm)) (a1, a2, a3, a4, a5, a6, a7, a8, a9, a10, a11, a12, a13, a14, a15) h
theorem lp16 {A1 A2 A3 A4 A5 A6 A7 A8 A9 A10 A11 A12 A13 A14 A15 A16 : Type} (W : Nat → A1 → A2 → A3 → A4 → A5 → A6 → A7 → A8 → A9 → A10 → A11 → A12 → A13 → A14 → A15 → A16 → Prop) (I : A1 → A2 → A3 → A4 → A5 → A6 → A7 → A8 → A9 → A10 → A11 → A12 → A13 → A14 → A15 → A16 → Prop) (μ : A1 → A2 → A3 → A4 → A5 → A6 → A7 → A8 → A9 → A10 → A11 → A12 → A13 → A14 → A15 → A16 → Nat) (hs : ∀ (n : Nat) (a1 : A1) (a2 : A2) (a3 : A3) (a4 : A4) (a5 : A5) (a6 : A6) (a7 : A7) (a8 : A8) (a9 : A9) (a10 : A10) (a11 : A11) (a12 : A12) (a13 : A13) (a14 : A14) (a15 : A15) (a16 : A16), I a1 a2 a3 a4 a5 a6 a7 a8 a9 a10 a11 a12 a13 a14 a15 a16 → (∀ (b1 : A1) (b2 : A2) (b3 : A3) (b4 : A4) (b5 : A5) (b6 : A6) (b7 : A7) (b8 : A8) (b9 : A9) (b10 : A10) (b11 : A11) (b12 : A12) (b13 : A13) (b14 : A14) (b15 : A15) (b16 : A16), I b1 b2 b3 b4 b5 b6 b7 b8 b9 b10 b11 b12 b13 b14 b15 b16 → μ b1 b2 b3 b4 b5 b6 b7 b8 b9 b10 b11 b12 b13 b14 b15 b16 < μ a1 a2 a3 a4 a5 a6 a7 a8 a9 a10 a11 a12 a13 a14 a15 a16 → W n b1 b2 b3 b4 b5 b6 b7 b8 b9 b10 b11 b12 b13 b14 b15 b16) → W (n + 1) a1 a2 a3 a4 a5 a6 a7 a8 a9 a10 a11 a12 a13 a14 a15 a16) (a1 : A1) (a2 : A2) (a3 : A3) (a4 : A4) (a5 : A5) (a6 : A6) (a7 : A7) (a8 : A8) (a9 : A9) (a10 : A10) (a11 : A11) (a12 : A12) (a13 : A13) (a14 : A14) (a15 : A15) (a16 : A16) (h : I a1 a2 a3 a4 a5 a6 a7 a8 a9 a10 a11 a12 a13 a14 a15 a16) : ∃ n, W n a1 a2 a3 a4 a5 a6 a7 a8 a9 a10 a11 a12 a13 a14 a15 a16 :=
  loop_m (σ := A1 × A2 × A3 × A4 × A5 × A6 × A7 × A8 × A9 × A10 × A11 × A12 × A13 × A14 × A15 × A16) (fun n s => W n s.1 s.2.1 s.2.2.1 s.2.2.2.1 s.2.2.2.2.1 s.2.2.2.2.2.1 s.2.2.2.2.2.2.1 s.2.2.2.2.2.2.2.1 s.2.2.2.2.2.2.2.2.1 s.2.2.2.2.2.2.2.2.2.1 s.2.2.2.2.2.2.2.2.2.2.1 s.2.2.2.2.2.2.2.2.2.2.2.1 s.2.2.2.2.2.2.2.2.2.2.2.2.1 s.2.2.2.2.2.2.2.2.2.2.2.2.2.1 s.2.2.2.2.2.2.2.2.2.2.2.2.2.2.1 s.2.2.2.2.2.2.2.2.2.2.2.2.2.2.2) (fun s => I s.1 s.2.1 s.2.2.1 s.2.2.2.1 s.2.2.2.2.1 s.2.2.2.2.2.1 s.2.2.2.2.2.2.1 s.2.2.2.2.2.2.2.1 s.2.2.2.2.2.2.2.2.1 s.2.2.2.2.2.2.2.2.2.1 s.2.2.2.2.2.2.2.2.2.2.1 s.2.2.2.2.2.2.2.2.2.2.2.1 s.2.2.2.2.2.2.2.2.2.2.2.2.1 s.2.2.2.2.2.2.2.2.2.2.2.2.2.1 s.2.2.2.2.2.2.2.2.2.2.2.2.2.2.1 s.2.2.2.2.2.2.2.2.2.2.2.2.2.2.2) (fun s => μ s.1 s.2.1 s.2.2.1 s.2.2.2.1 s.2.2.2.2.1 s.2.2.2.2.2.1 s.2.2.2.2.2.2.1 s.2.2.2.2.2.2.2.1 s.2.2.2.2.2.2.2.2.1 s.2.2.2.2.2.2.2.2.2.1 s.2.2.2.2.2.2.2.2.2.2.1 s.2.2.2.2.2.2.2.2.2.2.2.1 s.2.2.2.2.2.2.2.2.2.2.2.2.1 s.2.2.2.2.2.2.2.2.2.2.2.2.2.1 s.2.2.2.2.2.2.2.2.2.2.2.2.2.2.1 s.2.2.2.2.2.2.2.2.2.2.2.2.2.2.2) (fun n s hI hk => hs n s.1 s.2.1 s.2.2.1 s.2.2.2.1 s.2.2.2.2.1 s.2.2.2.2.2.1 s.2.2.2.2.2.2.1 s.2.2.2.2.2.2.2.1 s.2.2.2.2.2.2.2.2.1 s.2.2.2.2.2.2.2.2.2.1 s.2.2.2.2.2.2.2.2.2.2.1 s.2.2.2.2.2.2.2.2.2.2.2.1 s.2.2.2.2.2.2.2.2.2.2.2.2.1 s.2.2.2.2.2.2.2.2.2.2.2.2.2.1 s.2.2.2.2.2.2.2.2.2.2.2.2.2.2.1 s.2.2.2.2.2.2.2.2.2.2.2.2.2.2.2 hI (fun b1 b2 b3 b4 b5 b6 b7 b8 b9 b10 b11 b12 b13 b14 b15 b16 h9 hm => hk (b1, b2, b3, b4, b5, b6, b7, b8, b9, b10, b11, b12, b13, b14, b15, b16) h9 hm)) (a1, a2, a3, a4, a5, a6, a7, a8, a9, a10, a11, a12, a13, a14, a15, a16) h
theorem pk_least (P : Nat → Prop) (h : ∃ k, P k) : ∃ k, P k ∧ ∀ j, j < k → ¬ P j := by
  obtain ⟨k, hk⟩ := h
  induction k using Nat.strongRecOn with
  | ind k ih =>
    by_cases e : ∃ j, j < k ∧ P j
    · obtain ⟨j, hj, pj⟩ := e
      exact ih j hj pj
    · exact ⟨k, hk, fun j hj pj => e ⟨j, hj, pj⟩⟩
theorem rp1 {ρ A1 : Type} (W : Nat → (ρ → Prop) → A1 → Prop) (ok : A1 → Prop) (μ : A1 → Nat) (val : A1 → ρ)
    (hs : ∀ (d : Nat) (post : ρ → Prop) (a1 : A1), ok a1 → post (val a1) → (∀ (post' : ρ → Prop) (b1 : A1), ok b1 → μ b1 < μ a1 → post' (val b1) → W d post' b1) → W (d + 1) post a1) :
    ∀ (d : Nat) (post : ρ → Prop) (a1 : A1), ok a1 → μ a1 < d → post (val a1) → W d post a1 := by
  intro d
  induction d with
  | zero => intro post a1 _ h; omega
  | succ d ih =>
    intro post a1 ho hm hp
    exact hs d post a1 ho hp (fun post' b1 ho' hm' hp' => ih post' b1 ho' (by omega) hp')
theorem rp2 {ρ A1 A2 : Type} (W : Nat → (ρ → Prop) → A1 → A2 → Prop) (ok : A1 → A2 → Prop) (μ : A1 → A2 → Nat) (val : A1 → A2 → ρ)
    (hs : ∀ (d : Nat) (post : ρ → Prop) (a1 : A1) (a2 : A2), ok a1 a2 → post (val a1 a2) → (∀ (post' : ρ → Prop) (b1 : A1) (b2 : A2), ok b1 b2 → μ b1 b2 < μ a1 a2 → post' (val b1 b2) → W d post' b1 b2) → W (d + 1) post a1 a2) :
    ∀ (d : Nat) (post : ρ → Prop) (a1 : A1) (a2 : A2), ok a1 a2 → μ a1 a2 < d → post (val a1 a2) → W d post a1 a2 := by
  intro d
  induction d with
  | zero => intro post a1 a2 _ h; omega
  | succ d ih =>
    intro post a1 a2 ho hm hp
    exact hs d post a1 a2 ho hp (fun post' b1 b2 ho' hm' hp' => ih post' b1 b2 ho' (by omega) hp')
theorem rp3 {ρ A1 A2 A3 : Type} (W : Nat → (ρ → Prop) → A1 → A2 → A3 → Prop) (ok : A1 → A2 → A3 → Prop) (μ : A1 → A2 → A3 → Nat) (val : A1 → A2 → A3 → ρ)
    (hs : ∀ (d : Nat) (post : ρ → Prop) (a1 : A1) (a2 : A2) (a3 : A3), ok a1 a2 a3 → post (val a1 a2 a3) → (∀ (post' : ρ → Prop) (b1 : A1) (b2 : A2) (b3 : A3), ok b1 b2 b3 → μ b1 b2 b3 < μ a1 a2 a3 → post' (val b1 b2 b3) → W d post' b1 b2 b3) → W (d + 1) post a1 a2 a3) :
    ∀ (d : Nat) (post : ρ → Prop) (a1 : A1) (a2 : A2) (a3 : A3), ok a1 a2 a3 → μ a1 a2 a3 < d → post (val a1 a2 a3) → W d post a1 a2 a3 := by
  intro d
  induction d with
  | zero => intro post a1 a2 a3 _ h; omega
  | succ d ih =>
    intro post a1 a2 a3 ho hm hp
    exact hs d post a1 a2 a3 ho hp (fun post' b1 b2 b3 ho' hm' hp' => ih post' b1 b2 b3 ho' (by omega) hp')
theorem rp4 {ρ A1 A2 A3 A4 : Type} (W : Nat → (ρ → Prop) → A1 → A2 → A3 → A4 → Prop) (ok : A1 → A2 → A3 → A4 → Prop) (μ : A1 → A2 → A3 → A4 → Nat) (val : A1 → A2 → A3 → A4 → ρ)
    (hs : ∀ (d : Nat) (post : ρ → Prop) (a1 : A1) (a2 : A2) (a3 : A3) (a4 : A4), ok a1 a2 a3 a4 → post (val a1 a2 a3 a4) → (∀ (post' : ρ → Prop) (b1 : A1) (b2 : A2) (b3 : A3) (b4 : A4), ok b1 b2 b3 b4 → μ b1 b2 b3 b4 < μ a1 a2 a3 a4 → post' (val b1 b2 b3 b4) → W d post' b1 b2 b3 b4) → W (d + 1) post a1 a2 a3 a4) :
    ∀ (d : Nat) (post : ρ → Prop) (a1 : A1) (a2 : A2) (a3 : A3) (a4 : A4), ok a1 a2 a3 a4 → μ a1 a2 a3 a4 < d → post (val a1 a2 a3 a4) → W d post a1 a2 a3 a4 := by
  intro d
  induction d with
  | zero => intro post a1 a2 a3 a4 _ h; omega
  | succ d ih =>
    intro post a1 a2 a3 a4 ho hm hp
    exact hs d post a1 a2 a3 a4 ho hp (fun post' b1 b2 b3 b4 ho' hm' hp' => ih post' b1 b2 b3 b4 ho' (by omega) hp')
theorem rp5 {ρ A1 A2 A3 A4 A5 : Type} (W : Nat → (ρ → Prop) → A1 → A2 → A3 → A4 → A5 → Prop) (ok : A1 → A2 → A3 → A4 → A5 → Prop) (μ : A1 → A2 → A3 → A4 → A5 → Nat) (val : A1 → A2 → A3 → A4 → A5 → ρ)
    (hs : ∀ (d : Nat) (post : ρ → Prop) (a1 : A1) (a2 : A2) (a3 : A3) (a4 : A4) (a5 : A5), ok a1 a2 a3 a4 a5 → post (val a1 a2 a3 a4 a5) → (∀ (post' : ρ → Prop) (b1 : A1) (b2 : A2) (b3 : A3) (b4 : A4) (b5 : A5), ok b1 b2 b3 b4 b5 → μ b1 b2 b3 b4 b5 < μ a1 a2 a3 a4 a5 → post' (val b1 b2 b3 b4 b5) → W d post' b1 b2 b3 b4 b5) → W (d + 1) post a1 a2 a3 a4 a5) :
    ∀ (d : Nat) (post : ρ → Prop) (a1 : A1) (a2 : A2) (a3 : A3) (a4 : A4) (a5 : A5), ok a1 a2 a3 a4 a5 → μ a1 a2 a3 a4 a5 < d → post (val a1 a2 a3 a4 a5) → W d post a1 a2 a3 a4 a5 := by
  intro d
  induction d with
  | zero => intro post a1 a2 a3 a4 a5 _ h; omega
  | succ d ih =>
    intro post a1 a2 a3 a4 a5 ho hm hp
    exact hs d post a1 a2 a3 a4 a5 ho hp (fun post' b1 b2 b3 b4 b5 ho' hm' hp' => ih post' b1 b2 b3 b4 b5 ho' (by omega) hp')
theorem rp6 {ρ A1 A2 A3 A4 A5 A6 : Type} (W : Nat → (ρ → Prop) → A1 → A2 → A3 → A4 → A5 → A6 → Prop) (ok : A1 → A2 → A3 → A4 → A5 → A6 → Prop) (μ : A1 → A2 → A3 → A4 → A5 → A6 → Nat) (val : A1 → A2 → A3 → A4 → A5 → A6 → ρ)
    (hs : ∀ (d : Nat) (post : ρ → Prop) (a1 : A1) (a2 : A2) (a3 : A3) (a4 : A4) (a5 : A5) (a6 : A6), ok a1 a2 a3 a4 a5 a6 → post (val a1 a2 a3 a4 a5 a6) → (∀ (post' : ρ → Prop) (b1 : A1) (b2 : A2) (b3 : A3) (b4 : A4) (b5 : A5) (b6 : A6), ok b1 b2 b3 b4 b5 b6 → μ b1 b2 b3 b4 b5 b6 < μ a1 a2 a3 a4 a5 a6 → post' (val b1 b2 b3 b4 b5 b6) → W d post' b1 b2 b3 b4 b5 b6) → W (d + 1) post a1 a2 a3 a4 a5 a6) :
    ∀ (d : Nat) (post : ρ → Prop) (a1 : A1) (a2 : A2) (a3 : A3) (a4 : A4) (a5 : A5) (a6 : A6), ok a1 a2 a3 a4 a5 a6 → μ a1 a2 a3 a4 a5 a6 < d → post (val a1 a2 a3 a4 a5 a6) → W d post a1 a2 a3 a4 a5 a6 := by
  intro d
  induction d with
  | zero => intro post a1 a2 a3 a4 a5 a6 _ h; omega
  | succ d ih =>
    intro post a1 a2 a3 a4 a5 a6 ho hm hp
    exact hs d post a1 a2 a3 a4 a5 a6 ho hp (fun post' b1 b2 b3 b4 b5 b6 ho' hm' hp' => ih post' b1 b2 b3 b4 b5 b6 ho' (by omega) hp')
theorem rec_p {σ ρ : Type} (W : Nat → (ρ → Prop) → σ → Prop) (ok : σ → Prop) (μ : σ → Nat) (val : σ → ρ)
    (hs : ∀ d s post, ok s → post (val s) → (∀ s' post', ok s' → μ s' < μ s → post' (val s') → W d post' s') → W (d + 1) post s) :
    ∀ d s post, ok s → μ s < d → post (val s) → W d post s := by
  intro d
  induction d with
  | zero => intro s post _ h; omega
  | succ d ih =>
    intro s post ho hm hp
    exact hs d s post ho hp (fun s' post' ho' hm' hp' => ih s' post' ho' (by omega) hp')
theorem rec_q {σ ρ : Type} (W : Nat → (ρ → Prop) → σ → Prop) (ok : σ → Prop) (μ : σ → Nat) (Q : σ → ρ → Prop)
    (hs : ∀ d s post, ok s → (∀ r, Q s r → post r) → (∀ s' post', ok s' → μ s' < μ s → (∀ r, Q s' r → post' r) → W d post' s') → W (d + 1) post s) :
    ∀ d s post, ok s → μ s < d → (∀ r, Q s r → post r) → W d post s := by
  intro d
  induction d with
  | zero => intro s post _ h; omega
  | succ d ih =>
    intro s post ho hm hp
    exact hs d s post ho hp (fun s' post' ho' hm' hp' => ih s' post' ho' (by omega) hp')
def bx_sum (f : Nat → Int32) : Nat → Int32
  | 0 => 0
  | n + 1 => bx_sum f n + f n
theorem ek_u {A : Prop} {B : Nat → Prop} {k N : Nat} (hk : k < N) (h : B k) : (some k = none → A) ∧ (∀ y : Nat, some k = some y → (y < N ∧ B y)) :=
  ⟨fun z => absurd z (Option.some_ne_none k), fun _ e => (by cases e; exact ⟨hk, h⟩)⟩
theorem ek_nu {A : Prop} {B : Nat → Prop} (h : A) : ((none : Option Nat) = none → A) ∧ (∀ y : Nat, (none : Option Nat) = some y → B y) :=
  ⟨fun _ => h, fun _ e => (by cases e)⟩
theorem ek_if {c d A B : Prop} (e : c ↔ d) (f : d → A) (g : ¬ d → B) : (c → A) ∧ (¬ c → B) :=
  ⟨fun z => f (e.mp z), fun z => g (fun y => z (e.mpr y))⟩
theorem ek_v {α : Sort _} {P : α → Prop} {a b : α} (e : a = b) (h : P b) : P a := e ▸ h
theorem co_some {x : Option Nat} {A : Prop} {B : Nat → Prop} (i : Nat) (h : B i) (hx : x = some i := by rfl) : (x = none → A) ∧ (∀ y : Nat, x = some y → B y) := by
  subst hx
  exact ⟨fun e => (nomatch e), fun y e => Option.some.inj e ▸ h⟩
theorem co_none {x : Option Nat} {A : Prop} {B : Nat → Prop} (h : A) (hx : x = none := by rfl) : (x = none → A) ∧ (∀ y : Nat, x = some y → B y) := by
  subst hx
  exact ⟨fun _ => h, fun y e => (nomatch e)⟩
theorem co_any {x : Option Nat} {A : Prop} {B : Nat → Prop} (hn : x = none → A) (hs : ∀ i : Nat, x = some i → B i) : (x = none → A) ∧ (∀ y : Nat, x = some y → B y) := ⟨hn, hs⟩
theorem co_2 {P : Nat → Prop} (h0 : P 0) (h1 : P 1) {i : Nat} (hi : i < 2) : P i :=
  match i, hi with
  | 0, _ => h0
  | 1, _ => h1
theorem co_3 {P : Nat → Prop} (h0 : P 0) (h1 : P 1) (h2 : P 2) {i : Nat} (hi : i < 3) : P i :=
  match i, hi with
  | 0, _ => h0
  | 1, _ => h1
  | 2, _ => h2
theorem co_4 {P : Nat → Prop} (h0 : P 0) (h1 : P 1) (h2 : P 2) (h3 : P 3) {i : Nat} (hi : i < 4) : P i :=
  match i, hi with
  | 0, _ => h0
  | 1, _ => h1
  | 2, _ => h2
  | 3, _ => h3
theorem co_dec {N : Nat} {P : Nat → Prop} [DecidablePred P] (h : (List.range N).all (fun i => decide (P i)) = true) {i : Nat} (hi : i < N) : P i := by
  have := List.all_eq_true.mp h i (List.mem_range.mpr hi)
  exact of_decide_eq_true this
theorem co_tab {α : Type} {l : List α} {d : α} {P : α → Prop} (h : ∀ a, a ∈ l → P a) {i : Nat} (hi : i < l.length) : P (l.getD i d) := by
  rw [List.getD_eq_getElem?_getD, List.getElem?_eq_getElem hi]
  exact h _ (List.getElem_mem hi)
theorem pk_mu {x : Int32} {L : Nat} (h0 : ¬ x < 0) (h : ¬ nI L ≤ x) (hL : L < 2 ^ 31) : ∃ j : Nat, j < L ∧ x = nI j ∧ x + 1 = nI (j + 1) ∧ x.toNatClampNeg = j ∧ L - (x + 1).toNatClampNeg < L - x.toNatClampNeg := by
  obtain ⟨j, hj, rfl⟩ := nI_of h0
  have hl : j < L := Nat.not_le.mp fun q => h (nI_le q hj)
  refine ⟨j, hl, rfl, nI_1 j, nI_clamp hj, ?_⟩
  rw [nI_1, nI_clamp (by omega), nI_clamp hj]
  omega
theorem op_s {α : Type} {r : Option α} {A : Prop} {B : α → Prop} {y : α} (h : r = some y) (b : B y) : (r = none → A) ∧ ∀ z, r = some z → B z :=
  ⟨fun e => (by rw [h] at e; cases e), fun z e => (by rw [h] at e; cases e; exact b)⟩
def l_holds {α : Type} (a : Nat → Option Nat) (LP : List Nat) (p : Nat → α) (c : Nat) (b : Nat → α) : Prop :=
  ∀ j, j < c → ∃ y, a j = some y ∧ y ∈ LP ∧ p y = b j
theorem l_holds_0 {α : Type} {a : Nat → Option Nat} {LP : List Nat} {p b : Nat → α} : l_holds a LP p 0 b := fun j h => absurd h (Nat.not_lt_zero j)
theorem l_in_new (LP : List Nat) (q : Nat) : q ∈ LP ++ [q] := List.mem_append.mpr (Or.inr (List.mem_singleton.mpr rfl))
def l_sum (b : Nat → Int32) : Nat → Int32
  | 0 => 0
  | k + 1 => l_sum b k + b k
theorem sb_shr0 (x : Int32) : x >>> ((0 : Int32) &&& 31) = x := by
  rw [show ((0 : Int32) &&& 31) = 0 by decide]
  simp
theorem sb_shl0 (x : Int32) : x <<< ((0 : Int32) &&& 31) = x := by
  rw [show ((0 : Int32) &&& 31) = 0 by decide]
  simp
theorem sb_cl0 : (0 : Int32).toNatClampNeg = 0 := by decide
theorem sb_m1 {p : Nat} (h : 0 < p) : nI p + (-1) = nI (p - 1) := by
  obtain ⟨q, rfl⟩ : ∃ q, p = q + 1 := ⟨p - 1, by omega⟩
  exact pk_m1 q
def sb_b (c : Nat) : Int32 := (nI c).toInt8.toInt32
theorem sb_byte : ∀ c, c < 256 → sb_b c &&& 255 = nI c ∧ ((nI c).toUInt32 % 65536).toInt32 = nI c ∧ nI c ≤ 255 := by decide +kernel
def sb_Fit (a : Nat → Int32) : Prop := ∀ j, fits .byte (.int (a j)) = true
def sb_Lat (t : Nat → Nat) (n : Nat) (a : Nat → Int32) : Prop := ∀ j, j < n → t j < 256 ∧ a j = sb_b (t j)
theorem sb_fitB (c : Nat) : fits .byte (.int (sb_b c)) = true := pk_fb _
theorem sb_fit0 : sb_Fit (fun _ => 0) := fun _ => by
  show fits .byte (.int 0) = true
  decide
theorem sb_fitU {a : Nat → Int32} {k : Nat} {x : Int32} (h : sb_Fit a) (hx : fits .byte (.int x) = true) : sb_Fit (upd a k x) := by
  intro j
  by_cases e : j = k
  · subst e
    rw [pk_us]
    exact hx
  · rw [pk_un e]
    exact h j
def sb_cat (t : Nat → Nat) (n : Nat) (s : Nat → Nat) : Nat → Nat := fun j => if j < n then t j else s (j - n)
theorem sb_cat_lo {t s : Nat → Nat} {n j : Nat} (h : j < n) : sb_cat t n s j = t j := if_pos h
theorem sb_cat_hi {t s : Nat → Nat} {n j : Nat} : sb_cat t n s (n + j) = s j := by
  show (if n + j < n then t (n + j) else s (n + j - n)) = s j
  rw [if_neg (by omega), Nat.add_sub_cancel_left]
theorem sb_latPut {t s : Nat → Nat} {n w : Nat} {a a' : Nat → Int32} (h : sb_Lat t n a) (hk : ∀ j, j < n → a' j = a j) (hs : ∀ i, i < w → s i < 256 ∧ a' (n + i) = sb_b (s i)) : sb_Lat (sb_cat t n s) (n + w) a' := by
  intro j hj
  by_cases e : j < n
  · rw [sb_cat_lo e, hk j e]
    exact h j e
  · obtain ⟨i, rfl⟩ : ∃ i, j = n + i := ⟨j - n, by omega⟩
    rw [sb_cat_hi]
    exact hs i (by omega)
theorem sb_latKeep {t : Nat → Nat} {n : Nat} {a a' : Nat → Int32} (h : sb_Lat t n a) (hk : ∀ j, j < n → a' j = a j) : sb_Lat t n a' := fun j hj => by
  rw [hk j hj]
  exact h j hj
def sb_cap (q m : Nat) : Nat := if q ≤ m then m else if 2 * m + 2 < q then q else 2 * m + 2
def sb_Room (q m mc ms : Nat) : Prop := q ≤ m ∨ (1 ≤ mc ∧ sb_cap q m ≤ ms ∧ sb_cap q m ≤ 65536)
theorem sb_cap_ge (q m : Nat) : q ≤ sb_cap q m := by
  unfold sb_cap
  split
  · omega
  · split <;> omega
theorem sb_cap_gem (q m : Nat) : m ≤ sb_cap q m := by
  unfold sb_cap
  split
  · omega
  · split <;> omega
theorem sb_cap_le {q m mc ms : Nat} (hm : m ≤ 65536) (hr : sb_Room q m mc ms) : sb_cap q m ≤ 65536 := by
  rcases hr with h | h
  · rw [sb_cap, if_pos h]
    exact hm
  · exact h.2.2
theorem sb_at {P : Int32 → Prop} {x y : Int32} (e : x = y) (h : P y) : P x := e ▸ h
def sb_dg (w : Nat) : Nat := if w < 10 then 1 else if w < 100 then 2 else if w < 1000 then 3 else if w < 10000 then 4 else if w < 100000 then 5 else if w < 1000000 then 6 else if w < 10000000 then 7 else if w < 100000000 then 8 else if w < 1000000000 then 9 else 10
def sb_dec (v : Nat) : Nat → Nat := fun i => 48 + v / 10 ^ (sb_dg v - 1 - i) % 10
theorem sb_dg_in (w : Nat) : 1 ≤ sb_dg w ∧ sb_dg w ≤ 10 := by
  unfold sb_dg
  constructor <;> (repeat' split) <;> omega
theorem sb_dg100 {w : Nat} (h : 100 ≤ w) (hw : w < 2 ^ 31) : sb_dg w = sb_dg (w / 100) + 2 := by
  rw [sb_dg, sb_dg, if_neg (show ¬ w < 10 by omega), if_neg (show ¬ w < 100 by omega)]
  by_cases h3 : w < 1000
  · rw [if_pos h3, if_pos (show w / 100 < 10 by omega)]
  rw [if_neg h3, if_neg (show ¬ w / 100 < 10 by omega)]
  by_cases h4 : w < 10000
  · rw [if_pos h4, if_pos (show w / 100 < 100 by omega)]
  rw [if_neg h4, if_neg (show ¬ w / 100 < 100 by omega)]
  by_cases h5 : w < 100000
  · rw [if_pos h5, if_pos (show w / 100 < 1000 by omega)]
  rw [if_neg h5, if_neg (show ¬ w / 100 < 1000 by omega)]
  by_cases h6 : w < 1000000
  · rw [if_pos h6, if_pos (show w / 100 < 10000 by omega)]
  rw [if_neg h6, if_neg (show ¬ w / 100 < 10000 by omega)]
  by_cases h7 : w < 10000000
  · rw [if_pos h7, if_pos (show w / 100 < 100000 by omega)]
  rw [if_neg h7, if_neg (show ¬ w / 100 < 100000 by omega)]
  by_cases h8 : w < 100000000
  · rw [if_pos h8, if_pos (show w / 100 < 1000000 by omega)]
  rw [if_neg h8, if_neg (show ¬ w / 100 < 1000000 by omega)]
  by_cases h9 : w < 1000000000
  · rw [if_pos h9, if_pos (show w / 100 < 10000000 by omega)]
  rw [if_neg h9, if_neg (show ¬ w / 100 < 10000000 by omega)]
  rw [if_pos (show w / 100 < 100000000 by omega)]
theorem sb_negT {w : Nat} (h : w < 2 ^ 31) : (-nI w).toInt = -(w : Int) := by
  rw [Int32.toInt_neg, nI_toInt h]
  exact Int.bmod_eq_of_le (by omega) (by omega)
theorem sb_nle {a b : Nat} (ha : a < 2 ^ 31) (hb : b < 2 ^ 31) : -nI a ≤ -nI b ↔ b ≤ a := by
  rw [Int32.le_iff_toInt_le, sb_negT ha, sb_negT hb]
  omega
theorem sb_nlt {a b : Nat} (ha : a < 2 ^ 31) (hb : b < 2 ^ 31) : -nI a < -nI b ↔ b < a := by
  rw [Int32.lt_iff_toInt_lt, sb_negT ha, sb_negT hb]
  omega
theorem sb_cmp {A B : Prop} {x : Int32} (v c : Nat) (f : c ≤ v → A) (g : v < c → B) (hv : v < 2 ^ 31) (hx : x = -nI c := by rfl) (hc : c < 2 ^ 31 := by omega) : (-nI v ≤ x → A) ∧ (¬ -nI v ≤ x → B) := by
  subst hx
  rw [sb_nle hv hc]
  exact ⟨f, fun z => g (by omega)⟩
theorem sb_ndiv {w : Nat} (hw : w < 2 ^ 31) : (-nI w) / 100 = -nI (w / 100) := by
  apply Int32.toInt_inj.mp
  have h100 : (100 : Int32).toInt = 100 := by decide
  rw [Int32.toInt_div, sb_negT hw, h100, sb_negT (by omega), Int.neg_tdiv, Int.tdiv_eq_ediv_of_nonneg (by omega), Int.bmod_eq_of_le (by omega) (by omega)]
  omega
theorem sb_nrem {w : Nat} (hw : w < 2 ^ 31) : (-nI (w / 100)) * 100 - (-nI w) = nI (w % 100) := by
  have h := pk_rem (a := w) (d := 100) hw (by decide) (by decide)
  rw [pk_div hw (by decide) (by decide)] at h
  rw [← h]
  show (-nI (w / 100)) * nI 100 - (-nI w) = nI w - nI (w / 100) * nI 100
  rw [Int32.neg_mul, Int32.sub_neg, Int32.add_comm, ← Int32.sub_eq_add_neg]
end
section
/-! ===== counts (turned from the second large example) ===== -/
noncomputable def b01 (P : Prop) : Nat := @ite Nat P (Classical.propDecidable P) 1 0
theorem b01_t {P : Prop} (h : P) : b01 P = 1 := by unfold b01; rw [if_pos h]
theorem b01_f {P : Prop} (h : ¬ P) : b01 P = 0 := by unfold b01; rw [if_neg h]
theorem b01_le (P : Prop) : b01 P ≤ 1 := by
  rcases Classical.em P with h | h
  · rw [b01_t h]; omega
  · rw [b01_f h]; omega
theorem b01_mono {P Q : Prop} (h : P → Q) : b01 P ≤ b01 Q := by
  rcases Classical.em P with hp | hp
  · rw [b01_t hp, b01_t (h hp)]; omega
  · rw [b01_f hp]; omega
noncomputable def cn (P : Nat → Prop) : Nat → Nat
  | 0 => 0
  | k + 1 => cn P k + b01 (P k)
theorem cn_mono {P Q : Nat → Prop} : ∀ {N : Nat}, (∀ k, k < N → P k → Q k) → cn P N ≤ cn Q N
  | 0, _ => Nat.le_refl _
  | N + 1, h => by
    have a := cn_mono (P := P) (Q := Q) (N := N) (fun k hk => h k (by omega))
    have b := b01_mono (h N (by omega))
    simp only [cn]; omega
theorem cn_lt {P Q : Nat → Prop} {a : Nat} (hp : ¬ P a) (hq : Q a) : ∀ {N : Nat}, (∀ k, k < N → P k → Q k) → a < N → cn P N < cn Q N
  | 0, _, h => by omega
  | N + 1, h, ha => by
    simp only [cn]
    rcases Nat.lt_or_ge a N with z | z
    · have x := cn_lt hp hq (N := N) (fun k hk => h k (by omega)) z
      have b := b01_mono (h N (by omega))
      omega
    · have e : a = N := by omega
      subst e
      have x := cn_mono (P := P) (Q := Q) (N := a) (fun k hk => h k (by omega))
      rw [b01_t hq, b01_f hp]; omega
theorem cn_le (P : Nat → Prop) : ∀ N, cn P N ≤ N
  | 0 => Nat.le_refl _
  | N + 1 => by have := cn_le P N; have := b01_le (P N); simp only [cn]; omega
theorem cn_eq {P Q : Nat → Prop} {N : Nat} (h : ∀ k, k < N → (P k ↔ Q k)) : cn P N = cn Q N :=
  Nat.le_antisymm (cn_mono fun k hk => (h k hk).mp) (cn_mono fun k hk => (h k hk).mpr)
theorem cn_add {P : Nat → Prop} {a : Nat} (hp : ¬ P a) : ∀ {N : Nat}, a < N → cn (fun k => P k ∨ k = a) N = cn P N + 1
  | 0, h => by omega
  | N + 1, h => by
    simp only [cn]
    rcases Nat.lt_or_ge a N with z | z
    · rw [cn_add hp z]
      have : b01 (P N ∨ N = a) = b01 (P N) := Nat.le_antisymm (b01_mono fun q => q.elim id (fun e => by omega)) (b01_mono Or.inl)
      omega
    · have e : a = N := by omega
      subst e
      rw [cn_eq (P := fun k => P k ∨ k = a) (Q := P) (fun k hk => ⟨fun q => q.elim id (fun e => by omega), Or.inl⟩), b01_t (Or.inr rfl), b01_f hp]
/-! ===== reachability by steps ===== -/
def lc_rn {α : Type} (i : α → Prop) (t : α → α → Prop) : Nat → α → Prop
  | 0 => fun x => i x
  | n + 1 => fun x => ∃ y, lc_rn i t n y ∧ t y x
def lc_R {α : Type} (i : α → Prop) (t : α → α → Prop) (x : α) : Prop := ∃ n, lc_rn i t n x
theorem lc_R0 {α : Type} {i : α → Prop} {t : α → α → Prop} {x : α} (h : i x) : lc_R i t x := ⟨0, h⟩
theorem lc_Rs {α : Type} {i : α → Prop} {t : α → α → Prop} {x y : α} (h : lc_R i t x) (s : t x y) : lc_R i t y :=
  h.elim fun n hn => ⟨n + 1, x, hn, s⟩
theorem lc_Ri {α : Type} {i : α → Prop} {t : α → α → Prop} (P : α → Prop) (h0 : ∀ x, i x → P x) (hs : ∀ x y, lc_R i t x → P x → t x y → P y) {x : α} (h : lc_R i t x) : P x := by
  obtain ⟨n, hn⟩ := h
  induction n generalizing x with
  | zero => exact h0 x hn
  | succ n ih =>
    obtain ⟨y, hy, s⟩ := hn
    exact hs y x ⟨n, hy⟩ (ih hy) s
/-! ===== the program: count, kinds, first and second parts as naturals ===== -/
def lc_lt (c t : Nat) : Option Nat := if t < c then some t else none
theorem lc_lt_s {c t q : Nat} : lc_lt c t = some q ↔ t < c ∧ q = t := by
  unfold lc_lt
  by_cases h : t < c
  · rw [if_pos h]
    constructor
    · intro e; cases e; exact ⟨h, rfl⟩
    · intro e; rw [e.2]
  · rw [if_neg h]
    constructor
    · intro e; cases e
    · intro e; exact absurd e.1 h
def lc_nx (c : Nat) (k f : Nat → Nat) (p i : Nat) : Option Nat :=
  if i = 0 then (if k p = 11 then none else lc_lt c (if k p = 9 then f p else p + 1))
  else (if k p = 10 then lc_lt c (f p) else none)
theorem lc_nx_lt {c : Nat} {k f : Nat → Nat} {p i q : Nat} (h : lc_nx c k f p i = some q) : q < c := by
  unfold lc_nx at h
  by_cases hi : i = 0
  · rw [if_pos hi] at h
    by_cases h1 : k p = 11
    · rw [if_pos h1] at h; cases h
    · rw [if_neg h1, lc_lt_s] at h; omega
  · rw [if_neg hi] at h
    by_cases h1 : k p = 10
    · rw [if_pos h1, lc_lt_s] at h; omega
    · rw [if_neg h1] at h; cases h
def lc_E (c : Nat) (k f : Nat → Nat) (p q : Nat) : Prop := p < c ∧ (lc_nx c k f p 0 = some q ∨ lc_nx c k f p 1 = some q)
theorem lc_E_r {c : Nat} {k f : Nat → Nat} {p q : Nat} (h : lc_E c k f p q) : q < c := h.2.elim lc_nx_lt lc_nx_lt
theorem lc_E_i {c : Nat} {k f : Nat → Nat} {p q i : Nat} (hp : p < c) (hi : i < 2) (h : lc_nx c k f p i = some q) : lc_E c k f p q := by
  refine ⟨hp, ?_⟩
  rcases (by omega : i = 0 ∨ i = 1) with e | e
  · rw [e] at h; exact Or.inl h
  · rw [e] at h; exact Or.inr h
def lc_mk (k : Nat → Nat) (b : Nat) : Prop := k b = 3 ∨ k b = 4
theorem lc_E_mk {c : Nat} {k f : Nat → Nat} {b q : Nat} (hm : lc_mk k b) (h : lc_E c k f b q) : lc_nx c k f b 0 = some q := by
  rcases h.2 with e | e
  · exact e
  · unfold lc_nx at e
    rw [if_neg (by omega), if_neg (by unfold lc_mk at hm; omega)] at e
    cases e
/-- after p, reference q holds what this one held before it; none: a new loan, or nothing -/
def lc_src (k f s : Nat → Nat) (p q : Nat) : Option Nat :=
  if k p = 3 ∨ k p = 4 ∨ k p = 8 then (if q = f p then none else some q)
  else if k p = 5 ∨ k p = 6 then (if q = f p then some (s p) else if k p = 5 ∧ q = s p then none else some q)
  else some q
def lc_OK (c : Nat) (k f s : Nat → Nat) : Prop := c ≤ 24 ∧ ∀ p, p < c → k p ≤ 11 ∧ (k p ≤ 8 → f p < 4) ∧ (3 ≤ k p → k p ≤ 6 → s p < 4)
theorem lc_src_lt {c : Nat} {k f s : Nat → Nat} (O : lc_OK c k f s) {p q r : Nat} (hp : p < c) (hq : q < 4) (h : lc_src k f s p q = some r) : r < 4 := by
  obtain ⟨-, h2, h3⟩ := O.2 p hp
  unfold lc_src at h
  by_cases h1 : k p = 3 ∨ k p = 4 ∨ k p = 8
  · rw [if_pos h1] at h
    by_cases e : q = f p
    · rw [if_pos e] at h; cases h
    · rw [if_neg e] at h; cases h; exact hq
  · rw [if_neg h1] at h
    by_cases h4 : k p = 5 ∨ k p = 6
    · rw [if_pos h4] at h
      by_cases e : q = f p
      · rw [if_pos e] at h; cases h; exact h3 (by omega) (by omega)
      · rw [if_neg e] at h
        by_cases e2 : k p = 5 ∧ q = s p
        · rw [if_pos e2] at h; cases h
        · rw [if_neg e2] at h; cases h; exact hq
    · rw [if_neg h4] at h; cases h; exact hq
/-- a reference that holds nothing behind p, whatever it held -/
def lc_fre (k f s : Nat → Nat) (p q : Nat) : Prop := (k p = 8 ∧ q = f p) ∨ (k p = 5 ∧ q = s p ∧ q ≠ f p)
/-! sets of four -/
def lc_m4 (b : Nat → Bool) : Nat := (b 0).toNat + 2 * (b 1).toNat + 4 * (b 2).toNat + 8 * (b 3).toNat
theorem lc_m4_lt (b : Nat → Bool) : lc_m4 b < 16 := by
  have h := fun i => Bool.toNat_le (b i)
  have := h 0; have := h 1; have := h 2; have := h 3
  unfold lc_m4; omega
theorem lc_m4_c (b0 b1 b2 b3 : Bool) : (b0.toNat + 2 * b1.toNat + 4 * b2.toNat + 8 * b3.toNat).testBit 0 = b0 ∧ (b0.toNat + 2 * b1.toNat + 4 * b2.toNat + 8 * b3.toNat).testBit 1 = b1 ∧ (b0.toNat + 2 * b1.toNat + 4 * b2.toNat + 8 * b3.toNat).testBit 2 = b2 ∧ (b0.toNat + 2 * b1.toNat + 4 * b2.toNat + 8 * b3.toNat).testBit 3 = b3 := by
  cases b0 <;> cases b1 <;> cases b2 <;> cases b3 <;> decide
theorem lc_m4_tb (b : Nat → Bool) {r : Nat} (hr : r < 4) : (lc_m4 b).testBit r = b r := by
  have h := lc_m4_c (b 0) (b 1) (b 2) (b 3)
  unfold lc_m4
  rcases (by omega : r = 0 ∨ r = 1 ∨ r = 2 ∨ r = 3) with e | e | e | e <;> subst e
  · exact h.1
  · exact h.2.1
  · exact h.2.2.1
  · exact h.2.2.2
theorem lc_pw1 : ∀ j, j < 4 → 2 ^ j < 16 := by decide
theorem lc_tb_lt : ∀ S, S < 16 → ∀ r, S.testBit r = true → r < 4 := by
  intro S hS r h
  rcases Nat.lt_or_ge r 4 with z | z
  · exact z
  · have : S < 2 ^ r := Nat.lt_of_lt_of_le hS (Nat.pow_le_pow_right (n := 2) (by decide) z)
    rw [Nat.testBit_lt_two_pow this] at h; cases h
theorem lc_tb_ex : ∀ S, S < 16 → S ≠ 0 → ∃ r, r < 4 ∧ S.testBit r = true := by
  intro S hS h
  have key : ∀ S, S < 16 → S ≠ 0 → (S.testBit 0 = true ∨ S.testBit 1 = true ∨ S.testBit 2 = true ∨ S.testBit 3 = true) := by decide
  rcases key S hS h with e | e | e | e
  · exact ⟨0, by omega, e⟩
  · exact ⟨1, by omega, e⟩
  · exact ⟨2, by omega, e⟩
  · exact ⟨3, by omega, e⟩
theorem lc_tb_ne {S r : Nat} (h : S.testBit r = true) : S ≠ 0 := by
  intro e; rw [e, Nat.zero_testBit] at h; cases h
def lc_ob (S : Nat) : Option Nat → Bool
  | none => false
  | some r => S.testBit r
theorem lc_ob_t {S : Nat} {o : Option Nat} : lc_ob S o = true ↔ ∃ r, o = some r ∧ S.testBit r = true := by
  cases o with
  | none => constructor
            · intro h; cases h
            · rintro ⟨r, e, -⟩; cases e
  | some x => constructor
              · intro h; exact ⟨x, rfl, h⟩
              · rintro ⟨r, e, h⟩; cases e; exact h
/-- behind p: who holds the loan; who holds anything; which owners are full -/
def lc_hB (k f s : Nat → Nat) (p S : Nat) : Nat := lc_m4 (fun q => lc_ob S (lc_src k f s p q))
def lc_hA (k f s : Nat → Nat) (p S : Nat) : Nat := lc_m4 (fun q => if (k p = 3 ∨ k p = 4) ∧ q = f p then true else lc_ob S (lc_src k f s p q))
def lc_hO (k f : Nat → Nat) (p S : Nat) : Nat := lc_m4 (fun q => if k p = 0 ∧ q = f p then true else if k p = 2 ∧ q = f p then false else S.testBit q)
def lc_af (k f s : Nat → Nat) (w p S : Nat) : Nat := if w = 0 then lc_hB k f s p S else if w = 1 then lc_hA k f s p S else lc_hO k f p S
theorem lc_af_lt (k f s : Nat → Nat) (w p S : Nat) : lc_af k f s w p S < 16 := by
  unfold lc_af
  by_cases h : w = 0
  · rw [if_pos h]; exact lc_m4_lt _
  · rw [if_neg h]
    by_cases h1 : w = 1
    · rw [if_pos h1]; exact lc_m4_lt _
    · rw [if_neg h1]; exact lc_m4_lt _
theorem lc_hB_t {k f s : Nat → Nat} {p S q : Nat} (hq : q < 4) : (lc_hB k f s p S).testBit q = true ↔ ∃ r, lc_src k f s p q = some r ∧ S.testBit r = true := by
  unfold lc_hB
  rw [lc_m4_tb _ hq, lc_ob_t]
/-! ===== what may be: reached; held; free; empty; wanted ===== -/
def lc_RX (c : Nat) (k f : Nat → Nat) (p : Nat) : Prop := lc_R (fun x => 0 < c ∧ x = 0) (lc_E c k f) p
def lc_tX (c : Nat) (k f s : Nat → Nat) (x y : Nat × Nat) : Prop := lc_E c k f x.1 y.1 ∧ lc_src k f s x.1 y.2 = some x.2
def lc_HX (c : Nat) (k f s : Nat → Nat) (b : Nat) (x : Nat × Nat) : Prop := lc_R (fun x => lc_mk k b ∧ lc_RX c k f b ∧ lc_E c k f b x.1 ∧ x.2 = f b) (lc_tX c k f s) x
def lc_FX (c : Nat) (k f s : Nat → Nat) (x : Nat × Nat) : Prop := lc_R (fun x => (0 < c ∧ x.1 = 0) ∨ ∃ p, lc_RX c k f p ∧ lc_E c k f p x.1 ∧ lc_fre k f s p x.2) (lc_tX c k f s) x
def lc_EX (c : Nat) (k f : Nat → Nat) (x : Nat × Nat) : Prop := lc_R (fun x => (0 < c ∧ x.1 = 0) ∨ ∃ p, lc_RX c k f p ∧ lc_E c k f p x.1 ∧ k p = 2 ∧ x.2 = f p) (fun x y => lc_E c k f x.1 y.1 ∧ y.2 = x.2 ∧ ¬ (k x.1 = 0 ∧ x.2 = f x.1)) x
def lc_WX (c : Nat) (k f s : Nat → Nat) (x : Nat × Nat) : Prop := lc_R (fun x => x.1 < c ∧ k x.1 = 7 ∧ x.2 = f x.1) (fun x y => lc_tX c k f s y x) x
/-! the reference's situations -/
def lc_tY (c : Nat) (k f s : Nat → Nat) (w : Nat) (x y : Nat × Nat) : Prop := lc_E c k f x.1 y.1 ∧ y.2 = lc_af k f s w x.1 x.2 ∧ (0 < w ∨ y.2 ≠ 0)
def lc_iY (c : Nat) (x : Nat × Nat) : Prop := 0 < c ∧ x = (0, 0)
def lc_iF (c : Nat) (k f : Nat → Nat) (b : Nat) (x : Nat × Nat) : Prop := lc_nx c k f b 0 = some x.1 ∧ x.2 = 2 ^ f b
def lc_Y (c : Nat) (k f s : Nat → Nat) (w : Nat) (x : Nat × Nat) : Prop := lc_R (lc_iY c) (lc_tY c k f s w) x
def lc_Fo (c : Nat) (k f s : Nat → Nat) (b : Nat) (x : Nat × Nat) : Prop := lc_R (lc_iF c k f b) (lc_tY c k f s 0) x
def lc_UY (c : Nat) (k f s : Nat → Nat) (x : Nat × Nat) : Prop := lc_R (fun x => x.1 < c ∧ k x.1 = 7 ∧ x.2.testBit (f x.1) = true) (fun x y => lc_E c k f y.1 x.1 ∧ x.2 = lc_hB k f s y.1 y.2) x
section
variable {c : Nat} {k f s : Nat → Nat}
theorem lc_RX_lt {p : Nat} (h : lc_RX c k f p) : p < c := by
  refine lc_Ri (fun p => p < c) ?_ ?_ h
  · intro x hx; rw [hx.2]; exact hx.1
  · intro x y _ _ e; exact lc_E_r e
theorem lc_RX_s {p q : Nat} (h : lc_RX c k f p) (e : lc_E c k f p q) : lc_RX c k f q := lc_Rs h e
theorem lc_HX_RX {b : Nat} {x : Nat × Nat} (h : lc_HX c k f s b x) : lc_RX c k f x.1 := by
  refine lc_Ri (fun x => lc_RX c k f x.1) ?_ ?_ h
  · rintro x ⟨-, h, e, -⟩; exact lc_RX_s h e
  · intro x y _ h t; exact lc_RX_s h t.1
theorem lc_FX_RX {x : Nat × Nat} (h : lc_FX c k f s x) : lc_RX c k f x.1 := by
  refine lc_Ri (fun x => lc_RX c k f x.1) ?_ ?_ h
  · rintro x (h | ⟨p, h, e, -⟩)
    · exact lc_R0 h
    · exact lc_RX_s h e
  · intro x y _ h t; exact lc_RX_s h t.1
theorem lc_EX_RX {x : Nat × Nat} (h : lc_EX c k f x) : lc_RX c k f x.1 := by
  refine lc_Ri (fun x => lc_RX c k f x.1) ?_ ?_ h
  · rintro x (h | ⟨p, h, e, -⟩)
    · exact lc_R0 h
    · exact lc_RX_s h e
  · intro x y _ h t; exact lc_RX_s h t.1
theorem lc_HX_mk {b : Nat} {x : Nat × Nat} (h : lc_HX c k f s b x) : lc_mk k b ∧ lc_RX c k f b := by
  refine lc_Ri (fun _ => lc_mk k b ∧ lc_RX c k f b) ?_ ?_ h
  · rintro x ⟨h1, h2, -⟩; exact ⟨h1, h2⟩
  · intro x y _ h _; exact h
theorem lc_WX_lt {x : Nat × Nat} (h : lc_WX c k f s x) : x.1 < c := by
  refine lc_Ri (fun x => x.1 < c) ?_ ?_ h
  · rintro x ⟨h, -⟩; exact h
  · intro x y _ _ t; exact t.1.1
theorem lc_Y_S {w : Nat} {x : Nat × Nat} (h : lc_Y c k f s w x) : x.1 < c ∧ x.2 < 16 := by
  refine lc_Ri (fun x => x.1 < c ∧ x.2 < 16) ?_ ?_ h
  · rintro x ⟨h, e⟩; rw [e]; exact ⟨h, by decide⟩
  · rintro x y _ _ ⟨t1, t2, -⟩; rw [t2]; exact ⟨lc_E_r t1, lc_af_lt _ _ _ _ _ _⟩
theorem lc_Fo_S (O : lc_OK c k f s) {b : Nat} (hb : b < c) (hm : lc_mk k b) {x : Nat × Nat} (h : lc_Fo c k f s b x) : x.1 < c ∧ x.2 < 16 := by
  refine lc_Ri (fun x => x.1 < c ∧ x.2 < 16) ?_ ?_ h
  · rintro x ⟨h, e⟩; rw [e]
    have := (O.2 b hb).2.1 (by unfold lc_mk at hm; omega)
    exact ⟨lc_nx_lt h, lc_pw1 _ this⟩
  · rintro x y _ _ ⟨t1, t2, -⟩; rw [t2]; exact ⟨lc_E_r t1, lc_af_lt _ _ _ _ _ _⟩
theorem lc_Fo_ne {b : Nat} {x : Nat × Nat} (h : lc_Fo c k f s b x) : x.2 ≠ 0 := by
  refine lc_Ri (fun x => x.2 ≠ 0) ?_ ?_ h
  · rintro x ⟨-, e⟩; rw [e]; exact Nat.ne_of_gt (Nat.two_pow_pos _)
  · rintro x y _ _ ⟨_, _, h⟩; rcases h with h | h
    · exact absurd h (by omega)
    · exact h
/-! the links -/
theorem lc_L1 (w : Nat) (hw : 0 < w) {p : Nat} : lc_RX c k f p ↔ ∃ S, lc_Y c k f s w (p, S) := by
  constructor
  · intro h
    refine lc_Ri (fun p => ∃ S, lc_Y c k f s w (p, S)) ?_ ?_ h
    · rintro x ⟨h, rfl⟩; exact ⟨0, lc_R0 ⟨h, rfl⟩⟩
    · rintro x y _ ⟨S, hS⟩ e
      exact ⟨lc_af k f s w x S, lc_Rs hS ⟨e, rfl, Or.inl hw⟩⟩
  · rintro ⟨S, h⟩
    refine lc_Ri (fun x : Nat × Nat => lc_RX c k f x.1) ?_ ?_ h
    · rintro x ⟨h, rfl⟩; exact lc_R0 ⟨h, rfl⟩
    · intro x y _ h t; exact lc_RX_s h t.1
theorem lc_L2 (O : lc_OK c k f s) {b p r : Nat} (hr : r < 4) : lc_HX c k f s b (p, r) ↔ lc_mk k b ∧ lc_RX c k f b ∧ ∃ S, lc_Fo c k f s b (p, S) ∧ S.testBit r = true := by
  constructor
  · intro h
    refine ⟨(lc_HX_mk h).1, (lc_HX_mk h).2, ?_⟩
    have key : ∀ x : Nat × Nat, lc_HX c k f s b x → x.2 < 4 → ∃ S, lc_Fo c k f s b (x.1, S) ∧ S.testBit x.2 = true := by
      intro x hx
      refine lc_Ri (fun x : Nat × Nat => x.2 < 4 → ∃ S, lc_Fo c k f s b (x.1, S) ∧ S.testBit x.2 = true) ?_ ?_ hx
      · rintro x ⟨hm, -, e, hx⟩ -
        refine ⟨2 ^ f b, lc_R0 ⟨lc_E_mk hm e, rfl⟩, ?_⟩
        rw [hx, Nat.testBit_two_pow_self]
      · rintro x y _ ih ⟨e, hs⟩ hy
        obtain ⟨S, hS, hb⟩ := ih (lc_src_lt O e.1 hy hs)
        have hB : (lc_hB k f s x.1 S).testBit y.2 = true := (lc_hB_t hy).mpr ⟨_, hs, hb⟩
        exact ⟨lc_hB k f s x.1 S, lc_Rs hS ⟨e, by simp [lc_af], Or.inr (lc_tb_ne hB)⟩, hB⟩
    exact key _ h hr
  · rintro ⟨hm, hR, S, hS, hb⟩
    have hbc := lc_RX_lt hR
    have key : ∀ x : Nat × Nat, lc_Fo c k f s b x → ∀ r, x.2.testBit r = true → lc_HX c k f s b (x.1, r) := by
      intro x hx
      refine lc_Ri (fun x : Nat × Nat => ∀ r, x.2.testBit r = true → lc_HX c k f s b (x.1, r)) ?_ ?_ hx
      · rintro x ⟨h, e⟩ r hr
        rw [e] at hr
        have : r = f b := by
          rw [Nat.testBit_two_pow] at hr
          exact (of_decide_eq_true hr).symm
        exact lc_R0 ⟨hm, hR, ⟨hbc, Or.inl h⟩, this⟩
      · rintro x y hx ih ⟨e, h2, -⟩ r hr
        have h4 : r < 4 := lc_tb_lt y.2 (by rw [h2]; exact lc_af_lt _ _ _ _ _ _) r hr
        have e2 : y.2 = lc_hB k f s x.1 x.2 := by rw [h2]; simp [lc_af]
        rw [e2, lc_hB_t h4] at hr
        obtain ⟨r0, hs, h0⟩ := hr
        exact lc_Rs (ih r0 h0) ⟨e, hs⟩
    exact key _ hS r hb
theorem lc_hA_f {k f s : Nat → Nat} {p S q : Nat} (hq : q < 4) : (lc_hA k f s p S).testBit q = false ↔ (lc_fre k f s p q ∨ ∃ r, lc_src k f s p q = some r ∧ S.testBit r = false) := by
  unfold lc_hA lc_fre lc_src
  rw [lc_m4_tb _ hq]
  by_cases h1 : k p = 3 ∨ k p = 4 ∨ k p = 8
  · by_cases e : q = f p
    · by_cases h8 : k p = 8
      · simp [h8, e, lc_ob]
      · have h34 : k p = 3 ∨ k p = 4 := by omega
        have h5 : ¬ k p = 5 := by omega
        simp [h1, e, h34, h8, h5, lc_ob]
    · have h5 : ¬ k p = 5 := by omega
      simp [h1, e, h5, lc_ob]
  · have h34 : ¬ (k p = 3 ∨ k p = 4) := by omega
    have h8 : ¬ k p = 8 := by omega
    by_cases h5 : k p = 5
    · by_cases e : q = f p
      · simp [h5, e, lc_ob]
      · by_cases e2 : q = s p
        · subst e2
          simp [h5, e, lc_ob]
        · simp [h5, e, e2, lc_ob]
    · by_cases h6 : k p = 6
      · by_cases e : q = f p
        · simp [h6, e, lc_ob]
        · simp [h6, e, lc_ob]
      · simp [h1, h34, h8, h5, h6, lc_ob]
theorem lc_L3 (O : lc_OK c k f s) {p r : Nat} (hr : r < 4) : lc_FX c k f s (p, r) ↔ ∃ S, lc_Y c k f s 1 (p, S) ∧ S.testBit r = false := by
  constructor
  · intro h
    have key : ∀ x : Nat × Nat, lc_FX c k f s x → x.2 < 4 → ∃ S, lc_Y c k f s 1 (x.1, S) ∧ S.testBit x.2 = false := by
      intro x hx
      refine lc_Ri (fun x : Nat × Nat => x.2 < 4 → ∃ S, lc_Y c k f s 1 (x.1, S) ∧ S.testBit x.2 = false) ?_ ?_ hx
      · rintro x (⟨h0, e⟩ | ⟨p, hp, e, hf⟩) hx
        · exact ⟨0, lc_R0 ⟨h0, by rw [e]⟩, Nat.zero_testBit _⟩
        · obtain ⟨S, hS⟩ := (lc_L1 1 (by decide) (s := s)).mp hp
          exact ⟨lc_hA k f s p S, lc_Rs hS ⟨e, by simp [lc_af], Or.inl (by decide)⟩, (lc_hA_f hx).mpr (Or.inl hf)⟩
      · rintro x y _ ih ⟨e, hs⟩ hy
        obtain ⟨S, hS, hb⟩ := ih (lc_src_lt O e.1 hy hs)
        exact ⟨lc_hA k f s x.1 S, lc_Rs hS ⟨e, by simp [lc_af], Or.inl (by decide)⟩, (lc_hA_f hy).mpr (Or.inr ⟨_, hs, hb⟩)⟩
    exact key _ h hr
  · rintro ⟨S, hS, hb⟩
    have key : ∀ x : Nat × Nat, lc_Y c k f s 1 x → ∀ r, r < 4 → x.2.testBit r = false → lc_FX c k f s (x.1, r) := by
      intro x hx
      refine lc_Ri (fun x : Nat × Nat => ∀ r, r < 4 → x.2.testBit r = false → lc_FX c k f s (x.1, r)) ?_ ?_ hx
      · rintro x ⟨h, e⟩ r hr _
        exact lc_R0 (Or.inl ⟨h, by rw [e]⟩)
      · rintro x y hx ih ⟨e, h2, -⟩ r hr hb
        have e2 : y.2 = lc_hA k f s x.1 x.2 := by rw [h2]; simp [lc_af]
        rw [e2, lc_hA_f hr] at hb
        rcases hb with hf | ⟨r0, hs, h0⟩
        · exact lc_R0 (Or.inr ⟨x.1, (lc_L1 1 (by decide) (s := s)).mpr ⟨x.2, hx⟩, e, hf⟩)
        · exact lc_Rs (ih r0 (lc_src_lt O e.1 hr hs) h0) ⟨e, hs⟩
    exact key _ hS r hr hb
theorem lc_hO_f {k f : Nat → Nat} {p S q : Nat} (hq : q < 4) : (lc_hO k f p S).testBit q = false ↔ ((k p = 2 ∧ q = f p) ∨ (S.testBit q = false ∧ ¬ (k p = 0 ∧ q = f p))) := by
  unfold lc_hO
  rw [lc_m4_tb _ hq]
  by_cases e : q = f p
  · by_cases h0 : k p = 0
    · simp [h0, e]
    · by_cases h2 : k p = 2
      · simp [h2, e]
      · simp [h0, h2, e]
  · simp [e]
theorem lc_L4 {p r : Nat} (hr : r < 4) : lc_EX c k f (p, r) ↔ ∃ S, lc_Y c k f s 2 (p, S) ∧ S.testBit r = false := by
  constructor
  · intro h
    have key : ∀ x : Nat × Nat, lc_EX c k f x → x.2 < 4 → ∃ S, lc_Y c k f s 2 (x.1, S) ∧ S.testBit x.2 = false := by
      intro x hx
      refine lc_Ri (fun x : Nat × Nat => x.2 < 4 → ∃ S, lc_Y c k f s 2 (x.1, S) ∧ S.testBit x.2 = false) ?_ ?_ hx
      · rintro x (⟨h0, e⟩ | ⟨p, hp, e, hf⟩) hx
        · exact ⟨0, lc_R0 ⟨h0, by rw [e]⟩, Nat.zero_testBit _⟩
        · obtain ⟨S, hS⟩ := (lc_L1 2 (by decide) (s := s)).mp hp
          exact ⟨lc_hO k f p S, lc_Rs hS ⟨e, by simp [lc_af], Or.inl (by decide)⟩, (lc_hO_f hx).mpr (Or.inl hf)⟩
      · rintro x y _ ih ⟨e, h2, h3⟩ hy
        rw [h2] at hy
        obtain ⟨S, hS, hb⟩ := ih hy
        refine ⟨lc_hO k f x.1 S, lc_Rs hS ⟨e, by simp [lc_af], Or.inl (by decide)⟩, ?_⟩
        rw [h2]
        exact (lc_hO_f hy).mpr (Or.inr ⟨hb, h3⟩)
    exact key _ h hr
  · rintro ⟨S, hS, hb⟩
    have key : ∀ x : Nat × Nat, lc_Y c k f s 2 x → ∀ r, r < 4 → x.2.testBit r = false → lc_EX c k f (x.1, r) := by
      intro x hx
      refine lc_Ri (fun x : Nat × Nat => ∀ r, r < 4 → x.2.testBit r = false → lc_EX c k f (x.1, r)) ?_ ?_ hx
      · rintro x ⟨h, e⟩ r hr _
        exact lc_R0 (Or.inl ⟨h, by rw [e]⟩)
      · rintro x y hx ih ⟨e, h2, -⟩ r hr hb
        have e2 : y.2 = lc_hO k f x.1 x.2 := by rw [h2]; simp [lc_af]
        rw [e2, lc_hO_f hr] at hb
        rcases hb with hf | ⟨h0, hn⟩
        · exact lc_R0 (Or.inr ⟨x.1, (lc_L1 2 (by decide) (s := s)).mpr ⟨x.2, hx⟩, e, hf⟩)
        · exact lc_Rs (ih r hr h0) ⟨e, rfl, hn⟩
    exact key _ hS r hr hb
theorem lc_L5 (O : lc_OK c k f s) {p S : Nat} (hS : S < 16) : lc_UY c k f s (p, S) ↔ ∃ r, r < 4 ∧ S.testBit r = true ∧ lc_WX c k f s (p, r) := by
  constructor
  · intro h
    have key : ∀ x : Nat × Nat, lc_UY c k f s x → ∃ r, r < 4 ∧ x.2.testBit r = true ∧ lc_WX c k f s (x.1, r) := by
      intro x hx
      refine lc_Ri (fun x : Nat × Nat => ∃ r, r < 4 ∧ x.2.testBit r = true ∧ lc_WX c k f s (x.1, r)) ?_ ?_ hx
      · rintro x ⟨h0, h7, ht⟩
        exact ⟨f x.1, (O.2 x.1 h0).2.1 (by omega), ht, lc_R0 ⟨h0, h7, rfl⟩⟩
      · rintro x y _ ⟨r, hr, ht, hw⟩ ⟨e, h2⟩
        rw [h2, lc_hB_t hr] at ht
        obtain ⟨r0, hs, h0⟩ := ht
        exact ⟨r0, lc_src_lt O e.1 hr hs, h0, lc_Rs hw ⟨e, hs⟩⟩
    exact key _ h
  · rintro ⟨r, hr, ht, hw⟩
    have key : ∀ x : Nat × Nat, lc_WX c k f s x → x.2 < 4 ∧ ∀ S, S.testBit x.2 = true → lc_UY c k f s (x.1, S) := by
      intro x hx
      refine lc_Ri (fun x : Nat × Nat => x.2 < 4 ∧ ∀ S, S.testBit x.2 = true → lc_UY c k f s (x.1, S)) ?_ ?_ hx
      · rintro x ⟨h0, h7, e⟩
        refine ⟨by rw [e]; exact (O.2 x.1 h0).2.1 (by omega), fun S ht => lc_R0 ⟨h0, h7, by rw [← e]; exact ht⟩⟩
      · rintro x y _ ⟨hx, ih⟩ ⟨e, hs⟩
        refine ⟨lc_src_lt O e.1 hx hs, fun S ht => ?_⟩
        exact lc_Rs (ih (lc_hB k f s y.1 S) ((lc_hB_t hx).mpr ⟨_, hs, ht⟩)) ⟨e, rfl⟩
    exact (key _ hw).2 S ht
theorem lc_WX4 (O : lc_OK c k f s) {x : Nat × Nat} (h : lc_WX c k f s x) : x.2 < 4 := by
  refine lc_Ri (fun x : Nat × Nat => x.2 < 4) ?_ ?_ h
  · rintro x ⟨h0, h7, e⟩; rw [e]; exact (O.2 x.1 h0).2.1 (by omega)
  · rintro x y _ hx ⟨e, hs⟩; exact lc_src_lt O e.1 hx hs
end
end
section
/-! ===== bits ===== -/
theorem lc_b1 : ∀ i, i < 32 → bt 1 i = decide (i = 0) := by decide +kernel
theorem lc_b24 : ∀ i, i < 32 → bt 16777216 i = decide (i = 24) := by decide +kernel
theorem lc_blo : ∀ i, i < 32 → bt 16777215 i = decide (i < 24) := by decide +kernel
theorem lc_b15 : ∀ i, i < 32 → bt 15 i = decide (i < 4) := by decide +kernel
theorem lc_one {b i : Nat} (hb : b < 32) (hi : i < 32) : bt ((1 : Int32) <<< (nI b &&& 31)) i = decide (i = b) := by
  rw [b_shl b hb 1 hi, lc_b1 (i - b) (by omega)]
  rcases Nat.lt_trichotomy i b with h | h | h
  · rw [decide_eq_false (show ¬ b ≤ i by omega), decide_eq_false (show ¬ i = b by omega)]; rfl
  · subst h; simp
  · rw [decide_eq_false (show ¬ i - b = 0 by omega), decide_eq_false (show ¬ i = b by omega)]; simp
theorem lc_bv (x : Int32) {r : Nat} (hr : r < 32) : (x >>> (nI r &&& 31)) &&& 1 = if bt x r = true then 1 else 0 := by
  apply b_ext
  intro i hi
  rw [b_and, b_sshr r hr x hi, lc_b1 i hi]
  by_cases h : i = 0
  · subst h
    rw [if_pos (show r + 0 < 32 by omega)]
    cases hb : bt x r <;> simp [hb] <;> decide
  · rw [decide_eq_false h, Bool.and_false]
    by_cases hb : bt x r = true
    · rw [if_pos hb, lc_b1 i hi, decide_eq_false h]
    · rw [if_neg hb, b_0]
theorem lc_bt1 {x : Int32} {r : Nat} (hr : r < 32) : (x >>> (nI r &&& 31)) &&& 1 = 1 ↔ bt x r = true := by
  rw [lc_bv x hr]
  by_cases hb : bt x r = true
  · simp [hb]
  · rw [if_neg hb]; exact ⟨fun h => absurd h (by decide), fun h => absurd h hb⟩
theorem lc_bt0 {x : Int32} {r : Nat} (hr : r < 32) : (x >>> (nI r &&& 31)) &&& 1 = 0 ↔ bt x r = false := by
  rw [lc_bv x hr]
  by_cases hb : bt x r = true
  · rw [if_pos hb, hb]; exact ⟨fun h => absurd h (by decide), fun h => by cases h⟩
  · rw [if_neg hb]; exact ⟨fun _ => Bool.eq_false_iff.mpr hb, fun _ => rfl⟩
theorem lc_clr (x m : Int32) {i : Nat} (hi : i < 32) : bt (x &&& (m ^^^ (-1))) i = (bt x i && !bt m i) := by
  rw [b_and, b_xor, b_m1 i hi, Bool.xor_true]
theorem lc_zero {x : Int32} (h : ∀ i, i < 32 → bt x i = false) : x = 0 := b_ext fun i hi => by rw [h i hi, b_0]
theorem lc_and24 {x : Int32} : x &&& 16777216 = 0 ↔ bt x 24 = false := by
  constructor
  · intro h
    have e := b_and x 16777216 24
    rw [h, b_0, lc_b24 24 (by decide)] at e
    cases hb : bt x 24
    · rfl
    · rw [hb] at e; exact absurd e (by decide)
  · intro h
    apply lc_zero
    intro i hi
    rw [b_and, lc_b24 i hi]
    by_cases e : i = 24
    · subst e; rw [h]; rfl
    · rw [decide_eq_false e, Bool.and_false]
theorem lc_diff {x y : Int32} (h : x ≠ y) : ∃ i, i < 32 ∧ bt x i ≠ bt y i := by
  apply Classical.byContradiction
  intro hn
  apply h
  apply b_ext
  intro i hi
  apply Classical.byContradiction
  intro he
  exact hn ⟨i, hi, he⟩
theorem lc_nIt (S : Nat) {i : Nat} (hi : i < 32) : bt (nI S) i = S.testBit i := by
  show (BitVec.ofNat 32 S).getLsbD i = _
  rw [BitVec.getLsbD_ofNat, decide_eq_true hi, Bool.true_and]
theorem lc_beq {x y : Int32} (h : ∀ i, i < 32 → (bt x i = true ↔ bt y i = true)) : x = y := b_ext fun i hi => by
  have := h i hi
  cases hx : bt x i <;> cases hy : bt y i <;> simp_all
/-! numbers -/
theorem lc_i4 (p r : Nat) : (4 * nI p) + nI r = nI (4 * p + r) := by
  rw [show (4 : Int32) = nI 4 from rfl, pk_mul, nI_add]
theorem lc_i16 (p r : Nat) : (16 * nI p) + nI r = nI (16 * p + r) := by
  rw [show (16 : Int32) = nI 16 from rfl, pk_mul, nI_add]
theorem lc_m16 (p : Nat) : 16 * nI p = nI (16 * p) := by
  rw [show (16 : Int32) = nI 16 from rfl, pk_mul]
theorem lc_d16 {n : Nat} (h : n < 2 ^ 31) : nI n / 16 = nI (n / 16) := pk_div h (d := 16) (by decide) (by decide)
theorem lc_r16 {n : Nat} (h : n < 2 ^ 31) : nI n - nI n / 16 * 16 = nI (n % 16) := pk_rem h (d := 16) (by decide) (by decide)
theorem lc_and3 {n : Nat} (h : n < 4) : nI n &&& 3 = nI n := by
  rw [pk_andN (by omega) 2 (by decide), Nat.mod_eq_of_lt (by omega)]
def lc_oI : Option Nat → Int32
  | none => -1
  | some q => nI q
theorem lc_oI_s (q : Nat) : lc_oI (some q) = nI q := rfl
theorem lc_neg1 {q : Nat} (h : q < 2 ^ 31) : ¬ nI q = -1 := by
  intro e
  have := congrArg Int32.toInt e
  rw [nI_toInt h, show (-1 : Int32).toInt = -1 by decide] at this
  omega
theorem lc_nar1 : vp_nar .boolean 1 = 1 := by decide
theorem lc_nar0 : vp_nar .boolean 0 = 0 := by decide
theorem lc_f0 : fits .boolean (.int 0) = true := by decide
theorem lc_f1 : fits .boolean (.int 1) = true := by decide
/-! the two programs' texts against the naturals -/
def lc_V (c : Nat) (k f s : Nat → Nat) (K F S : Nat → Int32) : Prop := c ≤ 24 ∧ ∀ p, p < c → K p = nI (k p) ∧ k p ≤ 11 ∧ (k p ≤ 10 → F p = nI (f p) ∧ f p ≤ 24) ∧ (k p ≤ 8 → f p < 4) ∧ (3 ≤ k p → k p ≤ 6 → S p = nI (s p) ∧ s p < 4)
theorem lc_V_OK {c : Nat} {k f s : Nat → Nat} {K F S : Nat → Int32} (V : lc_V c k f s K F S) : lc_OK c k f s :=
  ⟨V.1, fun p hp => ⟨(V.2 p hp).2.1, (V.2 p hp).2.2.2.1, fun h1 h2 => ((V.2 p hp).2.2.2.2 h1 h2).2⟩⟩
theorem lc_Vp {c : Nat} {k f s : Nat → Nat} {K F S : Nat → Int32} (V : lc_V c k f s K F S) {p : Nat} (hp : p < c) : p < 24 ∧ (nI p).toNatClampNeg = p ∧ vp_in (nI p) 24 ∧ K (nI p).toNatClampNeg = nI (k p) ∧ k p ≤ 11 ∧ (k p ≤ 10 → F (nI p).toNatClampNeg = nI (f p) ∧ f p ≤ 24) ∧ (k p ≤ 8 → f p < 4) ∧ (3 ≤ k p → k p ≤ 6 → S (nI p).toNatClampNeg = nI (s p) ∧ s p < 4) := by
  have h := V.2 p hp
  have hc := V.1
  have e : (nI p).toNatClampNeg = p := nI_clamp (by omega)
  rw [e]
  exact ⟨by omega, rfl, vp_in_nI (by omega) (by decide), h⟩
end
section
/-! ===== the component's small methods ===== -/
section
variable {c : Nat} {k f s : Nat → Nat} {st gr qd : Int32} {K F S R H E WB WA HN D Q : Nat → Int32}
theorem lx_b50 {post : Int32 → Prop} {t : Nat} (hc : c < 2 ^ 31) (ht : t < 2 ^ 31) (h : post (lc_oI (lc_lt c t))) : wX_behind_50 post (nI t) (nI c) st gr qd K F S R H E WB WA HN D Q := by
  unfold wX_behind_50
  exact pk_le c t (fun z => ek_v (P := post) (by simp [lc_lt, Nat.not_lt.mpr z, lc_oI]) h) (fun z => ek_v (P := post) (by simp [lc_lt, z, lc_oI]) h)
theorem lx_behind (V : lc_V c k f s K F S) {p i : Nat} (hp : p < c) (hi : i < 2) {post : Int32 → Prop} (h : post (lc_oI (lc_nx c k f p i))) : wpX_behind post (nI c, st, gr, qd, K, F, S, R, H, E, WB, WA, HN, D, Q) (nI p) (nI i) := by
  have hc := V.1
  obtain ⟨hp24, -, hin, hK, h11, hF, -, -⟩ := lc_Vp V hp
  unfold wpX_behind
  dsimp only
  refine ⟨hin, nm_r hK (nm_r (nI_1 p) ?_)⟩
  refine pk_eq (k p) 11 (fun e => ?_) (fun e => ?_)
  · exact ek_v (P := post) (by simp [lc_nx, e, lc_oI]) h
  · have h42 : (k p = 9 ∧ i = 0) ∨ (k p = 10 ∧ i = 1) → wX_behind_42 post (nI p) (nI c) st gr qd K F S R H E WB WA HN D Q := by
      intro hh
      obtain ⟨eF, h24⟩ := hF (by omega)
      unfold wX_behind_42
      refine ⟨hin, nm_r eF (lx_b50 (by omega) (by omega) ?_)⟩
      rcases hh with ⟨h9, h0⟩ | ⟨h10, h1⟩
      · exact ek_v (P := post) (by simp [lc_nx, h9, h0]) h
      · exact ek_v (P := post) (by simp [lc_nx, h10, h1]) h
    refine pk_eq i 1 (fun ei => ?_) (fun ei => ?_)
    · refine pk_eq (k p) 10 (fun e10 => ?_) (fun e10 => ?_)
      · unfold wX_behind_31
        exact pk_eq (k p) 9 (fun z => by omega) (fun _ => pk_eq i 1 (fun _ => h42 (Or.inr ⟨e10, ei⟩)) (fun z => absurd ei z))
      · exact ek_v (P := post) (by simp [lc_nx, e10, ei, lc_oI]) h
    · unfold wX_behind_31
      refine pk_eq (k p) 9 (fun e9 => h42 (Or.inl ⟨e9, by omega⟩)) (fun e9 => pk_eq i 1 (fun z => absurd z ei) (fun _ => lx_b50 (by omega) (by omega) ?_))
      exact ek_v (P := post) (by simp [lc_nx, e, e9, (by omega : i = 0)]) h
theorem lx_makes (V : lc_V c k f s K F S) {p : Nat} (hp : p < c) {post : Int32 → Prop} (h1 : lc_mk k p → post 1) (h0 : ¬ lc_mk k p → post 0) : wpX_makesLoan post (nI c, st, gr, qd, K, F, S, R, H, E, WB, WA, HN, D, Q) (nI p) := by
  obtain ⟨hp24, -, hin, hK, h11, -⟩ := lc_Vp V hp
  unfold wpX_makesLoan
  dsimp only
  exact ⟨hin, pk_eq (k p) 3 (fun e => h1 (Or.inl e)) (fun e => ⟨hin, pk_eq (k p) 4 (fun e2 => h1 (Or.inr e2)) (fun e2 => h0 (fun z => z.elim e e2)) hK⟩) hK⟩
/-- the owner that a point writes or reads -/
def lc_ow (k f s : Nat → Nat) (p : Nat) : Option Nat := if k p ≤ 2 then some (f p) else if k p ≤ 4 then some (s p) else none
theorem lc_ow1 {k f s : Nat → Nat} {p : Nat} (h : k p ≤ 2) : lc_oI (lc_ow k f s p) = nI (f p) := by unfold lc_ow; rw [if_pos h]; rfl
theorem lc_ow2 {k f s : Nat → Nat} {p : Nat} (h : 3 ≤ k p) (h4 : k p ≤ 4) : lc_oI (lc_ow k f s p) = nI (s p) := by unfold lc_ow; rw [if_neg (by omega), if_pos h4]; rfl
theorem lc_ow3 {k f s : Nat → Nat} {p : Nat} (h : 5 ≤ k p) : lc_oI (lc_ow k f s p) = -1 := by unfold lc_ow; rw [if_neg (by omega), if_neg (by omega)]; rfl
theorem lx_ownerOf (V : lc_V c k f s K F S) {p : Nat} (hp : p < c) {post : Int32 → Prop} (h : post (lc_oI (lc_ow k f s p))) : wpX_ownerOf post (nI c, st, gr, qd, K, F, S, R, H, E, WB, WA, HN, D, Q) (nI p) := by
  obtain ⟨hp24, -, hin, hK, h11, hF, -, hS⟩ := lc_Vp V hp
  unfold wpX_ownerOf
  dsimp only
  refine ⟨hin, pk_lt 2 (k p) (fun e => ?_) (fun e => ?_) rfl hK⟩
  · refine lx_makes V hp (fun hm => ?_) (fun hm => ?_)
    · refine br_f (by decide) ⟨hin, ?_⟩
      unfold lc_mk at hm
      rw [(hS (by omega) (by omega)).1]
      exact ek_v (P := post) (lc_ow2 (by omega) (by omega)).symm h
    · refine br_t rfl ?_
      unfold lc_mk at hm
      exact ek_v (P := post) (lc_ow3 (by omega)).symm h
  · refine ⟨hin, ?_⟩
    rw [(hF (by omega)).1]
    exact ek_v (P := post) (lc_ow1 (by omega)).symm h
def lc_wr (k : Nat → Nat) (p : Nat) : Prop := k p = 0 ∨ k p = 2 ∨ k p = 4
theorem lx_writes (V : lc_V c k f s K F S) {p : Nat} (hp : p < c) {post : Int32 → Prop} (h1 : lc_wr k p → post 1) (h0 : ¬ lc_wr k p → post 0) : wpX_writes post (nI c, st, gr, qd, K, F, S, R, H, E, WB, WA, HN, D, Q) (nI p) := by
  obtain ⟨hp24, -, hin, hK, h11, -⟩ := lc_Vp V hp
  unfold wpX_writes
  dsimp only
  exact ⟨hin, pk_eq (k p) 0 (fun e => h1 (Or.inl e)) (fun e => ⟨hin, pk_eq (k p) 2 (fun e2 => h1 (Or.inr (Or.inl e2))) (fun e2 => ⟨hin, pk_eq (k p) 4 (fun e3 => h1 (Or.inr (Or.inr e3))) (fun e3 => h0 (fun z => z.elim e (fun z => z.elim e2 e3))) hK⟩) hK⟩) hK⟩
/-- what is done at p stands against a loan made at b -/
def lc_Ag (k f s : Nat → Nat) (p b : Nat) : Prop := lc_mk k b ∧ lc_ow k f s p = some (s b) ∧ (lc_wr k p ∨ k b = 4)
theorem lc_ow_lt {c : Nat} {k f s : Nat → Nat} (O : lc_OK c k f s) {p o : Nat} (hp : p < c) (h : lc_ow k f s p = some o) : o < 4 := by
  obtain ⟨-, h2, h3⟩ := O.2 p hp
  unfold lc_ow at h
  by_cases e : k p ≤ 2
  · rw [if_pos e] at h; cases h; exact h2 (by omega)
  · rw [if_neg e] at h
    by_cases e4 : k p ≤ 4
    · rw [if_pos e4] at h; cases h; exact h3 (by omega) (by omega)
    · rw [if_neg e4] at h; cases h
theorem lx_d35 {post : Int32 → Prop} {x y : Int32} (h : post 0) : wX_disturbs_35 post x y (nI c) st gr qd K F S R H E WB WA HN D Q := by
  unfold wX_disturbs_35 wX_disturbs_36
  exact br_t rfl h
theorem lx_disturbs (V : lc_V c k f s K F S) {p b : Nat} (hp : p < c) (hb : b < c) {post : Int32 → Prop} (h1 : lc_Ag k f s p b → post 1) (h0 : ¬ lc_Ag k f s p b → post 0) : wpX_disturbs post (nI c, st, gr, qd, K, F, S, R, H, E, WB, WA, HN, D, Q) (nI p) (nI b) := by
  obtain ⟨hb24, -, hinb, hKb, hb11, hFb, -, hSb⟩ := lc_Vp V hb
  have O := lc_V_OK V
  unfold wpX_disturbs
  dsimp only
  refine lx_makes V hb (fun hm => br_f (by decide) ?_) (fun hm => br_t rfl (lx_d35 (h0 (fun z => hm z.1))))
  refine lx_ownerOf V hp ?_
  cases ho : lc_ow k f s p with
  | none => exact br_t rfl (lx_d35 (h0 (fun z => by have := z.2.1; rw [ho] at this; cases this)))
  | some o =>
    have ho4 := lc_ow_lt O hp ho
    refine br_f (lc_neg1 (by omega)) ?_
    refine lx_ownerOf V hp ?_
    rw [ho]
    refine ⟨hinb, ?_⟩
    obtain ⟨eS, s4⟩ := hSb (by unfold lc_mk at hm; omega) (by unfold lc_mk at hm; omega)
    refine pk_eq o (s b) (fun e => ?_) (fun e => lx_d35 (h0 (fun z => by have := z.2.1; rw [ho] at this; cases this; exact e rfl))) rfl eS
    unfold wX_disturbs_36
    refine br_f (by decide) ?_
    have hsm : lc_ow k f s p = some (s b) := by rw [ho, e]
    refine lx_writes V hp (fun hw => br_f (by decide) (h1 ⟨hm, hsm, Or.inl hw⟩)) (fun hw => br_t rfl ⟨hinb, pk_eq (k b) 4 (fun e4 => h1 ⟨hm, hsm, Or.inr e4⟩) (fun e4 => h0 (fun z => z.2.2.elim hw e4)) hKb⟩)
theorem lx_badPoint {post : Int32 → Prop} {x : Int32} (hc : c < 2 ^ 31) (h0 : ∀ p, p < c → x = nI p → post 0) (h1 : (∀ p, p < c → ¬ x = nI p) → post 1) : wpX_badPoint post (nI c, st, gr, qd, K, F, S, R, H, E, WB, WA, HN, D, Q) x := by
  unfold wpX_badPoint
  dsimp only
  refine br_c (fun z => h1 (fun p hp e => ?_)) (fun z => ?_)
  · rw [e] at z; exact nI_pos (by omega) z
  · obtain ⟨j, hj, rfl⟩ := nI_of z
    exact pk_lt j c (fun e => h0 j e rfl) (fun e => h1 (fun p hp z => by rw [nI_eq hj (by omega)] at z; omega))
theorem lx_badRef {post : Int32 → Prop} {x : Int32} (h0 : ∀ p, p < 4 → x = nI p → post 0) (h1 : (∀ p, p < 4 → ¬ x = nI p) → post 1) : wpX_badReference post (nI c, st, gr, qd, K, F, S, R, H, E, WB, WA, HN, D, Q) x := by
  unfold wpX_badReference
  dsimp only
  refine br_c (fun z => h1 (fun p hp e => ?_)) (fun z => ?_)
  · rw [e] at z; exact nI_pos (by omega) z
  · obtain ⟨j, hj, rfl⟩ := nI_of z
    exact pk_lt j 4 (fun e => h0 j e rfl) (fun e => h1 (fun p hp z => by rw [nI_eq hj (by omega)] at z; omega))
theorem lx_emptyAfter (V : lc_V c k f s K F S) {p : Nat} (hp : p < c) {post : Int32 → Prop} (h : ∀ em, (∀ o, o < 32 → (bt em o = true ↔ (k p = 2 ∧ o = f p) ∨ (bt (E p) o = true ∧ ¬ (k p = 0 ∧ o = f p)))) → post em) : wpX_emptyAfter post (nI c, st, gr, qd, K, F, S, R, H, E, WB, WA, HN, D, Q) (nI p) := by
  obtain ⟨hp24, hcl, hin, hK, h11, hF, hf4, -⟩ := lc_Vp V hp
  unfold wpX_emptyAfter
  dsimp only
  refine ⟨hin, nm_e ⟨hin, pk_eq (k p) 0 (fun e => ⟨hin, h _ ?_⟩) (fun e => ⟨hin, pk_eq (k p) 2 (fun e2 => ⟨hin, h _ ?_⟩) (fun e2 => ⟨hin, h _ ?_⟩) hK⟩) hK⟩⟩
  · intro o ho
    have f4 := hf4 (by omega)
    rw [(hF (by omega)).1, hcl, lc_and3 f4, lc_clr _ _ ho, lc_one (by omega) ho]
    by_cases z : o = f p
    · simp [z, e]
    · simp [z, e]
  · intro o ho
    have f4 := hf4 (by omega)
    rw [(hF (by omega)).1, hcl, lc_and3 f4, b_or, lc_one (by omega) ho]
    by_cases z : o = f p
    · simp [z, e2]
    · simp [z]
  · intro o ho
    rw [hcl]
    simp [e, e2]
/-! wanted, one point back -/
def lc_th (k f s : Nat → Nat) (p : Nat) (A : Int32) (i : Nat) : Prop := (k p = 7 ∧ i = f p) ∨ ∃ r, r < 32 ∧ bt A r = true ∧ lc_src k f s p r = some i
theorem lc_src1 {k f s : Nat → Nat} {p r : Nat} (h : k p = 3 ∨ k p = 4 ∨ k p = 8) : lc_src k f s p r = if r = f p then none else some r := by
  unfold lc_src; rw [if_pos h]
theorem lc_src2 {k f s : Nat → Nat} {p r : Nat} (h : ¬ (k p = 3 ∨ k p = 4 ∨ k p = 8)) (h2 : ¬ (k p = 5 ∨ k p = 6)) : lc_src k f s p r = some r := by
  unfold lc_src; rw [if_neg h, if_neg h2]
theorem lc_src3 {k f s : Nat → Nat} {p r : Nat} (h2 : k p = 5 ∨ k p = 6) : lc_src k f s p r = if r = f p then some (s p) else if k p = 5 ∧ r = s p then none else some r := by
  unfold lc_src; rw [if_neg (by omega), if_pos h2]
theorem lx_w116 {post : Int32 → Prop} {p : Nat} {A : Int32} {z b : Int32} (hf : f p < 4) (hs : s p < 4) (h56 : k p = 5 ∨ k p = 6) (hne : ¬ f p = s p) (eb : b = (1 : Int32) <<< (nI (s p) &&& 31))
    (hz : ∀ i, i < 32 → (bt z i = true ↔ (bt A i = true ∧ i ≠ f p ∧ ¬ (k p = 5 ∧ i = s p))))
    (h : ∀ w, (∀ i, i < 32 → (bt w i = true ↔ lc_th k f s p A i)) → post w) : wX_wantedThrough_116 post A ((1 : Int32) <<< (nI (f p) &&& 31)) b z (nI c) st gr qd K F S R H E WB WA HN D Q := by
  have e0 : (A &&& ((1 : Int32) <<< (nI (f p) &&& 31))) = 0 ↔ bt A (f p) = false := by
    constructor
    · intro h
      have e := b_and A ((1 : Int32) <<< (nI (f p) &&& 31)) (f p)
      rw [h, b_0, lc_one (by omega) (by omega)] at e
      cases hb : bt A (f p)
      · rfl
      · rw [hb] at e; simp at e
    · intro h
      apply lc_zero
      intro i hi
      rw [b_and, lc_one (by omega) hi]
      by_cases e : i = f p
      · rw [e, h]; rfl
      · rw [decide_eq_false e, Bool.and_false]
  have hth : ∀ i, lc_th k f s p A i ↔ ((bt A i = true ∧ i ≠ f p ∧ ¬ (k p = 5 ∧ i = s p)) ∨ (bt A (f p) = true ∧ i = s p)) := by
    intro i
    unfold lc_th
    constructor
    · rintro (⟨h7, -⟩ | ⟨r, hr, hb, hsr⟩)
      · omega
      · rw [lc_src3 h56] at hsr
        by_cases e : r = f p
        · rw [if_pos e] at hsr; cases hsr; rw [e] at hb; exact Or.inr ⟨hb, rfl⟩
        · rw [if_neg e] at hsr
          by_cases e2 : k p = 5 ∧ r = s p
          · rw [if_pos e2] at hsr; cases hsr
          · rw [if_neg e2] at hsr; cases hsr; exact Or.inl ⟨hb, e, e2⟩
    · rintro (⟨hb, h1, h2⟩ | ⟨hb, e⟩)
      · refine Or.inr ⟨i, ?_, hb, ?_⟩
        · rcases Nat.lt_or_ge i 32 with z | z
          · exact z
          · rw [b_big z] at hb; cases hb
        · rw [lc_src3 h56, if_neg h1, if_neg h2]
      · refine Or.inr ⟨f p, by omega, hb, ?_⟩
        rw [lc_src3 h56, if_pos rfl, e]
  unfold wX_wantedThrough_116
  refine br_c (fun z0 => h _ ?_) (fun z0 => h _ ?_)
  · intro i hi
    rw [e0] at z0
    rw [hth, hz i hi, z0]
    simp
  · intro i hi
    rw [e0] at z0
    have zt : bt A (f p) = true := by
      cases hb : bt A (f p)
      · exact absurd hb z0
      · rfl
    rw [hth, b_or, eb, lc_one (by omega) hi, zt, Bool.or_eq_true, hz i hi]
    simp
theorem lx_wantedThrough (V : lc_V c k f s K F S) {p : Nat} (hp : p < c) {A : Int32} {post : Int32 → Prop} (h : ∀ w, (∀ i, i < 32 → (bt w i = true ↔ lc_th k f s p A i)) → post w) : wpX_wantedThrough post (nI c, st, gr, qd, K, F, S, R, H, E, WB, WA, HN, D, Q) (nI p) A := by
  obtain ⟨hp24, hcl, hin, hK, h11, hF, hf4, hS⟩ := lc_Vp V hp
  have hbig : ∀ i, bt A i = true → i < 32 := by
    intro i hb
    rcases Nat.lt_or_ge i 32 with z | z
    · exact z
    · rw [b_big z] at hb; cases hb
  unfold wpX_wantedThrough
  dsimp only
  refine ⟨hin, nm_r hK ⟨hin, ?_⟩⟩
  have hclr : (k p = 3 ∨ k p = 4 ∨ k p = 8) → post (A &&& (((1 : Int32) <<< (nI (f p) &&& 31)) ^^^ (-1))) := by
    intro h3
    have f4 := hf4 (by omega)
    refine h _ (fun i hi => ?_)
    rw [lc_clr _ _ hi, lc_one (by omega) hi]
    unfold lc_th
    constructor
    · intro hb
      rw [Bool.and_eq_true] at hb
      refine Or.inr ⟨i, hi, hb.1, ?_⟩
      rw [lc_src1 h3, if_neg (by simpa using hb.2)]
    · rintro (⟨h7, -⟩ | ⟨r, hr, hb, hs⟩)
      · omega
      · rw [lc_src1 h3] at hs
        by_cases e : r = f p
        · rw [if_pos e] at hs; cases hs
        · rw [if_neg e] at hs; cases hs; simp [hb, e]
  have h64 : (k p = 5 ∨ k p = 6) → wX_wantedThrough_64 post (nI p) A (nI (k p)) ((1 : Int32) <<< (nI (f p) &&& 31)) (nI c) st gr qd K F S R H E WB WA HN D Q := by
    intro h56
    have f4 := hf4 (by omega)
    obtain ⟨eS, s4⟩ := hS (by omega) (by omega)
    obtain ⟨eF, -⟩ := hF (by omega)
    unfold wX_wantedThrough_64
    refine ⟨hin, hin, pk_eq (f p) (s p) (fun e => h _ (fun i hi => ?_)) (fun e => ⟨hin, nm_e ?_⟩) eF eS⟩
    · unfold lc_th
      constructor
      · intro hb
        refine Or.inr ⟨i, hi, hb, ?_⟩
        rw [lc_src3 h56]
        by_cases ei : i = f p
        · rw [if_pos ei, ei, e]
        · rw [if_neg ei, if_neg (fun z => ei (by rw [e]; exact z.2))]
      · rintro (⟨h7, -⟩ | ⟨r, hr, hb, hsr⟩)
        · omega
        · rw [lc_src3 h56] at hsr
          by_cases ei : r = f p
          · rw [if_pos ei] at hsr; cases hsr; rw [← e, ← ei]; exact hb
          · rw [if_neg ei, if_neg (fun z => ei (by rw [e]; exact z.2))] at hsr; cases hsr; exact hb
    · rw [eS]
      refine pk_eq (k p) 5 (fun e5 => lx_w116 f4 s4 h56 e rfl (fun i hi => ?_) h) (fun e5 => lx_w116 f4 s4 h56 e rfl (fun i hi => ?_) h)
      · rw [lc_clr _ _ hi, lc_clr _ _ hi, lc_one (by omega) hi, lc_one (by omega) hi]
        simp [e5, and_assoc]
      · rw [lc_clr _ _ hi, lc_one (by omega) hi]
        simp [e5]
  have hel : k p ≤ 10 → (1 : Int32) <<< ((F (nI p).toNatClampNeg &&& 3) &&& 31) = (1 : Int32) <<< (nI (f p) &&& 31) ∨ k p = 9 ∨ k p = 10 := by
    intro z
    by_cases h8 : k p ≤ 8
    · left; rw [(hF z).1, lc_and3 (hf4 h8)]
    · right; omega
  have hb8 : k p ≤ 8 → (1 : Int32) <<< ((F (nI p).toNatClampNeg &&& 3) &&& 31) = (1 : Int32) <<< (nI (f p) &&& 31) := by
    intro z
    rw [(hF (by omega)).1, lc_and3 (hf4 z)]
  refine nm_e ?_
  refine pk_eq (k p) 3 (fun e => ?_) (fun e3 => ?_)
  · rw [hb8 (by omega)]; exact hclr (by omega)
  refine pk_eq (k p) 4 (fun e => ?_) (fun e4 => ?_)
  · rw [hb8 (by omega)]; exact hclr (by omega)
  refine pk_eq (k p) 8 (fun e => ?_) (fun e8 => ?_)
  · rw [hb8 (by omega)]; exact hclr (by omega)
  refine pk_eq (k p) 7 (fun e => ?_) (fun e7 => ?_)
  · rw [hb8 (by omega)]
    have f4 := hf4 (by omega)
    refine h _ (fun i hi => ?_)
    rw [b_or, lc_one (by omega) hi]
    unfold lc_th
    constructor
    · intro hb
      rw [Bool.or_eq_true] at hb
      rcases hb with hb | hb
      · exact Or.inr ⟨i, hi, hb, lc_src2 (by omega) (by omega)⟩
      · exact Or.inl ⟨e, of_decide_eq_true hb⟩
    · rintro (⟨-, z⟩ | ⟨r, hr, hb, hs⟩)
      · simp [z]
      · rw [lc_src2 (by omega) (by omega)] at hs; cases hs; simp [hb]
  refine pk_eq (k p) 5 (fun e => ?_) (fun e5 => ?_)
  · rw [hb8 (by omega)]; exact h64 (by omega)
  refine pk_eq (k p) 6 (fun e => ?_) (fun e6 => ?_)
  · rw [hb8 (by omega)]; exact h64 (by omega)
  refine h _ (fun i hi => ?_)
  unfold lc_th
  constructor
  · intro hb; exact Or.inr ⟨i, hi, hb, lc_src2 (by omega) (by omega)⟩
  · rintro (⟨z, -⟩ | ⟨r, hr, hb, hs⟩)
    · exact absurd z e7
    · rw [lc_src2 (by omega) (by omega)] at hs; cases hs; exact hb
/-! what is wanted behind a point -/
def lc_wb (c : Nat) (k f : Nat → Nat) (WB : Nat → Int32) (p i : Nat) : Prop := ∃ q, lc_E c k f p q ∧ bt (WB q) i = true
theorem lx_wantedBehind (V : lc_V c k f s K F S) {p : Nat} (hp : p < c) {post : Int32 → Prop} (h : ∀ w, (∀ i, i < 32 → (bt w i = true ↔ lc_wb c k f WB p i)) → post w) : wpX_wantedBehind post (nI c, st, gr, qd, K, F, S, R, H, E, WB, WA, HN, D, Q) (nI p) := by
  have hc := V.1
  unfold wpX_wantedBehind
  dsimp only
  have step : ∀ (n i : Nat) (w : Int32), i < 2 → (∀ w', (∀ j, j < 32 → (bt w' j = true ↔ (bt w j = true ∨ ∃ q, lc_nx c k f p i = some q ∧ bt (WB q) j = true))) → wX_wantedBehind_4 post (nI p) (nI c) st gr qd K F S R H E WB WA HN D Q n w' (nI (i + 1))) → wX_wantedBehind_4 post (nI p) (nI c) st gr qd K F S R H E WB WA HN D Q (n + 1) w (nI i) := by
    intro n i w hi hk
    refine br_f (nI_ge (b := 2) hi (by decide)) ?_
    refine lx_behind V hp hi ?_
    cases hn : lc_nx c k f p i with
    | none =>
      refine br_t rfl (nm_r (nI_1 i) (hk w (fun j hj => ?_)))
      rw [hn]; simp
    | some q =>
      have hq := lc_nx_lt hn
      refine br_f (lc_neg1 (by omega)) ⟨vp_in_nI (by omega) (by decide), nm_e (nm_r (nI_1 i) (hk _ (fun j hj => ?_)))⟩
      rw [hn, lc_oI_s, nI_clamp (show q < 2 ^ 31 by omega), b_or, Bool.or_eq_true]
      simp
  refine ⟨3, ?_⟩
  refine step 2 0 0 (by decide) (fun w1 h1 => step 1 1 w1 (by decide) (fun w2 h2 => ?_))
  refine br_t (nI_le (a := 2) (b := 2) (by decide) (by decide)) (h w2 (fun i hi => ?_))
  rw [h2 i hi, h1 i hi, b_0]
  unfold lc_wb lc_E
  constructor
  · rintro ((z | ⟨q, e, z⟩) | ⟨q, e, z⟩)
    · cases z
    · exact ⟨q, ⟨hp, Or.inl e⟩, z⟩
    · exact ⟨q, ⟨hp, Or.inr e⟩, z⟩
  · rintro ⟨q, ⟨-, e | e⟩, z⟩
    · exact Or.inl (Or.inr ⟨q, e, z⟩)
    · exact Or.inr ⟨q, e, z⟩
end
end
section
/-! ===== what references may hold: the component's forward search ===== -/
def lc_hn (k f s : Nat → Nat) (H : Nat → Int32) (p r i : Nat) : Prop := (lc_mk k p ∧ r = f p ∧ i = p) ∨ (lc_fre k f s p r ∧ i = 24) ∨ (∃ r0, lc_src k f s p r = some r0 ∧ bt (H (4 * p + r0)) i = true)
theorem lc_hn_mk {k f s : Nat → Nat} {H : Nat → Int32} {p r i : Nat} (h : lc_mk k p) : lc_hn k f s H p r i ↔ if r = f p then i = p else bt (H (4 * p + r)) i = true := by
  have h' : k p = 3 ∨ k p = 4 ∨ k p = 8 := by unfold lc_mk at h; omega
  have h5 : ¬ k p = 5 := by unfold lc_mk at h; omega
  have h8 : ¬ k p = 8 := by unfold lc_mk at h; omega
  unfold lc_hn lc_fre
  rw [lc_src1 h']
  by_cases e : r = f p
  · simp [e, h, h5, h8]
  · simp [e, h5]
theorem lc_hn_8 {k f s : Nat → Nat} {H : Nat → Int32} {p r i : Nat} (h : k p = 8) : lc_hn k f s H p r i ↔ if r = f p then i = 24 else bt (H (4 * p + r)) i = true := by
  unfold lc_hn lc_fre lc_mk
  rw [lc_src1 (by omega)]
  by_cases e : r = f p
  · simp [e, h]
  · simp [e, h]
theorem lc_hn_56 {k f s : Nat → Nat} {H : Nat → Int32} {p r i : Nat} (h : k p = 5 ∨ k p = 6) : lc_hn k f s H p r i ↔ if r = f p then bt (H (4 * p + s p)) i = true else if k p = 5 ∧ r = s p then i = 24 else bt (H (4 * p + r)) i = true := by
  have h3 : ¬ k p = 3 := by omega
  have h4 : ¬ k p = 4 := by omega
  have h8 : ¬ k p = 8 := by omega
  unfold lc_hn lc_fre lc_mk
  rw [lc_src3 h]
  by_cases e : r = f p
  · simp [e, h3, h4, h8]
  · by_cases e2 : k p = 5 ∧ r = s p
    · simp [e, e2.1, e2.2.symm]
    · have e3 : ¬ (k p = 5 ∧ r = s p ∧ ¬ r = f p) := fun z => e2 ⟨z.1, z.2.1⟩
      simp [e, e2, h8]
theorem lc_hn_o {k f s : Nat → Nat} {H : Nat → Int32} {p r i : Nat} (h : ¬ (k p = 3 ∨ k p = 4 ∨ k p = 8)) (h2 : ¬ (k p = 5 ∨ k p = 6)) : lc_hn k f s H p r i ↔ bt (H (4 * p + r)) i = true := by
  have h3 : ¬ k p = 3 := by omega
  have h4 : ¬ k p = 4 := by omega
  have h8 : ¬ k p = 8 := by omega
  have h5 : ¬ k p = 5 := by omega
  unfold lc_hn lc_fre lc_mk
  rw [lc_src2 h h2]
  simp [h3, h4, h8, h5]
section
variable {c : Nat} {k f s : Nat → Nat} {st gr qd : Int32} {K F S R H E WB WA HN D Q : Nat → Int32}
theorem lx_passPoint (V : lc_V c k f s K F S) {p : Nat} (hp : p < c) {post : SX → Prop} (h : ∀ HN', (∀ r, r < 4 → ∀ i, i < 32 → (bt (HN' r) i = true ↔ lc_hn k f s H p r i)) → post (nI c, st, gr, qd, K, F, S, R, H, E, WB, WA, HN', D, Q)) : wpX_passPoint post (nI c, st, gr, qd, K, F, S, R, H, E, WB, WA, HN, D, Q) (nI p) := by
  obtain ⟨hp24, hcl, hin, hK, h11, hF, hf4, hS⟩ := lc_Vp V hp
  have loop : ∀ d r HN, r + d = 4 → (∀ j, j < r → HN j = H (4 * p + j)) → wX_passPoint_2 post (nI p) (nI c) st gr qd (d + 1) (nI r) K F S R H E WB WA HN D Q := by
    intro d
    induction d with
    | zero =>
      intro r HN hr hH
      have e4 : r = 4 := by omega
      subst e4
      have h53 : lc_mk k p → wX_passPoint_53 post (nI p) (F (nI p).toNatClampNeg) (nI c) st gr qd K F S R H E WB WA HN D Q := by
        intro hm
        have f4 := hf4 (by unfold lc_mk at hm; omega)
        rw [(hF (by unfold lc_mk at hm; omega)).1]
        unfold wX_passPoint_53
        refine ⟨vp_in_nI f4 (by decide), nm_e (h _ (fun r hr i hi => ?_))⟩
        rw [nI_clamp (by omega), lc_hn_mk hm]
        by_cases e : r = f p
        · rw [e, pk_us, if_pos rfl, lc_one (by omega) hi, decide_eq_true_iff]
        · rw [pk_un e, if_neg e, hH r hr]
      have h76 : (k p = 5 ∨ k p = 6) → wX_passPoint_76 post (nI p) (nI (k p)) (F (nI p).toNatClampNeg) (nI c) st gr qd K F S R H E WB WA HN D Q := by
        intro h56
        have f4 := hf4 (by omega)
        obtain ⟨eS, s4⟩ := hS (by omega) (by omega)
        rw [(hF (by omega)).1]
        unfold wX_passPoint_76
        refine ⟨hin, nm_r eS ?_⟩
        rw [lc_i4]
        refine ⟨vp_in_nI (by omega) (by decide), vp_in_nI f4 (by decide), nm_e ?_⟩
        have hsin : vp_in (nI (s p)) 4 := vp_in_nI s4 (by decide)
        have cs : (nI (s p)).toNatClampNeg = s p := nI_clamp (by omega)
        have cf : (nI (f p)).toNatClampNeg = f p := nI_clamp (by omega)
        have ci : (nI (4 * p + s p)).toNatClampNeg = 4 * p + s p := nI_clamp (by omega)
        rw [cs, cf, ci]
        have same : (k p = 6 ∨ f p = s p) → post (nI c, st, gr, qd, K, F, S, R, H, E, WB, WA, upd (upd HN (f p) (H (4 * p + s p))) (s p) (upd HN (f p) (H (4 * p + s p)) (s p)), D, Q) := by
          intro h6
          refine h _ (fun r hr i hi => ?_)
          have e1 : upd (upd HN (f p) (H (4 * p + s p))) (s p) (upd HN (f p) (H (4 * p + s p)) (s p)) r = upd HN (f p) (H (4 * p + s p)) r := by
            by_cases e : r = s p
            · rw [e, pk_us]
            · rw [pk_un e]
          rw [e1, lc_hn_56 h56]
          by_cases e : r = f p
          · rw [e, pk_us, if_pos rfl]
          · rw [pk_un e, if_neg e, if_neg (by omega), hH r hr]
        refine pk_eq (k p) 5 (fun e5 => ?_) (fun e5 => ⟨hsin, hsin, nm_e (same (by omega))⟩)
        refine pk_eq (f p) (s p) (fun e => ⟨hsin, hsin, nm_e (same (by omega))⟩) (fun e => ⟨hsin, nm_e (h _ (fun r hr i hi => ?_))⟩)
        rw [lc_hn_56 h56]
        by_cases e1 : r = s p
        · rw [e1, pk_us, if_neg (fun z => e z.symm), if_pos ⟨e5, rfl⟩, lc_b24 i hi, decide_eq_true_iff]
        · rw [pk_un e1]
          by_cases e2 : r = f p
          · rw [e2, pk_us, if_pos rfl]
          · rw [pk_un e2, if_neg e2, if_neg (fun z => e1 z.2), hH r hr]
      refine br_t (nI_le (a := 4) (b := 4) (by decide) (by decide)) ⟨hin, nm_r hK ⟨hin, nm_e ?_⟩⟩
      refine pk_eq (k p) 3 (fun e => h53 (Or.inl e)) (fun e3 => ?_)
      refine pk_eq (k p) 4 (fun e => h53 (Or.inr e)) (fun e4 => ?_)
      refine pk_eq (k p) 5 (fun e => h76 (Or.inl e)) (fun e5 => ?_)
      refine pk_eq (k p) 6 (fun e => h76 (Or.inr e)) (fun e6 => ?_)
      refine pk_eq (k p) 8 (fun e => ?_) (fun e8 => ?_)
      · have f4 := hf4 (by omega)
        rw [(hF (by omega)).1]
        refine ⟨vp_in_nI f4 (by decide), nm_e (h _ (fun r hr i hi => ?_))⟩
        rw [nI_clamp (by omega), lc_hn_8 e]
        by_cases e : r = f p
        · rw [e, pk_us, if_pos rfl, lc_b24 i hi, decide_eq_true_iff]
        · rw [pk_un e, if_neg e, hH r hr]
      · refine h _ (fun r hr i hi => ?_)
        rw [lc_hn_o (by omega) (by omega), hH r hr]
    | succ d ih =>
      intro r HN hr hH
      refine br_f (nI_ge (b := 4) (by omega) (by decide)) ?_
      rw [lc_i4]
      refine ⟨vp_in_nI (by omega) (by decide), vp_in_nI (by omega) (by decide), nm_e (nm_r (nI_1 r) (ih (r + 1) _ (by omega) (fun j hj => ?_)))⟩
      rw [nI_clamp (show r < 2 ^ 31 by omega), nI_clamp (show 4 * p + r < 2 ^ 31 by omega)]
      by_cases e : j = r
      · rw [e, pk_us]
      · rw [pk_un e, hH j (by omega)]
  unfold wpX_passPoint
  exact ⟨5, loop 4 0 HN rfl (fun j hj => absurd hj (Nat.not_lt_zero j))⟩
/-! joining: first the words, then the owners and the mark -/
theorem lx_j54 {post : SX → Prop} {J2 : Int32 → Int32 → (Nat → Int32) → (Nat → Int32) → (Nat → Int32) → (Nat → Int32) → (Nat → Int32) → (Nat → Int32) → (Nat → Int32) → (Nat → Int32) → (Nat → Int32) → (Nat → Int32) → (Nat → Int32) → Prop} {to r : Nat} {em x4 z0 : Int32} (hto : to < 24) (hr : r < 4) (hz : z0 = 0 ∨ z0 = 1)
    (h : J2 (nI (r + 1)) z0 K F S R (upd H (4 * to + r) x4) E WB WA HN D Q) : wX_joinInto_54 post J2 (nI to) em (nI r) x4 z0 (nI c) st gr qd K F S R H E WB WA HN D Q := by
  unfold wX_joinInto_54
  have hz2 : narrow .boolean (.int z0) = .int z0 ∧ fits .boolean (.int z0) = true := by
    rcases hz with e | e <;> subst e
    · exact ⟨narrow_b0, lc_f0⟩
    · exact ⟨narrow_b1, lc_f1⟩
  rw [lc_i4, nI_clamp (show 4 * to + r < 2 ^ 31 by omega)]
  exact ⟨hz2.1, hz2.2, vp_in_nI (by omega) (by decide), nm_e (nm_r (nI_1 r) h)⟩
theorem lx_ji {post : SX → Prop} {to : Nat} {em : Int32} (hto : to < 24) :
    ∀ d r gr H, r + d = 4 →
      (∀ gr' H', (gr' = 0 → gr = 0 ∧ H' = H) → (gr' ≠ 0 → gr ≠ 0 ∨ H' ≠ H) → (∀ n, H' n = if 4 * to + r ≤ n ∧ n < 4 * to + 4 then H n ||| HN (n - 4 * to) else H n) → wX_joinInto_2 post (nI to) em (nI c) st qd 1 (nI 4) gr' K F S R H' E WB WA HN D Q) →
      wX_joinInto_2 post (nI to) em (nI c) st qd (d + 1) (nI r) gr K F S R H E WB WA HN D Q := by
  intro d
  induction d with
  | zero =>
    intro r gr H hr h
    have e4 : r = 4 := by omega
    subst e4
    exact h gr H (fun z => ⟨z, rfl⟩) (fun z => Or.inl z) (fun n => by rw [if_neg (by omega)])
  | succ d ih =>
    intro r gr H hr h
    have hr4 : r < 4 := by omega
    refine br_f (nI_ge (b := 4) hr4 (by decide)) ?_
    rw [lc_i4, nI_clamp (show 4 * to + r < 2 ^ 31 by omega), nI_clamp (show r < 2 ^ 31 by omega)]
    have hi96 : vp_in (nI (4 * to + r)) 96 := vp_in_nI (by omega) (by decide)
    refine ⟨hi96, vp_in_nI hr4 (by decide), nm_e ?_⟩
    -- what a turn leaves
    have turn : ∀ g1, (g1 = 0 → gr = 0 ∧ H (4 * to + r) ||| HN r = H (4 * to + r)) → (g1 ≠ 0 → gr ≠ 0 ∨ H (4 * to + r) ||| HN r ≠ H (4 * to + r)) → wX_joinInto_2 post (nI to) em (nI c) st qd (d + 1) (nI (r + 1)) g1 K F S R (upd H (4 * to + r) (H (4 * to + r) ||| HN r)) E WB WA HN D Q := by
      intro g1 a0 a1
      refine ih (r + 1) g1 _ (by omega) (fun gr' H' b0 b1 b2 => h gr' H' (fun z => ?_) (fun z => ?_) (fun n => ?_))
      · obtain ⟨z1, z2⟩ := b0 z
        obtain ⟨z3, z4⟩ := a0 z1
        refine ⟨z3, ?_⟩
        rw [z2, z4]
        funext n
        by_cases e : n = 4 * to + r
        · rw [e, pk_us]
        · rw [pk_un e]
      · by_cases g0 : g1 = 0
        · obtain ⟨z3, z4⟩ := a0 g0
          rcases b1 z with w | w
          · exact absurd g0 w
          · right
            intro hh
            apply w
            rw [hh, z4]
            funext n
            by_cases e : n = 4 * to + r
            · rw [e, pk_us]
            · rw [pk_un e]
        · rcases a1 g0 with w | w
          · exact Or.inl w
          · right
            intro hh
            have e := b2 (4 * to + r)
            rw [if_neg (by omega), pk_us, hh] at e
            exact w e.symm
      · rw [b2 n]
        by_cases e : n = 4 * to + r
        · rw [e, if_neg (by omega), pk_us, if_pos (by omega)]
          congr 2; omega
        · rw [pk_un e]
          by_cases e2 : 4 * to + (r + 1) ≤ n ∧ n < 4 * to + 4
          · rw [if_pos e2, if_pos (by omega)]
          · rw [if_neg e2, if_neg (by omega)]
    refine br_c (fun g0 => ⟨hi96, br_c (fun e => ?_) (fun e => ?_)⟩) (fun g0 => ?_)
    · exact lx_j54 hto hr4 (Or.inl rfl) (turn 0 (fun _ => ⟨g0, e⟩) (fun z => absurd rfl z))
    · unfold wX_joinInto_49
      exact lx_j54 hto hr4 (Or.inr rfl) (turn 1 (fun z => absurd z (by decide)) (fun _ => Or.inr e))
    · unfold wX_joinInto_49
      exact lx_j54 hto hr4 (Or.inr rfl) (turn 1 (fun z => absurd z (by decide)) (fun _ => Or.inl g0))
theorem lx_join {post : SX → Prop} {to : Nat} {em : Int32} (hto : to < 24) (hR : R to = 0 ∨ R to = 1)
    (h : ∀ gr' R' H' E', (gr' = 0 ∨ gr' = 1) → (gr' = 0 → gr = 0 ∧ R' = R ∧ H' = H ∧ E' = E) → (gr' ≠ 0 → gr ≠ 0 ∨ R' to ≠ R to ∨ H' ≠ H ∨ E' to ≠ E to) →
      (∀ n, H' n = if 4 * to ≤ n ∧ n < 4 * to + 4 then H n ||| HN (n - 4 * to) else H n) → E' = upd E to (E to ||| em) → R' = upd R to 1 → post (nI c, st, gr', qd, K, F, S, R', H', E', WB, WA, HN, D, Q)) : wpX_joinInto post (nI c, st, gr, qd, K, F, S, R, H, E, WB, WA, HN, D, Q) (nI to) em := by
  unfold wpX_joinInto
  dsimp only
  refine ⟨5, ?_⟩
  refine lx_ji hto 4 0 gr H rfl (fun g1 H1 a0 a1 a2 => ?_)
  have hin : vp_in (nI to) 24 := vp_in_nI hto (by decide)
  refine br_t (nI_le (a := 4) (b := 4) (by decide) (by decide)) ?_
  rw [nI_clamp (show to < 2 ^ 31 by omega)]
  refine ⟨hin, nm_e ?_⟩
  have eE : E to ||| em = E to → upd E to (E to ||| em) = E := by
    intro e
    rw [e]
    funext n
    by_cases z : n = to
    · rw [z, pk_us]
    · rw [pk_un z]
  have fin : ∀ z0, (z0 = 0 ∨ z0 = 1) → (z0 = 0 → g1 = 0 ∧ E to ||| em = E to ∧ R to ≠ 0) → (z0 ≠ 0 → g1 ≠ 0 ∨ E to ||| em ≠ E to ∨ R to = 0) → wX_joinInto_116 post (nI to) (E to ||| em) z0 (nI c) st g1 qd K F S R H1 E WB WA HN D Q := by
    intro z0 hz b0 b1
    have hz2 : narrow .boolean (.int z0) = .int z0 ∧ fits .boolean (.int z0) = true := by
      rcases hz with e | e <;> subst e
      · exact ⟨narrow_b0, lc_f0⟩
      · exact ⟨narrow_b1, lc_f1⟩
    unfold wX_joinInto_116
    rw [nI_clamp (show to < 2 ^ 31 by omega), lc_nar1]
    refine ⟨hz2.1, hz2.2, hin, nm_e ⟨hin, nm_e (h z0 _ H1 _ hz (fun z => ?_) (fun z => ?_) (fun n => ?_) rfl rfl)⟩⟩
    · obtain ⟨z1, z2, z3⟩ := b0 z
      obtain ⟨z4, z5⟩ := a0 z1
      refine ⟨z4, ?_, z5, eE z2⟩
      funext n
      by_cases e : n = to
      · rw [e, pk_us]; rcases hR with w | w
        · exact absurd w z3
        · exact w.symm
      · rw [pk_un e]
    · rw [pk_us, pk_us]
      rcases b1 z with w | w | w
      · rcases a1 w with w | w
        · exact Or.inl w
        · exact Or.inr (Or.inr (Or.inl w))
      · exact Or.inr (Or.inr (Or.inr w))
      · exact Or.inr (Or.inl (by rw [w]; decide))
    · rw [a2 n]; rfl
  refine br_c (fun g0 => ⟨hin, br_c (fun e => ⟨hin, br_c (fun r0 => ?_) (fun r0 => ?_)⟩) (fun e => ?_)⟩) (fun g0 => ?_)
  · unfold wX_joinInto_111
    exact fin 1 (Or.inr rfl) (fun z => absurd z (by decide)) (fun _ => Or.inr (Or.inr r0))
  · exact fin 0 (Or.inl rfl) (fun _ => ⟨g0, e, r0⟩) (fun z => absurd rfl z)
  · unfold wX_joinInto_111
    exact fin 1 (Or.inr rfl) (fun z => absurd z (by decide)) (fun _ => Or.inr (Or.inl e))
  · unfold wX_joinInto_111
    exact fin 1 (Or.inr rfl) (fun z => absurd z (by decide)) (fun _ => Or.inl g0)
end
/-! what is marked is so; the marks counted -/
def lc_HF (c : Nat) (k f s : Nat → Nat) (i p r : Nat) : Prop := (i < 24 ∧ lc_HX c k f s i (p, r)) ∨ (i = 24 ∧ lc_FX c k f s (p, r))
def lc_Snd (c : Nat) (k f s : Nat → Nat) (R H E : Nat → Int32) : Prop :=
  (∀ p, p < c → (R p = 0 ∨ R p = 1) ∧ (R p ≠ 0 → lc_RX c k f p)) ∧ (∀ p r i, p < c → r < 4 → i < 32 → bt (H (4 * p + r)) i = true → lc_HF c k f s i p r) ∧ (∀ p o, p < c → o < 32 → bt (E p) o = true → o < 4 ∧ lc_EX c k f (p, o))
def lc_In (c : Nat) (R H E : Nat → Int32) : Prop := 0 < c → (R 0 ≠ 0 ∧ (∀ r, r < 4 → bt (H r) 24 = true) ∧ ∀ o, o < 4 → bt (E 0) o = true)
def lc_ach (R H E HN : Nat → Int32) (em : Int32) (q : Nat) : Prop := R q ≠ 0 ∧ (∀ r i, r < 4 → i < 32 → bt (HN r) i = true → bt (H (4 * q + r)) i = true) ∧ ∀ o, o < 32 → bt em o = true → bt (E q) o = true
def lc_em (k f : Nat → Nat) (E : Nat → Int32) (p o : Nat) : Prop := (k p = 2 ∧ o = f p) ∨ (bt (E p) o = true ∧ ¬ (k p = 0 ∧ o = f p))
def lc_Cl (c : Nat) (k f s : Nat → Nat) (R H E : Nat → Int32) (p : Nat) : Prop := R p ≠ 0 → ∀ q, lc_E c k f p q → R q ≠ 0 ∧ (∀ r i, r < 4 → i < 32 → lc_hn k f s H p r i → bt (H (4 * q + r)) i = true) ∧ ∀ o, o < 32 → lc_em k f E p o → bt (E q) o = true
def lc_ft (R H E : Nat → Int32) (n : Nat) : Prop := if n % 105 < 100 then bt (H (4 * (n / 105) + n % 105 / 25)) (n % 105 % 25) = true else if n % 105 < 104 then bt (E (n / 105)) (n % 105 - 100) = true else R (n / 105) ≠ 0
noncomputable def lc_mu (R H E : Nat → Int32) : Nat := cn (fun n => ¬ lc_ft R H E n) 2520
def lc_Mo (R H E R' H' E' : Nat → Int32) : Prop := (∀ n i, bt (H n) i = true → bt (H' n) i = true) ∧ (∀ n i, bt (E n) i = true → bt (E' n) i = true) ∧ ∀ n, R n ≠ 0 → R' n ≠ 0
theorem lc_ft_mo {R H E R' H' E' : Nat → Int32} (m : lc_Mo R H E R' H' E') (n : Nat) (h : lc_ft R H E n) : lc_ft R' H' E' n := by
  unfold lc_ft at h ⊢
  by_cases h1 : n % 105 < 100
  · rw [if_pos h1] at h ⊢; exact m.1 _ _ h
  · rw [if_neg h1] at h ⊢
    by_cases h2 : n % 105 < 104
    · rw [if_pos h2] at h ⊢; exact m.2.1 _ _ h
    · rw [if_neg h2] at h ⊢; exact m.2.2 _ h
theorem lc_mu_le {R H E R' H' E' : Nat → Int32} (m : lc_Mo R H E R' H' E') : lc_mu R' H' E' ≤ lc_mu R H E :=
  cn_mono fun n _ h z => h (lc_ft_mo m n z)
theorem lc_mu_lt {R H E R' H' E' : Nat → Int32} (m : lc_Mo R H E R' H' E') {n : Nat} (hn : n < 2520) (h : lc_ft R' H' E' n) (h0 : ¬ lc_ft R H E n) : lc_mu R' H' E' < lc_mu R H E :=
  cn_lt (fun z => z h) h0 (fun n _ h z => h (lc_ft_mo m n z)) hn
theorem lc_ft_H {R H E : Nat → Int32} {p r i : Nat} (hr : r < 4) (hi : i < 25) : lc_ft R H E (105 * p + (25 * r + i)) ↔ bt (H (4 * p + r)) i = true := by
  unfold lc_ft
  have e1 : (105 * p + (25 * r + i)) % 105 = 25 * r + i := by omega
  have e2 : (105 * p + (25 * r + i)) / 105 = p := by omega
  have e3 : (25 * r + i) / 25 = r := by omega
  have e4 : (25 * r + i) % 25 = i := by omega
  rw [e1, e2, if_pos (by omega), e3, e4]
theorem lc_ft_E {R H E : Nat → Int32} {p o : Nat} (ho : o < 4) : lc_ft R H E (105 * p + (100 + o)) ↔ bt (E p) o = true := by
  unfold lc_ft
  have e1 : (105 * p + (100 + o)) % 105 = 100 + o := by omega
  have e2 : (105 * p + (100 + o)) / 105 = p := by omega
  rw [e1, e2, if_neg (by omega), if_pos (by omega), show 100 + o - 100 = o by omega]
theorem lc_ft_R {R H E : Nat → Int32} {p : Nat} : lc_ft R H E (105 * p + 104) ↔ R p ≠ 0 := by
  unfold lc_ft
  have e1 : (105 * p + 104) % 105 = 104 := by omega
  have e2 : (105 * p + 104) / 105 = p := by omega
  rw [e1, e2, if_neg (by decide), if_neg (by decide)]
/-- from one state of the search to a later one -/
def lc_J (R H E : Nat → Int32) (gr : Int32) (R' H' E' : Nat → Int32) (gr' : Int32) : Prop := (gr' = 0 ∨ gr' = 1) ∧ (gr' = 0 → gr = 0 ∧ R' = R ∧ H' = H ∧ E' = E) ∧ (gr' ≠ 0 → gr ≠ 0 ∨ lc_mu R' H' E' < lc_mu R H E) ∧ lc_mu R' H' E' ≤ lc_mu R H E
theorem lc_J_tr {R H E R1 H1 E1 R2 H2 E2 : Nat → Int32} {g g1 g2 : Int32} (a : lc_J R H E g R1 H1 E1 g1) (b : lc_J R1 H1 E1 g1 R2 H2 E2 g2) : lc_J R H E g R2 H2 E2 g2 := by
  obtain ⟨a0, a1, a2, a3⟩ := a
  obtain ⟨b0, b1, b2, b3⟩ := b
  refine ⟨b0, fun z => ?_, fun z => ?_, by omega⟩
  · obtain ⟨z1, rfl, rfl, rfl⟩ := b1 z
    exact a1 z1
  · rcases b2 z with w | w
    · rcases a2 w with w | w
      · exact Or.inl w
      · exact Or.inr (by omega)
    · exact Or.inr (by omega)
theorem lc_J_rf {R H E : Nat → Int32} {g : Int32} (h : g = 0 ∨ g = 1) : lc_J R H E g R H E g := ⟨h, fun z => ⟨z, rfl, rfl, rfl⟩, fun z => Or.inl z, Nat.le_refl _⟩
section
variable {c : Nat} {k f s : Nat → Nat} {st gr qd : Int32} {K F S R H E WB WA HN D Q : Nat → Int32}
theorem lx_joinS (V : lc_V c k f s K F S) {post : SX → Prop} {to : Nat} {em : Int32} (hto : to < c) (sn : lc_Snd c k f s R H E) (hRX : lc_RX c k f to)
    (hHN : ∀ r i, r < 4 → i < 32 → bt (HN r) i = true → lc_HF c k f s i to r) (hem : ∀ o, o < 32 → bt em o = true → o < 4 ∧ lc_EX c k f (to, o))
    (h : ∀ gr' R' H' E', lc_J R H E gr R' H' E' gr' → lc_Snd c k f s R' H' E' → (lc_In c R H E → lc_In c R' H' E') → lc_ach R' H' E' HN em to → post (nI c, st, gr', qd, K, F, S, R', H', E', WB, WA, HN, D, Q)) : wpX_joinInto post (nI c, st, gr, qd, K, F, S, R, H, E, WB, WA, HN, D, Q) (nI to) em := by
  have hc := V.1
  refine lx_join (by omega) (sn.1 to hto).1 (fun gr' R' H' E' g01 g0 g1 hH hE hR => ?_)
  have hHt : ∀ r, r < 4 → H' (4 * to + r) = H (4 * to + r) ||| HN r := by
    intro r hr
    rw [hH, if_pos (by omega), show 4 * to + r - 4 * to = r by omega]
  have hHn : ∀ p r, p ≠ to → r < 4 → H' (4 * p + r) = H (4 * p + r) := by
    intro p r hp hr
    rw [hH, if_neg (by omega)]
  have mo : lc_Mo R H E R' H' E' := by
    refine ⟨fun n i hb => ?_, fun n i hb => ?_, fun n hn => ?_⟩
    · rw [hH]
      by_cases z : 4 * to ≤ n ∧ n < 4 * to + 4
      · rw [if_pos z, b_or, hb]; rfl
      · rw [if_neg z]; exact hb
    · rw [hE]
      by_cases z : n = to
      · rw [z, pk_us, b_or, ← z, hb]; rfl
      · rw [pk_un z]; exact hb
    · rw [hR]
      by_cases z : n = to
      · rw [z, pk_us]; decide
      · rw [pk_un z]; exact hn
  have sn' : lc_Snd c k f s R' H' E' := by
    refine ⟨fun p hp => ?_, fun p r i hp hr hi hb => ?_, fun p o hp ho hb => ?_⟩
    · rw [hR]
      by_cases z : p = to
      · rw [z, pk_us]; exact ⟨Or.inr rfl, fun _ => hRX⟩
      · rw [pk_un z]; exact sn.1 p hp
    · by_cases z : p = to
      · subst z
        rw [hHt r hr, b_or, Bool.or_eq_true] at hb
        rcases hb with hb | hb
        · exact sn.2.1 p r i hp hr hi hb
        · exact hHN r i hr hi hb
      · rw [hHn p r z hr] at hb
        exact sn.2.1 p r i hp hr hi hb
    · rw [hE] at hb
      by_cases z : p = to
      · subst z
        rw [pk_us, b_or, Bool.or_eq_true] at hb
        rcases hb with hb | hb
        · exact sn.2.2 p o hp ho hb
        · exact hem o ho hb
      · rw [pk_un z] at hb
        exact sn.2.2 p o hp ho hb
  refine h gr' R' H' E' ⟨g01, g0, fun z => ?_, lc_mu_le mo⟩ sn' ?_ ?_
  · rcases g1 z with w | w | w | w
    · exact Or.inl w
    · right
      refine lc_mu_lt mo (n := 105 * to + 104) (by omega) (lc_ft_R.mpr ?_) (fun z => ?_)
      · rw [hR, pk_us]; decide
      · rw [lc_ft_R] at z
        apply w
        rw [hR, pk_us]
        rcases (sn.1 to hto).1 with e | e
        · exact absurd e z
        · exact e.symm
    · right
      have : ∃ r, r < 4 ∧ H' (4 * to + r) ≠ H (4 * to + r) := by
        apply Classical.byContradiction
        intro hn
        apply w
        funext n
        by_cases z : 4 * to ≤ n ∧ n < 4 * to + 4
        · apply Classical.byContradiction
          intro hne
          refine hn ⟨n - 4 * to, by omega, ?_⟩
          rw [show 4 * to + (n - 4 * to) = n by omega]
          exact hne
        · rw [hH, if_neg z]
      obtain ⟨r, hr4, hne⟩ := this
      obtain ⟨i, hi, hb⟩ := lc_diff hne
      have hb0 : bt (H (4 * to + r)) i = false := by
        cases hz : bt (H (4 * to + r)) i
        · rfl
        · rw [hz, mo.1 _ _ hz] at hb; exact absurd rfl hb
      have hb1 : bt (H' (4 * to + r)) i = true := by
        cases hz : bt (H' (4 * to + r)) i
        · rw [hz, hb0] at hb; exact absurd rfl hb
        · rfl
      have hi25 : i < 25 := by
        rcases sn'.2.1 to r i hto hr4 hi hb1 with ⟨a, -⟩ | ⟨a, -⟩ <;> omega
      refine lc_mu_lt mo (n := 105 * to + (25 * r + i)) (by omega) ((lc_ft_H hr4 hi25).mpr hb1) (fun z => ?_)
      rw [lc_ft_H hr4 hi25, hb0] at z
      cases z
    · right
      obtain ⟨i, hi, hb⟩ := lc_diff w
      have hb0 : bt (E to) i = false := by
        cases hz : bt (E to) i
        · rfl
        · rw [hz, mo.2.1 _ _ hz] at hb; exact absurd rfl hb
      have hb1 : bt (E' to) i = true := by
        cases hz : bt (E' to) i
        · rw [hz, hb0] at hb; exact absurd rfl hb
        · rfl
      have hi4 : i < 4 := (sn'.2.2 to i hto hi hb1).1
      refine lc_mu_lt mo (n := 105 * to + (100 + i)) (by omega) ((lc_ft_E hi4).mpr hb1) (fun z => ?_)
      rw [lc_ft_E hi4, hb0] at z
      cases z
  · intro hI h0
    obtain ⟨i1, i2, i3⟩ := hI h0
    exact ⟨mo.2.2 _ i1, fun r hr => mo.1 _ _ (i2 r hr), fun o ho => mo.2.1 _ _ (i3 o ho)⟩
  · refine ⟨?_, fun r i hr hi hb => ?_, fun o ho hb => ?_⟩
    · rw [hR, pk_us]; decide
    · rw [hHt r hr, b_or, hb, Bool.or_true]
    · rw [hE, pk_us, b_or, hb, Bool.or_true]
theorem lx_spread (V : lc_V c k f s K F S) {post : SX → Prop} {p : Nat} (hp : p < c) (sn : lc_Snd c k f s R H E) (hRp : R p ≠ 0) (g01 : gr = 0 ∨ gr = 1)
    (h : ∀ gr' R' H' E' HN', lc_J R H E gr R' H' E' gr' → lc_Snd c k f s R' H' E' → (lc_In c R H E → lc_In c R' H' E') → (gr' = 0 → lc_Cl c k f s R H E p) → post (nI c, st, gr', qd, K, F, S, R', H', E', WB, WA, HN', D, Q)) : wpX_spreadFrom post (nI c, st, gr, qd, K, F, S, R, H, E, WB, WA, HN, D, Q) (nI p) := by
  have hc := V.1
  have O := lc_V_OK V
  have hRX := (sn.1 p hp).2 hRp
  unfold wpX_spreadFrom
  dsimp only
  refine lx_passPoint V hp (fun HN' hHN => ?_)
  refine lx_emptyAfter V hp (fun em hem => ?_)
  have sH : ∀ q, lc_E c k f p q → ∀ r i, r < 4 → i < 32 → bt (HN' r) i = true → lc_HF c k f s i q r := by
    intro q e r i hr hi hb
    rw [hHN r hr i hi] at hb
    rcases hb with ⟨hm, e1, e2⟩ | ⟨hf, e1⟩ | ⟨r0, hs, hb⟩
    · rw [e1, e2]; exact Or.inl ⟨by omega, lc_R0 ⟨hm, hRX, e, rfl⟩⟩
    · exact Or.inr ⟨e1, lc_R0 (Or.inr ⟨p, hRX, e, hf⟩)⟩
    · rcases sn.2.1 p r0 i hp (lc_src_lt O hp hr hs) hi hb with ⟨a, b⟩ | ⟨a, b⟩
      · exact Or.inl ⟨a, lc_Rs b ⟨e, hs⟩⟩
      · exact Or.inr ⟨a, lc_Rs b ⟨e, hs⟩⟩
  have sE : ∀ q, lc_E c k f p q → ∀ o, o < 32 → bt em o = true → o < 4 ∧ lc_EX c k f (q, o) := by
    intro q e o ho hb
    rw [hem o ho] at hb
    rcases hb with ⟨h2, e1⟩ | ⟨hb, hn⟩
    · refine ⟨by rw [e1]; exact (O.2 p hp).2.1 (by omega), lc_R0 (Or.inr ⟨p, hRX, e, h2, e1⟩)⟩
    · obtain ⟨a, b⟩ := sn.2.2 p o hp ho hb
      exact ⟨a, lc_Rs b ⟨e, rfl, hn⟩⟩
  have step : ∀ n i gr R H E, i < 2 → (gr = 0 ∨ gr = 1) → lc_Snd c k f s R H E → (∀ gr' R' H' E', lc_J R H E gr R' H' E' gr' → lc_Snd c k f s R' H' E' → (lc_In c R H E → lc_In c R' H' E') → (∀ q, lc_nx c k f p i = some q → lc_ach R' H' E' HN' em q) → wX_spreadFrom_13 post (nI p) em n (nI (i + 1)) (nI c) st gr' qd K F S R' H' E' WB WA HN' D Q) → wX_spreadFrom_13 post (nI p) em (n + 1) (nI i) (nI c) st gr qd K F S R H E WB WA HN' D Q := by
    intro n i gr R H E hi g01 sn hk
    refine br_f (nI_ge (b := 2) hi (by decide)) ?_
    refine lx_behind V hp hi ?_
    cases hn : lc_nx c k f p i with
    | none =>
      exact br_t rfl (nm_r (nI_1 i) (hk gr R H E (lc_J_rf g01) sn id (fun q e => by rw [hn] at e; cases e)))
    | some q =>
      have hq := lc_nx_lt hn
      have e := lc_E_i hp hi hn
      refine br_f (lc_neg1 (by omega)) ?_
      refine lx_joinS V hq sn (lc_RX_s hRX e) (sH q e) (sE q e) (fun gr' R' H' E' j s' hI ha => ?_)
      refine nm_r (nI_1 i) (hk gr' R' H' E' j s' hI (fun q' e' => ?_))
      rw [hn] at e'; cases e'; exact ha
  refine ⟨3, ?_⟩
  refine step 2 0 gr R H E (by decide) g01 sn (fun g1 R1 H1 E1 j1 s1 I1 a1 => step 1 1 g1 R1 H1 E1 (by decide) j1.1 s1 (fun g2 R2 H2 E2 j2 s2 I2 a2 => ?_))
  refine br_t (nI_le (a := 2) (b := 2) (by decide) (by decide)) (h g2 R2 H2 E2 HN' (lc_J_tr j1 j2) s2 (fun z => I2 (I1 z)) (fun z => ?_))
  obtain ⟨z1, rfl, rfl, rfl⟩ := j2.2.1 z
  obtain ⟨z2, rfl, rfl, rfl⟩ := j1.2.1 z1
  intro _ q e
  have ha : lc_ach R2 H2 E2 HN' em q := e.2.elim (a1 q) (a2 q)
  refine ⟨ha.1, fun r i hr hi hb => ha.2.1 r i hr hi ((hHN r hr i hi).mpr hb), fun o ho hb => ha.2.2 o ho ((hem o ho).mpr hb)⟩
theorem lx_fh117 (V : lc_V c k f s K F S) {post : SX → Prop} {J : Int32 → Int32 → Int32 → Int32 → Int32 → (Nat → Int32) → (Nat → Int32) → (Nat → Int32) → (Nat → Int32) → (Nat → Int32) → (Nat → Int32) → (Nat → Int32) → (Nat → Int32) → (Nat → Int32) → (Nat → Int32) → (Nat → Int32) → Prop} {x1 : Nat} :
    ∀ d p gr R H E HN, p + d = c → (gr = 0 ∨ gr = 1) → lc_Snd c k f s R H E → lc_In c R H E → (gr = 0 → ∀ q, q < p → lc_Cl c k f s R H E q) →
      (∀ gr' R' H' E' HN', lc_J R H E gr R' H' E' gr' → lc_Snd c k f s R' H' E' → lc_In c R' H' E' → (gr' = 0 → ∀ q, q < c → lc_Cl c k f s R' H' E' q) → J (nI (x1 + 1)) (nI c) st gr' qd K F S R' H' E' WB WA HN' D Q) →
      wX_findHeld_117 post J (nI x1) (d + 1) (nI p) (nI c) st gr qd K F S R H E WB WA HN D Q := by
  have hc := V.1
  intro d
  induction d with
  | zero =>
    intro p gr R H E HN hpd g01 sn hI hC h
    have e : p = c := by omega
    subst e
    exact br_t (nI_le (Nat.le_refl _) (by omega)) (nm_r (nI_1 x1) (h gr R H E HN (lc_J_rf g01) sn hI hC))
  | succ d ih =>
    intro p gr R H E HN hpd g01 sn hI hC h
    have hp : p < c := by omega
    refine br_f (nI_ge hp (by omega)) ⟨vp_in_nI (by omega) (by decide), ?_⟩
    rw [nI_clamp (show p < 2 ^ 31 by omega)]
    refine br_c (fun r0 => ?_) (fun r0 => ?_)
    · refine nm_r (nI_1 p) (ih (p + 1) gr R H E HN (by omega) g01 sn hI (fun z q hq => ?_) h)
      by_cases e : q = p
      · rw [e]; intro w; exact absurd r0 w
      · exact hC z q (by omega)
    · refine lx_spread V hp sn r0 g01 (fun gr' R' H' E' HN' j s' I' C' => ?_)
      refine nm_r (nI_1 p) (ih (p + 1) gr' R' H' E' HN' (by omega) j.1 s' (I' hI) (fun z q hq => ?_) (fun g2 R2 H2 E2 HN2 j2 => h g2 R2 H2 E2 HN2 (lc_J_tr j j2)))
      obtain ⟨z1, rfl, rfl, rfl⟩ := j.2.1 z
      by_cases e : q = p
      · rw [e]; exact C' z
      · exact hC z1 q (by omega)
theorem lx_fh96 (V : lc_V c k f s K F S) {post : SX → Prop} (h : ∀ R' H' E' HN', lc_Snd c k f s R' H' E' → lc_In c R' H' E' → (∀ q, q < c → lc_Cl c k f s R' H' E' q) → post (nI c, st, 0, qd, K, F, S, R', H', E', WB, WA, HN', D, Q)) :
    ∀ n x1 gr R H E HN, x1 ≤ 2600 → 2600 < n + x1 → (gr = 0 ∨ gr = 1) → lc_Snd c k f s R H E → lc_In c R H E → (gr = 0 → ∀ q, q < c → lc_Cl c k f s R H E q) → (gr ≠ 0 → x1 + lc_mu R H E ≤ 2520) → wX_findHeld_96 post n (nI x1) (nI c) st gr qd K F S R H E WB WA HN D Q := by
  intro n
  induction n with
  | zero => intro x1 gr R H E HN h1 h2; omega
  | succ n ih =>
    intro x1 gr R H E HN h1 h2 g01 sn hI hC hm
    have fin : gr = 0 → post (nI c, st, gr, qd, K, F, S, R, H, E, WB, WA, HN, D, Q) := by
      intro z; subst z; exact h R H E HN sn hI (hC rfl)
    refine pk_le 2600 x1 (fun e => fin ?_) (fun e => br_c fin (fun g0 => ?_))
    · apply Classical.byContradiction
      intro z
      have := hm z
      omega
    · refine ⟨c + 1, lx_fh117 V c 0 0 R H E HN (by omega) (Or.inl rfl) sn hI (fun _ q hq => absurd hq (Nat.not_lt_zero q)) (fun gr' R' H' E' HN' j s' I' C' => ?_)⟩
      refine ih (x1 + 1) gr' R' H' E' HN' (by omega) (by omega) j.1 s' I' C' (fun z => ?_)
      have := hm g0
      rcases j.2.2.1 z with w | w
      · exact absurd rfl w
      · omega
def lc_Z (p : Nat) (R H E : Nat → Int32) : Prop := ∀ q, q < p → R q = 0 ∧ E q = 0 ∧ ∀ r, r < 4 → H (4 * q + r) = 0
theorem lx_fhtail (V : lc_V c k f s K F S) {post : SX → Prop} (z : lc_Z c R H E) (h : ∀ R' H' E' HN', lc_Snd c k f s R' H' E' → lc_In c R' H' E' → (∀ q, q < c → lc_Cl c k f s R' H' E' q) → post (nI c, st, 0, qd, K, F, S, R', H', E', WB, WA, HN', D, Q)) (n : Nat) : wX_findHeld_2 post (nI c) st gr qd (n + 1) (nI c) K F S R H E WB WA HN D Q := by
  have hc := V.1
  have sn : lc_Snd c k f s R H E := by
    refine ⟨fun p hp => ⟨Or.inl (z p hp).1, fun w => absurd (z p hp).1 w⟩, fun p r i hp hr hi hb => ?_, fun p o hp ho hb => ?_⟩
    · rw [(z p hp).2.2 r hr, b_0] at hb; cases hb
    · rw [(z p hp).2.1, b_0] at hb; cases hb
  have go : ∀ R H E HN, lc_Snd c k f s R H E → lc_In c R H E → ∃ n96, wX_findHeld_96 post n96 (nI 0) (nI c) st 1 qd K F S R H E WB WA HN D Q := fun R H E HN sn hI =>
    ⟨2601, lx_fh96 V h 2601 0 1 R H E HN (by decide) (by decide) (Or.inr rfl) sn hI (fun w => absurd w (by decide)) (fun _ => by have := cn_le (fun n => ¬ lc_ft R H E n) 2520; unfold lc_mu; omega)⟩
  refine br_t (nI_le (Nat.le_refl _) (by omega)) ?_
  refine pk_le c 0 (fun e => go R H E HN sn (fun w => absurd w (by omega))) (fun e => ⟨5, ?_⟩)
  have loop : ∀ d r HN, r + d = 4 → (∀ j, j < r → HN j = 16777216) → wX_findHeld_63 post (nI c) st gr qd (d + 1) (nI r) K F S R H E WB WA HN D Q := by
    intro d
    induction d with
    | zero =>
      intro r HN hr hH
      have e4 : r = 4 := by omega
      subst e4
      refine br_t (nI_le (a := 4) (b := 4) (by decide) (by decide)) ?_
      refine lx_joinS V (to := 0) (by omega) sn (lc_R0 ⟨by omega, rfl⟩) (fun r i hr hi hb => ?_) (fun o ho hb => ?_) (fun gr' R' H' E' j s' I' ha => ?_)
      · rw [hH r hr, lc_b24 i hi] at hb
        exact Or.inr ⟨of_decide_eq_true hb, lc_R0 (Or.inl ⟨by omega, rfl⟩)⟩
      · rw [lc_b15 o ho] at hb
        exact ⟨of_decide_eq_true hb, lc_R0 (Or.inl ⟨by omega, rfl⟩)⟩
      · refine go R' H' E' HN s' (fun _ => ⟨ha.1, fun r hr => ?_, fun o ho => ?_⟩)
        · have := ha.2.1 r 24 hr (by decide) (by rw [hH r hr]; decide)
          rw [show 4 * 0 + r = r by omega] at this
          exact this
        · exact ha.2.2 o (by omega) (by rw [lc_b15 o (by omega)]; exact decide_eq_true ho)
    | succ d ih =>
      intro r HN hr hH
      refine br_f (nI_ge (b := 4) (by omega) (by decide)) ⟨vp_in_nI (by omega) (by decide), nm_e (nm_r (nI_1 r) (ih (r + 1) _ (by omega) (fun j hj => ?_)))⟩
      rw [nI_clamp (show r < 2 ^ 31 by omega)]
      by_cases e : j = r
      · rw [e, pk_us]
      · rw [pk_un e]; exact hH j (by omega)
  exact loop 4 0 HN rfl (fun j hj => absurd hj (Nat.not_lt_zero j))
theorem lx_fh26 {post : SX → Prop} {J2 : Int32 → (Nat → Int32) → (Nat → Int32) → (Nat → Int32) → (Nat → Int32) → (Nat → Int32) → (Nat → Int32) → (Nat → Int32) → (Nat → Int32) → (Nat → Int32) → (Nat → Int32) → (Nat → Int32) → Prop} {p : Nat} (hp : p < 24) :
    ∀ d r H, r + d = 4 → (∀ j, j < r → H (4 * p + j) = 0) → (∀ q, q < p → ∀ j, j < 4 → H (4 * q + j) = 0) → (∀ H', (∀ q, q < p + 1 → ∀ j, j < 4 → H' (4 * q + j) = 0) → J2 (nI (p + 1)) K F S R H' E WB WA HN D Q) → wX_findHeld_26 post J2 (nI p) (nI c) st gr qd (d + 1) (nI r) K F S R H E WB WA HN D Q := by
  intro d
  induction d with
  | zero =>
    intro r H hr h1 h2 h
    have e4 : r = 4 := by omega
    subst e4
    refine br_t (nI_le (a := 4) (b := 4) (by decide) (by decide)) (nm_r (nI_1 p) (h H (fun q hq j hj => ?_)))
    by_cases e : q = p
    · rw [e]; exact h1 j hj
    · exact h2 q (by omega) j hj
  | succ d ih =>
    intro r H hr h1 h2 h
    refine br_f (nI_ge (b := 4) (by omega) (by decide)) ?_
    rw [lc_i4, nI_clamp (show 4 * p + r < 2 ^ 31 by omega)]
    refine ⟨vp_in_nI (by omega) (by decide), nm_e (nm_r (nI_1 r) (ih (r + 1) _ (by omega) (fun j hj => ?_) (fun q hq j hj => ?_) h))⟩
    · by_cases e : j = r
      · rw [e, pk_us]
      · rw [pk_un (by omega)]; exact h1 j (by omega)
    · rw [pk_un (by omega)]; exact h2 q hq j hj
theorem lx_findHeld (V : lc_V c k f s K F S) {post : SX → Prop} (h : ∀ R' H' E' HN', lc_Snd c k f s R' H' E' → lc_In c R' H' E' → (∀ q, q < c → lc_Cl c k f s R' H' E' q) → post (nI c, st, 0, qd, K, F, S, R', H', E', WB, WA, HN', D, Q)) : wpX_findHeld post (nI c, st, gr, qd, K, F, S, R, H, E, WB, WA, HN, D, Q) := by
  have hc := V.1
  have loop : ∀ d p R H E, p + d = c → lc_Z p R H E → wX_findHeld_2 post (nI c) st gr qd (d + 1) (nI p) K F S R H E WB WA HN D Q := by
    intro d
    induction d with
    | zero =>
      intro p R H E hpd z
      have e : p = c := by omega
      subst e
      exact lx_fhtail V z h 0
    | succ d ih =>
      intro p R H E hpd z
      have hin : vp_in (nI p) 24 := vp_in_nI (by omega) (by decide)
      refine br_f (nI_ge (by omega) (by omega)) ⟨hin, nm_e ⟨hin, nm_e ⟨5, ?_⟩⟩⟩
      rw [nI_clamp (show p < 2 ^ 31 by omega), lc_nar0]
      refine lx_fh26 (by omega) 4 0 H rfl (fun j hj => absurd hj (Nat.not_lt_zero j)) (fun q hq j hj => (z q hq).2.2 j hj) (fun H' hH' => ?_)
      refine ih (p + 1) _ H' _ (by omega) (fun q hq => ?_)
      by_cases e : q = p
      · rw [e, pk_us, pk_us]; exact ⟨rfl, rfl, hH' p (by omega)⟩
      · rw [pk_un e, pk_un e]
        exact ⟨(z q (by omega)).1, (z q (by omega)).2.1, hH' q hq⟩
  unfold wpX_findHeld
  exact ⟨c + 1, loop c 0 R H E (by omega) (fun q hq => absurd hq (Nat.not_lt_zero q))⟩
end
/-! at rest the marks are all -/
theorem lc_held {c : Nat} {k f s : Nat → Nat} {R H E : Nat → Int32} (O : lc_OK c k f s) (sn : lc_Snd c k f s R H E) (hI : lc_In c R H E) (C : ∀ q, q < c → lc_Cl c k f s R H E q) :
    (∀ p, p < c → (R p = 1 ∧ lc_RX c k f p) ∨ (R p = 0 ∧ ¬ lc_RX c k f p)) ∧ (∀ p r i, p < c → r < 4 → i < 32 → (bt (H (4 * p + r)) i = true ↔ lc_HF c k f s i p r)) ∧ (∀ p o, p < c → o < 32 → (bt (E p) o = true ↔ (o < 4 ∧ lc_EX c k f (p, o)))) := by
  have hR : ∀ p, lc_RX c k f p → R p ≠ 0 := by
    intro p h
    refine lc_Ri (fun p => R p ≠ 0) ?_ ?_ h
    · rintro x ⟨h0, rfl⟩; exact (hI h0).1
    · intro x y _ hx e; exact (C x e.1 hx y e).1
  refine ⟨fun p hp => ?_, fun p r i hp hr hi => ⟨sn.2.1 p r i hp hr hi, ?_⟩, fun p o hp ho => ⟨sn.2.2 p o hp ho, ?_⟩⟩
  · rcases (sn.1 p hp).1 with e | e
    · exact Or.inr ⟨e, fun z => hR p z e⟩
    · exact Or.inl ⟨e, (sn.1 p hp).2 (by rw [e]; decide)⟩
  · rintro (⟨hi24, h⟩ | ⟨e, h⟩)
    · have key : ∀ x : Nat × Nat, lc_HX c k f s i x → x.2 < 4 → bt (H (4 * x.1 + x.2)) i = true := by
        intro x hx
        refine lc_Ri (fun x : Nat × Nat => x.2 < 4 → bt (H (4 * x.1 + x.2)) i = true) ?_ ?_ hx
        · rintro x ⟨hm, hRi, e, ex⟩ h4
          exact (C i e.1 (hR i hRi) x.1 e).2.1 x.2 i h4 hi (Or.inl ⟨hm, ex, rfl⟩)
        · rintro x y hx ih ⟨e, hs⟩ h4
          exact (C x.1 e.1 (hR _ (lc_HX_RX hx)) y.1 e).2.1 y.2 i h4 hi (Or.inr (Or.inr ⟨x.2, hs, ih (lc_src_lt O e.1 h4 hs)⟩))
      exact key (p, r) h hr
    · subst e
      have key : ∀ x : Nat × Nat, lc_FX c k f s x → x.2 < 4 → bt (H (4 * x.1 + x.2)) 24 = true := by
        intro x hx
        refine lc_Ri (fun x : Nat × Nat => x.2 < 4 → bt (H (4 * x.1 + x.2)) 24 = true) ?_ ?_ hx
        · rintro x (⟨h0, ex⟩ | ⟨p, hp, e, hf⟩) h4
          · rw [ex, show 4 * 0 + x.2 = x.2 by omega]; exact (hI h0).2.1 x.2 h4
          · exact (C p e.1 (hR p hp) x.1 e).2.1 x.2 24 h4 hi (Or.inr (Or.inl ⟨hf, rfl⟩))
        · rintro x y hx ih ⟨e, hs⟩ h4
          exact (C x.1 e.1 (hR _ (lc_FX_RX hx)) y.1 e).2.1 y.2 24 h4 hi (Or.inr (Or.inr ⟨x.2, hs, ih (lc_src_lt O e.1 h4 hs)⟩))
      exact key (p, r) h hr
  · rintro ⟨h4, h⟩
    have key : ∀ x : Nat × Nat, lc_EX c k f x → x.2 < 4 → bt (E x.1) x.2 = true := by
      intro x hx
      refine lc_Ri (fun x : Nat × Nat => x.2 < 4 → bt (E x.1) x.2 = true) ?_ ?_ hx
      · rintro x (⟨h0, ex⟩ | ⟨p, hp, e, hf⟩) h4
        · rw [ex]; exact (hI h0).2.2 x.2 h4
        · exact (C p e.1 (hR p hp) x.1 e).2.2 x.2 (by omega) (Or.inl hf)
      · rintro x y hx ih ⟨e, h2, hn⟩ h4
        refine (C x.1 e.1 (hR _ (lc_EX_RX hx)) y.1 e).2.2 y.2 (by omega) (Or.inr ?_)
        rw [h2] at h4 ⊢
        exact ⟨ih h4, hn⟩
    exact key (p, o) h h4
end
section
/-! ===== what is wanted: the component's backward search ===== -/
def lc_WS (c : Nat) (k f s : Nat → Nat) (WB WA : Nat → Int32) : Prop := ∀ p i, p < c → i < 32 → (bt (WB p) i = true → lc_WX c k f s (p, i)) ∧ (bt (WA p) i = true → ∃ q, lc_E c k f p q ∧ lc_WX c k f s (q, i))
def lc_WO (c : Nat) (k f s : Nat → Nat) (WB WA : Nat → Int32) : Prop := ∀ p i, p < c → i < 32 → (bt (WA p) i = true → lc_wb c k f WB p i) ∧ (bt (WB p) i = true → lc_th k f s p (WA p) i)
def lc_WC (c : Nat) (k f s : Nat → Nat) (WB WA : Nat → Int32) (p : Nat) : Prop := ∀ i, i < 32 → (bt (WA p) i = true ↔ lc_wb c k f WB p i) ∧ (bt (WB p) i = true ↔ lc_th k f s p (WA p) i)
def lc_wf (WB WA : Nat → Int32) (n : Nat) : Prop := if n % 8 < 4 then bt (WB (n / 8)) (n % 8) = true else bt (WA (n / 8)) (n % 8 - 4) = true
noncomputable def lc_wm (WB WA : Nat → Int32) : Nat := cn (fun n => ¬ lc_wf WB WA n) 192
theorem lc_wf_B {WB WA : Nat → Int32} {p i : Nat} (hi : i < 4) : lc_wf WB WA (8 * p + i) ↔ bt (WB p) i = true := by
  unfold lc_wf
  have e1 : (8 * p + i) % 8 = i := by omega
  have e2 : (8 * p + i) / 8 = p := by omega
  rw [e1, e2, if_pos hi]
theorem lc_wf_A {WB WA : Nat → Int32} {p i : Nat} (hi : i < 4) : lc_wf WB WA (8 * p + (4 + i)) ↔ bt (WA p) i = true := by
  unfold lc_wf
  have e1 : (8 * p + (4 + i)) % 8 = 4 + i := by omega
  have e2 : (8 * p + (4 + i)) / 8 = p := by omega
  rw [e1, e2, if_neg (by omega), show 4 + i - 4 = i by omega]
def lc_K (WB WA : Nat → Int32) (gr : Int32) (WB' WA' : Nat → Int32) (gr' : Int32) : Prop := (gr' = 0 ∨ gr' = 1) ∧ (gr' = 0 → gr = 0 ∧ WB' = WB ∧ WA' = WA) ∧ (gr' ≠ 0 → gr ≠ 0 ∨ lc_wm WB' WA' < lc_wm WB WA) ∧ lc_wm WB' WA' ≤ lc_wm WB WA
theorem lc_K_tr {WB WA WB1 WA1 WB2 WA2 : Nat → Int32} {g g1 g2 : Int32} (a : lc_K WB WA g WB1 WA1 g1) (b : lc_K WB1 WA1 g1 WB2 WA2 g2) : lc_K WB WA g WB2 WA2 g2 := by
  obtain ⟨a0, a1, a2, a3⟩ := a
  obtain ⟨b0, b1, b2, b3⟩ := b
  refine ⟨b0, fun z => ?_, fun z => ?_, by omega⟩
  · obtain ⟨z1, rfl, rfl⟩ := b1 z
    exact a1 z1
  · rcases b2 z with w | w
    · rcases a2 w with w | w
      · exact Or.inl w
      · exact Or.inr (by omega)
    · exact Or.inr (by omega)
theorem lc_th_mo {k f s : Nat → Nat} {p i : Nat} {A B : Int32} (m : ∀ i, i < 32 → bt A i = true → bt B i = true) (h : lc_th k f s p A i) : lc_th k f s p B i := by
  rcases h with h | ⟨r, hr, hb, hs⟩
  · exact Or.inl h
  · exact Or.inr ⟨r, hr, m r hr hb, hs⟩
theorem lc_upd_same {a : Nat → Int32} {p : Nat} {x : Int32} (h : x = a p) : upd a p x = a := by
  funext n
  by_cases e : n = p
  · rw [e, pk_us, h]
  · rw [pk_un e]
/-- one point of the search -/
theorem lc_wstep {c : Nat} {k f s : Nat → Nat} {WB WA : Nat → Int32} (O : lc_OK c k f s) (ws : lc_WS c k f s WB WA) (wo : lc_WO c k f s WB WA) {p : Nat} (hp : p < c) {w1 w2 : Int32}
    (h1 : ∀ i, i < 32 → (bt w1 i = true ↔ lc_wb c k f WB p i)) (h2 : ∀ i, i < 32 → (bt w2 i = true ↔ lc_th k f s p w1 i)) :
    lc_WS c k f s (upd WB p w2) (upd WA p w1) ∧ lc_WO c k f s (upd WB p w2) (upd WA p w1) ∧ lc_wm (upd WB p w2) (upd WA p w1) ≤ lc_wm WB WA ∧ (w2 ≠ WB p ∨ w1 ≠ WA p → lc_wm (upd WB p w2) (upd WA p w1) < lc_wm WB WA) := by
  have hc := O.1
  have m1 : ∀ i, i < 32 → bt (WA p) i = true → bt w1 i = true := fun i hi hb => (h1 i hi).mpr ((wo p i hp hi).1 hb)
  have m2 : ∀ i, i < 32 → bt (WB p) i = true → bt w2 i = true := fun i hi hb => (h2 i hi).mpr (lc_th_mo m1 ((wo p i hp hi).2 hb))
  have s1 : ∀ i, i < 32 → bt w1 i = true → ∃ q, lc_E c k f p q ∧ lc_WX c k f s (q, i) := by
    intro i hi hb
    obtain ⟨q, e, hb⟩ := (h1 i hi).mp hb
    exact ⟨q, e, (ws q i (lc_E_r e) hi).1 hb⟩
  have s2 : ∀ i, i < 32 → bt w2 i = true → lc_WX c k f s (p, i) := by
    intro i hi hb
    rcases (h2 i hi).mp hb with ⟨h7, e⟩ | ⟨r, hr, hb, hs⟩
    · exact lc_R0 ⟨hp, h7, e⟩
    · obtain ⟨q, e, hw⟩ := s1 r hr hb
      exact lc_Rs hw ⟨e, hs⟩
  have mB : ∀ q i, i < 32 → bt (WB q) i = true → bt (upd WB p w2 q) i = true := by
    intro q i hi hb
    by_cases e : q = p
    · rw [e, pk_us]; rw [e] at hb; exact m2 i hi hb
    · rw [pk_un e]; exact hb
  have mA : ∀ q i, i < 32 → bt (WA q) i = true → bt (upd WA p w1 q) i = true := by
    intro q i hi hb
    by_cases e : q = p
    · rw [e, pk_us]; rw [e] at hb; exact m1 i hi hb
    · rw [pk_un e]; exact hb
  have mf : ∀ n, lc_wf WB WA n → lc_wf (upd WB p w2) (upd WA p w1) n := by
    intro n hn
    unfold lc_wf at hn ⊢
    by_cases h : n % 8 < 4
    · rw [if_pos h] at hn ⊢; exact mB _ _ (by omega) hn
    · rw [if_neg h] at hn ⊢; exact mA _ _ (by omega) hn
  have mw : ∀ q i, i < 32 → lc_wb c k f WB q i → lc_wb c k f (upd WB p w2) q i := by
    rintro q i hi ⟨q', e, hb⟩
    exact ⟨q', e, mB q' i hi hb⟩
  refine ⟨fun q i hq hi => ?_, fun q i hq hi => ?_, cn_mono fun n _ h z => h (mf n z), fun hd => ?_⟩
  · by_cases e : q = p
    · rw [e, pk_us, pk_us]; exact ⟨s2 i hi, s1 i hi⟩
    · rw [pk_un e, pk_un e]; exact ws q i hq hi
  · by_cases e : q = p
    · rw [e, pk_us, pk_us]
      exact ⟨fun hb => mw p i hi ((h1 i hi).mp hb), fun hb => (h2 i hi).mp hb⟩
    · rw [pk_un e, pk_un e]
      exact ⟨fun hb => mw q i hi ((wo q i hq hi).1 hb), (wo q i hq hi).2⟩
  · rcases hd with hd | hd
    · obtain ⟨i, hi, hb⟩ := lc_diff hd
      have hb0 : bt (WB p) i = false := by
        cases hz : bt (WB p) i
        · rfl
        · rw [hz, m2 i hi hz] at hb; exact absurd rfl hb
      have hb1 : bt w2 i = true := by
        cases hz : bt w2 i
        · rw [hz, hb0] at hb; exact absurd rfl hb
        · rfl
      have hi4 : i < 4 := lc_WX4 O (s2 i hi hb1)
      have a1 : lc_wf (upd WB p w2) (upd WA p w1) (8 * p + i) := (lc_wf_B hi4).mpr (by rw [pk_us]; exact hb1)
      have a0 : ¬ lc_wf WB WA (8 * p + i) := fun z => by rw [lc_wf_B hi4, hb0] at z; cases z
      exact cn_lt (a := 8 * p + i) (fun z => z a1) a0 (fun n _ h z => h (mf n z)) (by omega)
    · obtain ⟨i, hi, hb⟩ := lc_diff hd
      have hb0 : bt (WA p) i = false := by
        cases hz : bt (WA p) i
        · rfl
        · rw [hz, m1 i hi hz] at hb; exact absurd rfl hb
      have hb1 : bt w1 i = true := by
        cases hz : bt w1 i
        · rw [hz, hb0] at hb; exact absurd rfl hb
        · rfl
      have hi4 : i < 4 := by
        obtain ⟨q, -, hw⟩ := s1 i hi hb1
        exact lc_WX4 O hw
      have a1 : lc_wf (upd WB p w2) (upd WA p w1) (8 * p + (4 + i)) := (lc_wf_A hi4).mpr (by rw [pk_us]; exact hb1)
      have a0 : ¬ lc_wf WB WA (8 * p + (4 + i)) := fun z => by rw [lc_wf_A hi4, hb0] at z; cases z
      exact cn_lt (a := 8 * p + (4 + i)) (fun z => z a1) a0 (fun n _ h z => h (mf n z)) (by omega)
theorem lc_wanted {c : Nat} {k f s : Nat → Nat} {WB WA : Nat → Int32} (O : lc_OK c k f s) (ws : lc_WS c k f s WB WA) (C : ∀ p, p < c → lc_WC c k f s WB WA p) :
    (∀ p i, p < c → i < 32 → (bt (WB p) i = true ↔ lc_WX c k f s (p, i))) ∧ (∀ p i, p < c → i < 32 → (bt (WA p) i = true ↔ ∃ q, lc_E c k f p q ∧ lc_WX c k f s (q, i))) := by
  have key : ∀ x : Nat × Nat, lc_WX c k f s x → bt (WB x.1) x.2 = true := by
    intro x hx
    refine lc_Ri (fun x : Nat × Nat => bt (WB x.1) x.2 = true) ?_ ?_ hx
    · rintro x ⟨h0, h7, e⟩
      have h4 : x.2 < 4 := by rw [e]; exact (O.2 x.1 h0).2.1 (by omega)
      exact ((C x.1 h0 x.2 (by omega)).2).mpr (Or.inl ⟨h7, e⟩)
    · rintro x y hx ih ⟨e, hs⟩
      have hx4 := lc_WX4 O hx
      have hy4 := lc_src_lt O e.1 hx4 hs
      refine ((C y.1 e.1 y.2 (by omega)).2).mpr (Or.inr ⟨x.2, by omega, ?_, hs⟩)
      exact ((C y.1 e.1 x.2 (by omega)).1).mpr ⟨x.1, e, ih⟩
  refine ⟨fun p i hp hi => ⟨(ws p i hp hi).1, key (p, i)⟩, fun p i hp hi => ⟨(ws p i hp hi).2, ?_⟩⟩
  rintro ⟨q, e, hw⟩
  exact ((C p hp i hi).1).mpr ⟨q, e, key (q, i) hw⟩
section
variable {c : Nat} {k f s : Nat → Nat} {st gr qd : Int32} {K F S R H E WB WA HN D Q : Nat → Int32}
theorem lx_fw115 {post : SX → Prop} {J37 J63 : Int32 → Int32 → (Nat → Int32) → (Nat → Int32) → (Nat → Int32) → (Nat → Int32) → (Nat → Int32) → (Nat → Int32) → (Nat → Int32) → (Nat → Int32) → (Nat → Int32) → (Nat → Int32) → (Nat → Int32) → Prop} {x1 w1 w2 z0 : Int32} {p : Nat} (hp : p < 24) (hz : z0 = 0 ∨ z0 = 1)
    (h : J63 (nI p - 1) z0 K F S R H E (upd WB p w2) (upd WA p w1) HN D Q) : wX_findWanted_115 post J37 J63 x1 (nI p) w1 w2 z0 (nI c) st gr qd K F S R H E WB WA HN D Q := by
  unfold wX_findWanted_115
  have hin : vp_in (nI p) 24 := vp_in_nI hp (by decide)
  have hz2 : narrow .boolean (.int z0) = .int z0 ∧ fits .boolean (.int z0) = true := by
    rcases hz with e | e <;> subst e
    · exact ⟨narrow_b0, lc_f0⟩
    · exact ⟨narrow_b1, lc_f1⟩
  rw [nI_clamp (show p < 2 ^ 31 by omega)]
  exact ⟨hz2.1, hz2.2, hin, nm_e ⟨hin, nm_e (nm_r (Int32.sub_eq_add_neg (nI p) 1).symm h)⟩⟩
theorem lx_fw63 (V : lc_V c k f s K F S) {post : SX → Prop} {J : Int32 → Int32 → (Nat → Int32) → (Nat → Int32) → (Nat → Int32) → (Nat → Int32) → (Nat → Int32) → (Nat → Int32) → (Nat → Int32) → (Nat → Int32) → (Nat → Int32) → (Nat → Int32) → (Nat → Int32) → Prop} {x1 : Nat} :
    ∀ j gr WB WA, j ≤ c → (gr = 0 ∨ gr = 1) → lc_WS c k f s WB WA → lc_WO c k f s WB WA → (gr = 0 → ∀ q, j ≤ q → q < c → lc_WC c k f s WB WA q) →
      (∀ gr' WB' WA', lc_K WB WA gr WB' WA' gr' → lc_WS c k f s WB' WA' → lc_WO c k f s WB' WA' → (gr' = 0 → ∀ q, q < c → lc_WC c k f s WB' WA' q) → J (nI (x1 + 1)) gr' K F S R H E WB' WA' HN D Q) →
      wX_findWanted_63 post J (nI x1) (nI c) st qd (j + 1) (nI j - 1) gr K F S R H E WB WA HN D Q := by
  have hc := V.1
  have O := lc_V_OK V
  intro j
  induction j with
  | zero =>
    intro gr WB WA hj g01 ws wo hC h
    refine br_t (by decide) (nm_r (nI_1 x1) (h gr WB WA ⟨g01, fun z => ⟨z, rfl, rfl⟩, fun z => Or.inl z, Nat.le_refl _⟩ ws wo (fun z q hq => hC z q (Nat.zero_le q) hq)))
  | succ p ih =>
    intro gr WB WA hj g01 ws wo hC h
    have hp : p < c := by omega
    have hin : vp_in (nI p) 24 := vp_in_nI (by omega) (by decide)
    rw [nI_pred]
    refine br_f (nI_pos (by omega)) ?_
    refine lx_wantedBehind V hp (fun w1 h1 => ?_)
    refine lx_wantedThrough V hp (fun w2 h2 => ?_)
    obtain ⟨ws', wo', mle, mlt⟩ := lc_wstep O ws wo hp h1 h2
    have turn : ∀ g1, (g1 = 0 ∨ g1 = 1) → (g1 = 0 → gr = 0 ∧ w2 = WB p ∧ w1 = WA p) → (g1 ≠ 0 → gr ≠ 0 ∨ w2 ≠ WB p ∨ w1 ≠ WA p) → wX_findWanted_63 post J (nI x1) (nI c) st qd (p + 1) (nI p - 1) g1 K F S R H E (upd WB p w2) (upd WA p w1) HN D Q := by
      intro g1 b01 b0 b1
      have hK : lc_K WB WA gr (upd WB p w2) (upd WA p w1) g1 := by
        refine ⟨b01, fun z => ?_, fun z => ?_, mle⟩
        · obtain ⟨z1, z2, z3⟩ := b0 z
          exact ⟨z1, lc_upd_same z2, lc_upd_same z3⟩
        · rcases b1 z with w | w
          · exact Or.inl w
          · exact Or.inr (mlt w)
      refine ih g1 _ _ (by omega) b01 ws' wo' (fun z q hq hqc => ?_) (fun g2 WB2 WA2 k2 => h g2 WB2 WA2 (lc_K_tr hK k2))
      obtain ⟨z1, z2, z3⟩ := b0 z
      rw [lc_upd_same z2, lc_upd_same z3]
      by_cases e : q = p
      · rw [e]
        intro i hi
        rw [← z2, ← z3]
        exact ⟨h1 i hi, h2 i hi⟩
      · exact hC z1 q (by omega) hqc
    refine br_c (fun g0 => ⟨hin, ?_⟩) (fun g0 => ?_)
    · rw [nI_clamp (show p < 2 ^ 31 by omega)]
      refine br_c (fun e => ⟨hin, br_c (fun e2 => ?_) (fun e2 => ?_)⟩) (fun e => ?_)
      · exact lx_fw115 (by omega) (Or.inl rfl) (turn 0 (Or.inl rfl) (fun _ => ⟨g0, e, e2⟩) (fun z => absurd rfl z))
      · unfold wX_findWanted_110
        exact lx_fw115 (by omega) (Or.inr rfl) (turn 1 (Or.inr rfl) (fun z => absurd z (by decide)) (fun _ => Or.inr (Or.inr e2)))
      · unfold wX_findWanted_110
        exact lx_fw115 (by omega) (Or.inr rfl) (turn 1 (Or.inr rfl) (fun z => absurd z (by decide)) (fun _ => Or.inr (Or.inl e)))
    · unfold wX_findWanted_110
      exact lx_fw115 (by omega) (Or.inr rfl) (turn 1 (Or.inr rfl) (fun z => absurd z (by decide)) (fun _ => Or.inl g0))
theorem lx_fw37 (V : lc_V c k f s K F S) {post : SX → Prop} (h : ∀ WB' WA', lc_WS c k f s WB' WA' → (∀ q, q < c → lc_WC c k f s WB' WA' q) → post (nI c, st, 0, qd, K, F, S, R, H, E, WB', WA', HN, D, Q)) :
    ∀ n x1 gr WB WA, x1 ≤ 200 → 200 < n + x1 → (gr = 0 ∨ gr = 1) → lc_WS c k f s WB WA → lc_WO c k f s WB WA → (gr = 0 → ∀ q, q < c → lc_WC c k f s WB WA q) → (gr ≠ 0 → x1 + lc_wm WB WA ≤ 192) → wX_findWanted_37 post (nI c) st qd n (nI x1) gr K F S R H E WB WA HN D Q := by
  have hc := V.1
  intro n
  induction n with
  | zero => intro x1 gr WB WA h1 h2; omega
  | succ n ih =>
    intro x1 gr WB WA h1 h2 g01 ws wo hC hm
    have fin : gr = 0 → post (nI c, st, gr, qd, K, F, S, R, H, E, WB, WA, HN, D, Q) := by
      intro z; subst z; exact h WB WA ws (hC rfl)
    refine pk_le 200 x1 (fun e => fin ?_) (fun e => br_c fin (fun g0 => nm_e ⟨c + 1, ?_⟩))
    · apply Classical.byContradiction
      intro z
      have := hm z
      omega
    · refine lx_fw63 V c 0 WB WA (Nat.le_refl _) (Or.inl rfl) ws wo (fun _ q h1 h2 => absurd h2 (by omega)) (fun gr' WB' WA' j s' o' C' => ?_)
      refine ih (x1 + 1) gr' WB' WA' (by omega) (by omega) j.1 s' o' C' (fun z => ?_)
      have := hm g0
      rcases j.2.2.1 z with w | w
      · exact absurd rfl w
      · omega
theorem lx_findWanted (V : lc_V c k f s K F S) {post : SX → Prop} (h : ∀ WB' WA', lc_WS c k f s WB' WA' → (∀ q, q < c → lc_WC c k f s WB' WA' q) → post (nI c, st, 0, qd, K, F, S, R, H, E, WB', WA', HN, D, Q)) : wpX_findWanted post (nI c, st, gr, qd, K, F, S, R, H, E, WB, WA, HN, D, Q) := by
  have hc := V.1
  have loop : ∀ d p WB WA, p + d = c → (∀ q, q < p → WB q = 0 ∧ WA q = 0) → wX_findWanted_2 post (nI c) st gr qd (d + 1) (nI p) K F S R H E WB WA HN D Q := by
    intro d
    induction d with
    | zero =>
      intro p WB WA hpd z
      have e : p = c := by omega
      subst e
      refine br_t (nI_le (Nat.le_refl _) (by omega)) ⟨201, ?_⟩
      refine lx_fw37 V h 201 0 1 WB WA (by decide) (by decide) (Or.inr rfl) (fun q i hq hi => ?_) (fun q i hq hi => ?_) (fun w => absurd w (by decide)) (fun _ => ?_)
      · rw [(z q hq).1, (z q hq).2, b_0]; exact ⟨fun w => absurd w Bool.false_ne_true, fun w => absurd w Bool.false_ne_true⟩
      · rw [(z q hq).1, (z q hq).2, b_0]; exact ⟨fun w => absurd w Bool.false_ne_true, fun w => absurd w Bool.false_ne_true⟩
      · have := cn_le (fun n => ¬ lc_wf WB WA n) 192
        unfold lc_wm; omega
    | succ d ih =>
      intro p WB WA hpd z
      have hin : vp_in (nI p) 24 := vp_in_nI (by omega) (by decide)
      refine br_f (nI_ge (by omega) (by omega)) ⟨hin, nm_e ⟨hin, nm_e (nm_r (nI_1 p) ?_)⟩⟩
      rw [nI_clamp (show p < 2 ^ 31 by omega)]
      refine ih (p + 1) _ _ (by omega) (fun q hq => ?_)
      by_cases e : q = p
      · rw [e, pk_us, pk_us]; exact ⟨rfl, rfl⟩
      · rw [pk_un e, pk_un e]; exact z q (by omega)
  unfold wpX_findWanted
  exact ⟨c + 1, loop c 0 WB WA (by omega) (fun q hq => absurd hq (Nat.not_lt_zero q))⟩
end
/-- all is studied -/
def lc_Std (c : Nat) (k f s : Nat → Nat) (R H E WB WA : Nat → Int32) : Prop :=
  (∀ p, p < c → (R p = 1 ∧ lc_RX c k f p) ∨ (R p = 0 ∧ ¬ lc_RX c k f p)) ∧ (∀ p r i, p < c → r < 4 → i < 32 → (bt (H (4 * p + r)) i = true ↔ lc_HF c k f s i p r)) ∧ (∀ p o, p < c → o < 32 → (bt (E p) o = true ↔ (o < 4 ∧ lc_EX c k f (p, o)))) ∧
  (∀ p i, p < c → i < 32 → (bt (WB p) i = true ↔ lc_WX c k f s (p, i))) ∧ (∀ p i, p < c → i < 32 → (bt (WA p) i = true ↔ ∃ q, lc_E c k f p q ∧ lc_WX c k f s (q, i)))
section
variable {c : Nat} {k f s : Nat → Nat} {st gr qd : Int32} {K F S R H E WB WA HN D Q : Nat → Int32}
theorem lx_study (V : lc_V c k f s K F S) (hst : st = 0 ∨ (st = 1 ∧ lc_Std c k f s R H E WB WA)) {post : SX → Prop} (h : ∀ gr' R' H' E' WB' WA' HN', lc_Std c k f s R' H' E' WB' WA' → post (nI c, 1, gr', qd, K, F, S, R', H', E', WB', WA', HN', D, Q)) : wpX_study post (nI c, st, gr, qd, K, F, S, R, H, E, WB, WA, HN, D, Q) := by
  have O := lc_V_OK V
  unfold wpX_study
  dsimp only
  rcases hst with e | ⟨e, hs⟩
  · subst e
    refine br_t rfl ?_
    refine lx_findHeld V (fun R' H' E' HN' sn hI C => ?_)
    refine lx_findWanted V (fun WB' WA' ws C2 => ?_)
    obtain ⟨a1, a2, a3⟩ := lc_held O sn hI C
    obtain ⟨a4, a5⟩ := lc_wanted O ws C2
    exact h 0 R' H' E' WB' WA' HN' ⟨a1, a2, a3, a4, a5⟩
  · subst e
    exact br_f (by decide) (h gr R H E WB WA HN hs)
end
end
section
/-! ===== the component's answers out of what is studied ===== -/
def lc_HT (c : Nat) (k f s : Nat → Nat) (p i : Nat) : Prop := ∃ r, r < 4 ∧ ¬ (lc_mk k p ∧ f p = r) ∧ (∃ q, lc_E c k f p q ∧ lc_WX c k f s (q, r)) ∧ lc_HX c k f s i (p, r)
/-- the loan of b and what is done at p are in conflict -/
def lc_Cn (c : Nat) (k f s : Nat → Nat) (b p : Nat) : Prop := lc_Ag k f s p b ∧ lc_HT c k f s p b
def lc_Un (c : Nat) (k f s : Nat → Nat) (p : Nat) : Prop := ∃ o, lc_ow k f s p = some o ∧ k p ≠ 0 ∧ lc_EX c k f (p, o)
def lc_Id (c : Nat) (k f s : Nat → Nat) (p : Nat) : Prop := k p = 7 ∧ lc_FX c k f s (p, f p)
def lc_Ft (c : Nat) (k f s : Nat → Nat) (p : Nat) : Prop := lc_Un c k f s p ∨ lc_Id c k f s p ∨ ∃ b, b < c ∧ lc_Cn c k f s b p
/-- a word whose bits are those of P -/
def lc_W (w : Int32) (P : Nat → Prop) : Prop := ∀ i, i < 32 → (bt w i = true ↔ P i)
theorem lc_W_eq {w w' : Int32} {P : Nat → Prop} (h : lc_W w P) (h' : lc_W w' P) : w = w' := lc_beq fun i hi => (h i hi).trans (h' i hi).symm
theorem lc_W_0 {w : Int32} {P : Nat → Prop} (h : lc_W w P) : w = 0 ↔ ∀ i, i < 32 → ¬ P i := by
  constructor
  · intro e i hi hp
    have := (h i hi).mpr hp
    rw [e, b_0] at this; cases this
  · intro hn
    refine lc_zero (fun i hi => ?_)
    cases hb : bt w i
    · rfl
    · exact absurd ((h i hi).mp hb) (hn i hi)
section
variable {c : Nat} {k f s : Nat → Nat} {st gr qd : Int32} {K F S R H E WB WA HN D Q : Nat → Int32}
theorem lx_heldThrough (V : lc_V c k f s K F S) (T : lc_Std c k f s R H E WB WA) {p : Nat} (hp : p < c) {post : Int32 → Prop} (h : ∀ w, lc_W w (fun i => i < 24 ∧ lc_HT c k f s p i) → post w) : wpX_heldThrough post (nI c, st, gr, qd, K, F, S, R, H, E, WB, WA, HN, D, Q) (nI p) := by
  have hc := V.1
  obtain ⟨hp24, hcl, hin, hK, h11, hF, hf4, hS⟩ := lc_Vp V hp
  have loop : ∀ d r w, r + d = 4 → lc_W w (fun i => ∃ r', r' < r ∧ ¬ (lc_mk k p ∧ f p = r') ∧ bt (WA p) r' = true ∧ bt (H (4 * p + r')) i = true) → wX_heldThrough_4 post (nI p) (nI c) st gr qd K F S R H E WB WA HN D Q (d + 1) w (nI r) := by
    intro d
    induction d with
    | zero =>
      intro r w hr hw
      have e4 : r = 4 := by omega
      subst e4
      refine br_t (nI_le (a := 4) (b := 4) (by decide) (by decide)) (h _ (fun i hi => ?_))
      rw [b_and, lc_blo i hi, Bool.and_eq_true, hw i hi, decide_eq_true_iff]
      constructor
      · rintro ⟨⟨r, hr, h1, h2, h3⟩, hi24⟩
        refine ⟨hi24, r, hr, h1, (T.2.2.2.2 p r hp (by omega)).mp h2, ?_⟩
        rcases (T.2.1 p r i hp hr hi).mp h3 with z | z
        · exact z.2
        · omega
      · rintro ⟨hi24, r, hr, h1, h2, h3⟩
        exact ⟨⟨r, hr, h1, (T.2.2.2.2 p r hp (by omega)).mpr h2, (T.2.1 p r i hp hr hi).mpr (Or.inl ⟨hi24, h3⟩)⟩, hi24⟩
    | succ d ih =>
      intro r w hr hw
      have hr4 : r < 4 := by omega
      refine br_f (nI_ge (b := 4) hr4 (by decide)) ?_
      have skip : (lc_mk k p ∧ f p = r) ∨ bt (WA p) r = false → wX_heldThrough_4 post (nI p) (nI c) st gr qd K F S R H E WB WA HN D Q (d + 1) w (nI (r + 1)) := by
        intro hs
        refine ih (r + 1) w (by omega) (fun i hi => ?_)
        rw [hw i hi]
        constructor
        · rintro ⟨r', h1, h2⟩; exact ⟨r', by omega, h2⟩
        · rintro ⟨r', h1, h2, h3, h4⟩
          refine ⟨r', ?_, h2, h3, h4⟩
          rcases Nat.lt_or_ge r' r with z | z
          · exact z
          · have e : r' = r := by omega
            subst e
            rcases hs with hs | hs
            · exact absurd hs h2
            · rw [hs] at h3; cases h3
      have h32 : ¬ (lc_mk k p ∧ f p = r) → wX_heldThrough_32 post (wX_heldThrough_4 post (nI p) (nI c) st gr qd K F S R H E WB WA HN D Q (d + 1)) (nI p) w (nI r) 0 (nI c) st gr qd K F S R H E WB WA HN D Q := by
        intro hg
        unfold wX_heldThrough_32
        refine br_t rfl ⟨hin, ?_⟩
        rw [hcl]
        refine br_c (fun z => ?_) (fun z => ?_)
        · rw [lc_bt0 (by omega)] at z
          exact nm_r (nI_1 r) (skip (Or.inr z))
        · rw [lc_bt0 (by omega)] at z
          have zt : bt (WA p) r = true := by
            cases hb : bt (WA p) r
            · exact absurd hb z
            · rfl
          rw [lc_i4, nI_clamp (show 4 * p + r < 2 ^ 31 by omega)]
          refine ⟨vp_in_nI (by omega) (by decide), nm_e (nm_r (nI_1 r) (ih (r + 1) _ (by omega) (fun i hi => ?_)))⟩
          rw [b_or, Bool.or_eq_true, hw i hi]
          constructor
          · rintro (⟨r', h1, h2⟩ | hb)
            · exact ⟨r', by omega, h2⟩
            · exact ⟨r, by omega, hg, zt, hb⟩
          · rintro ⟨r', h1, h2, h3, h4⟩
            rcases Nat.lt_or_ge r' r with z | z
            · exact Or.inl ⟨r', z, h2, h3, h4⟩
            · have e : r' = r := by omega
              subst e
              exact Or.inr h4
      refine lx_makes V hp (fun hm => br_f (by decide) ⟨hin, ?_⟩) (fun hm => br_t rfl ?_)
      · have f4 := hf4 (by unfold lc_mk at hm; omega)
        refine pk_eq (f p) r (fun e => ?_) (fun e => ?_) (hF (by unfold lc_mk at hm; omega)).1
        · unfold wX_heldThrough_32
          exact br_f (by decide) (nm_r (nI_1 r) (skip (Or.inl ⟨hm, e⟩)))
        · unfold wX_heldThrough_31
          exact h32 (fun z => e z.2)
      · unfold wX_heldThrough_31
        exact h32 (fun z => hm z.1)
  unfold wpX_heldThrough
  exact ⟨5, loop 4 0 0 rfl (fun i hi => by rw [b_0]; constructor
                                           · intro z; cases z
                                           · rintro ⟨r, h, -⟩; exact absurd h (Nat.not_lt_zero r))⟩
theorem lx_ca58 {post : Int32 → Prop} {J : Int32 → Int32 → Prop} {x1 x2 w : Int32} {b : Nat} {P : Nat → Prop} (hb : b < 24) (hw : lc_W w (fun i => i < b ∧ P i)) (hP : P b) (h : ∀ w', lc_W w' (fun i => i < b + 1 ∧ P i) → J w' (nI (b + 1))) : wX_conflictsAt_58 post J x1 x2 w (nI b) 1 (nI c) st gr qd K F S R H E WB WA HN D Q := by
  unfold wX_conflictsAt_58
  refine br_f (by decide) (nm_e (nm_r (nI_1 b) (h _ (fun i hi => ?_))))
  rw [b_or, lc_one (by omega) hi, Bool.or_eq_true, hw i hi, decide_eq_true_iff]
  constructor
  · rintro (⟨h1, h2⟩ | e)
    · exact ⟨by omega, h2⟩
    · subst e; exact ⟨by omega, hP⟩
  · rintro ⟨h1, h2⟩
    rcases Nat.lt_or_ge i b with z | z
    · exact Or.inl ⟨z, h2⟩
    · exact Or.inr (by omega)
theorem lx_ca57 {post : Int32 → Prop} {J : Int32 → Int32 → Prop} {x1 x2 w : Int32} {b : Nat} {P : Nat → Prop} (hw : lc_W w (fun i => i < b ∧ P i)) (hP : ¬ P b) (h : ∀ w', lc_W w' (fun i => i < b + 1 ∧ P i) → J w' (nI (b + 1))) : wX_conflictsAt_57 post J x1 x2 w (nI b) (nI c) st gr qd K F S R H E WB WA HN D Q := by
  unfold wX_conflictsAt_57 wX_conflictsAt_58
  refine br_t rfl (nm_r (nI_1 b) (h _ (fun i hi => ?_)))
  rw [hw i hi]
  constructor
  · rintro ⟨h1, h2⟩; exact ⟨by omega, h2⟩
  · rintro ⟨h1, h2⟩
    refine ⟨?_, h2⟩
    rcases Nat.lt_or_ge i b with z | z
    · exact z
    · have e : i = b := by omega
      subst e; exact absurd h2 hP
theorem lx_conflictsAt (V : lc_V c k f s K F S) (T : lc_Std c k f s R H E WB WA) {p : Nat} (hp : p < c) {post : Int32 → Prop} (h : ∀ w, lc_W w (fun i => i < c ∧ lc_Cn c k f s i p) → post w) : wpX_conflictsAt post (nI c, st, gr, qd, K, F, S, R, H, E, WB, WA, HN, D, Q) (nI p) := by
  have hc := V.1
  have O := lc_V_OK V
  have go : ∀ L, (∀ b, b < c → lc_Ag k f s p b → (bt L b = true ↔ lc_HT c k f s p b)) → ∃ n, wX_conflictsAt_24 post (nI p) L (nI c) st gr qd K F S R H E WB WA HN D Q n 0 0 := by
    intro L hL
    have loop : ∀ d b w, b + d = c → lc_W w (fun i => i < b ∧ lc_Cn c k f s i p) → wX_conflictsAt_24 post (nI p) L (nI c) st gr qd K F S R H E WB WA HN D Q (d + 1) w (nI b) := by
      intro d
      induction d with
      | zero =>
        intro b w hb hw
        have e : b = c := by omega
        subst e
        exact br_t (nI_le (Nat.le_refl _) (by omega)) (h w hw)
      | succ d ih =>
        intro b w hb hw
        refine br_f (nI_ge (by omega) (by omega)) ?_
        refine br_c (fun z => ?_) (fun z => ?_)
        · rw [lc_bt1 (by omega)] at z
          refine lx_disturbs V hp (by omega) (fun ha => br_f (by decide) ?_) (fun ha => br_t rfl ?_)
          · exact lx_ca58 (by omega) hw ⟨ha, (hL b (by omega) ha).mp z⟩ (fun w' hw' => ih (b + 1) w' (by omega) hw')
          · exact lx_ca57 hw (fun z => ha z.1) (fun w' hw' => ih (b + 1) w' (by omega) hw')
        · rw [lc_bt1 (by omega)] at z
          exact lx_ca57 hw (fun y => z ((hL b (by omega) y.1).mpr y.2)) (fun w' hw' => ih (b + 1) w' (by omega) hw')
    exact ⟨c + 1, loop c 0 0 (by omega) (fun i hi => by rw [b_0]; constructor
                                                        · intro z; cases z
                                                        · rintro ⟨h, -⟩; exact absurd h (Nat.not_lt_zero i))⟩
  unfold wpX_conflictsAt
  dsimp only
  refine lx_ownerOf V hp ?_
  cases ho : lc_ow k f s p with
  | none => exact br_t rfl (go 0 (fun b hb ha => by have := ha.2.1; rw [ho] at this; cases this))
  | some o =>
    have := lc_ow_lt O hp ho
    refine br_f (lc_neg1 (by omega)) (lx_heldThrough V T hp (fun w hw => go w (fun b hb ha => ?_)))
    rw [hw b (by omega)]
    exact ⟨fun z => z.2, fun z => ⟨by omega, z⟩⟩
theorem lx_isUnset (V : lc_V c k f s K F S) (T : lc_Std c k f s R H E WB WA) {p : Nat} (hp : p < c) {post : Int32 → Prop} (h1 : lc_Un c k f s p → post 1) (h0 : ¬ lc_Un c k f s p → post 0) : wpX_isUnset post (nI c, st, gr, qd, K, F, S, R, H, E, WB, WA, HN, D, Q) (nI p) := by
  have hc := V.1
  have O := lc_V_OK V
  obtain ⟨hp24, hcl, hin, hK, h11, hF, hf4, hS⟩ := lc_Vp V hp
  unfold wpX_isUnset
  dsimp only
  refine lx_ownerOf V hp ?_
  cases ho : lc_ow k f s p with
  | none => exact br_t rfl (h0 (fun ⟨o, z, _⟩ => by rw [ho] at z; cases z))
  | some o =>
    have o4 := lc_ow_lt O hp ho
    refine br_f (lc_neg1 (by omega)) ⟨hin, pk_eq (k p) 0 (fun e => h0 (fun ⟨o, _, z, _⟩ => z e)) (fun e => ⟨hin, ?_⟩) hK⟩
    show ((E (nI p).toNatClampNeg >>> (nI o &&& 31) &&& 1 = 1 → post 1) ∧ (¬ E (nI p).toNatClampNeg >>> (nI o &&& 31) &&& 1 = 1 → post 0))
    rw [hcl, lc_bt1 (by omega), T.2.2.1 p o hp (by omega)]
    refine br_c (fun z => h1 ⟨o, ho, e, z.2⟩) (fun z => h0 (fun ⟨o', h2, _, h3⟩ => z ⟨o4, ?_⟩))
    rw [ho] at h2; cases h2; exact h3
theorem lx_isIdle (V : lc_V c k f s K F S) (T : lc_Std c k f s R H E WB WA) {p : Nat} (hp : p < c) {post : Int32 → Prop} (h1 : lc_Id c k f s p → post 1) (h0 : ¬ lc_Id c k f s p → post 0) : wpX_isIdle post (nI c, st, gr, qd, K, F, S, R, H, E, WB, WA, HN, D, Q) (nI p) := by
  have hc := V.1
  obtain ⟨hp24, hcl, hin, hK, h11, hF, hf4, hS⟩ := lc_Vp V hp
  unfold wpX_isIdle
  dsimp only
  refine ⟨hin, pk_eq (k p) 7 (fun e => ⟨hin, ?_⟩) (fun e => h0 (fun z => e z.1)) hK⟩
  have f4 := hf4 (by omega)
  rw [(hF (by omega)).1, lc_i4, nI_clamp (show 4 * p + f p < 2 ^ 31 by omega)]
  refine ⟨vp_in_nI (by omega) (by decide), ?_⟩
  rw [lc_and24]
  have hT := T.2.1 p (f p) 24 hp f4 (by decide)
  refine br_c (fun z => h0 (fun y => ?_)) (fun z => h1 ⟨e, ?_⟩)
  · rw [hT.mpr (Or.inr ⟨rfl, y.2⟩)] at z; cases z
  · have zt : bt (H (4 * p + f p)) 24 = true := by
      cases hb : bt (H (4 * p + f p)) 24
      · exact absurd hb z
      · rfl
    rcases hT.mp zt with y | y
    · omega
    · exact y.2
theorem lx_isFault (V : lc_V c k f s K F S) (T : lc_Std c k f s R H E WB WA) {p : Nat} (hp : p < c) {post : Int32 → Prop} (h1 : lc_Ft c k f s p → post 1) (h0 : ¬ lc_Ft c k f s p → post 0) : wpX_isFault post (nI c, st, gr, qd, K, F, S, R, H, E, WB, WA, HN, D, Q) (nI p) := by
  have hc := V.1
  unfold wpX_isFault
  dsimp only
  refine lx_isUnset V T hp (fun a => br_f (by decide) (h1 (Or.inl a))) (fun a => br_t rfl ?_)
  refine lx_isIdle V T hp (fun b => br_f (by decide) (h1 (Or.inr (Or.inl b)))) (fun b => br_t rfl ?_)
  refine lx_conflictsAt V T hp (fun w hw => ?_)
  rw [lc_W_0 hw]
  refine br_c (fun z => h0 ?_) (fun z => h1 (Or.inr (Or.inr ?_)))
  · rintro (y | y | ⟨q, hq, y⟩)
    · exact a y
    · exact b y
    · exact z q (by omega) ⟨hq, y⟩
  · apply Classical.byContradiction
    intro hn
    exact z (fun i hi y => hn ⟨i, y.1, y.2⟩)
theorem lx_faults (V : lc_V c k f s K F S) (hst : st = 0 ∨ (st = 1 ∧ lc_Std c k f s R H E WB WA)) {post : Int32 → SX → Prop} (h : ∀ gr' R' H' E' WB' WA' HN', lc_Std c k f s R' H' E' WB' WA' → post (nI (cn (lc_Ft c k f s) c)) (nI c, 1, gr', qd, K, F, S, R', H', E', WB', WA', HN', D, Q)) : wpX_faults post (nI c, st, gr, qd, K, F, S, R, H, E, WB, WA, HN, D, Q) := by
  have hc := V.1
  unfold wpX_faults
  dsimp only
  refine lx_study V hst (fun gr' R' H' E' WB' WA' HN' T => ?_)
  have hk := h gr' R' H' E' WB' WA' HN' T
  have loop : ∀ d p, p + d = c → wX_faults_8 post (nI c) 1 gr' qd K F S R' H' E' WB' WA' HN' D Q (d + 1) (nI (cn (lc_Ft c k f s) p)) (nI p) := by
    intro d
    induction d with
    | zero =>
      intro p hp
      have e : p = c := by omega
      subst e
      exact br_t (nI_le (Nat.le_refl _) (by omega)) hk
    | succ d ih =>
      intro p hp
      refine br_f (nI_ge (by omega) (by omega)) ?_
      refine lx_isFault V T (by omega) (fun a => br_f (by decide) ?_) (fun a => br_t rfl ?_)
      · refine nm_r (e' := nI (cn (lc_Ft c k f s) (p + 1))) ?_ (nm_r (nI_1 p) (ih (p + 1) (by omega)))
        rw [nI_1]; simp only [cn]; rw [b01_t a]
      · have e : cn (lc_Ft c k f s) (p + 1) = cn (lc_Ft c k f s) p := by simp only [cn]; rw [b01_f a, Nat.add_zero]
        have := ih (p + 1) (by omega)
        rw [e] at this
        exact nm_r (nI_1 p) this
  exact ⟨c + 1, loop c 0 (by omega)⟩
theorem lx_firstFault (V : lc_V c k f s K F S) (hst : st = 0 ∨ (st = 1 ∧ lc_Std c k f s R H E WB WA)) {post : Int32 → SX → Prop} (h : ∀ gr' R' H' E' WB' WA' HN', lc_Std c k f s R' H' E' WB' WA' → (∀ p, p < c → lc_Ft c k f s p → (∀ q, q < p → ¬ lc_Ft c k f s q) → post (nI p) (nI c, 1, gr', qd, K, F, S, R', H', E', WB', WA', HN', D, Q)) ∧ ((∀ q, q < c → ¬ lc_Ft c k f s q) → post (-3) (nI c, 1, gr', qd, K, F, S, R', H', E', WB', WA', HN', D, Q))) : wpX_firstFault post (nI c, st, gr, qd, K, F, S, R, H, E, WB, WA, HN, D, Q) := by
  have hc := V.1
  unfold wpX_firstFault
  dsimp only
  refine lx_study V hst (fun gr' R' H' E' WB' WA' HN' T => ?_)
  obtain ⟨hk1, hk2⟩ := h gr' R' H' E' WB' WA' HN' T
  have loop : ∀ d p, p + d = c → (∀ q, q < p → ¬ lc_Ft c k f s q) → wX_firstFault_6 post (nI c) 1 gr' qd K F S R' H' E' WB' WA' HN' D Q (d + 1) (nI p) := by
    intro d
    induction d with
    | zero =>
      intro p hp hn
      have e : p = c := by omega
      subst e
      exact br_t (nI_le (Nat.le_refl _) (by omega)) (hk2 hn)
    | succ d ih =>
      intro p hp hn
      refine br_f (nI_ge (by omega) (by omega)) ?_
      refine lx_isFault V T (by omega) (fun a => br_f (by decide) (hk1 p (by omega) a hn)) (fun a => br_t rfl (nm_r (nI_1 p) (ih (p + 1) (by omega) (fun q hq => ?_))))
      rcases Nat.lt_or_ge q p with z | z
      · exact hn q z
      · have e : q = p := by omega
        rw [e]; exact a
  exact ⟨c + 1, loop c 0 (by omega) (fun q hq => absurd hq (Nat.not_lt_zero q))⟩
/-- where the loan of b is held and wanted -/
def lc_Sp (c : Nat) (k f s : Nat → Nat) (b p : Nat) : Prop := ∃ r, r < 4 ∧ lc_WX c k f s (p, r) ∧ lc_HX c k f s b (p, r)
theorem lx_span18 (V : lc_V c k f s K F S) (T : lc_Std c k f s R H E WB WA) {b : Nat} (hb : b < c) {post : Int32 → SX → Prop} (h : ∀ w, lc_W w (fun i => i < c ∧ lc_Sp c k f s b i) → post w (nI c, st, gr, qd, K, F, S, R, H, E, WB, WA, HN, D, Q)) : ∃ n, wX_span_18 post (nI b) (nI c) st gr qd K F S R H E WB WA HN D Q n 0 0 := by
  have hc := V.1
  have loop : ∀ d p w, p + d = c → lc_W w (fun i => i < p ∧ lc_Sp c k f s b i) → wX_span_18 post (nI b) (nI c) st gr qd K F S R H E WB WA HN D Q (d + 1) w (nI p) := by
    intro d
    induction d with
    | zero =>
      intro p w hp hw
      have e : p = c := by omega
      subst e
      exact br_t (nI_le (Nat.le_refl _) (by omega)) (h w hw)
    | succ d ih =>
      intro p w hp hw
      have hin : vp_in (nI p) 24 := vp_in_nI (by omega) (by decide)
      refine br_f (nI_ge (by omega) (by omega)) ⟨5, ?_⟩
      have inner : ∀ e r L, r + e = 4 → (bt L b = true ↔ ∃ r', r' < r ∧ lc_WX c k f s (p, r') ∧ lc_HX c k f s b (p, r')) → wX_span_32 post (wX_span_18 post (nI b) (nI c) st gr qd K F S R H E WB WA HN D Q (d + 1)) (nI b) w (nI p) (nI c) st gr qd K F S R H E WB WA HN D Q (e + 1) L (nI r) := by
        intro e
        induction e with
        | zero =>
          intro r L hr hL
          have e4 : r = 4 := by omega
          subst e4
          refine br_t (nI_le (a := 4) (b := 4) (by decide) (by decide)) ?_
          rw [lc_bt1 (by omega)]
          refine br_c (fun z => nm_e (nm_r (nI_1 p) (ih (p + 1) _ (by omega) (fun i hi => ?_)))) (fun z => nm_r (nI_1 p) (ih (p + 1) _ (by omega) (fun i hi => ?_)))
          · rw [b_or, lc_one (by omega) hi, Bool.or_eq_true, hw i hi, decide_eq_true_iff]
            constructor
            · rintro (⟨h1, h2⟩ | e)
              · exact ⟨by omega, h2⟩
              · subst e; exact ⟨by omega, hL.mp z⟩
            · rintro ⟨h1, h2⟩
              rcases Nat.lt_or_ge i p with y | y
              · exact Or.inl ⟨y, h2⟩
              · exact Or.inr (by omega)
          · rw [hw i hi]
            constructor
            · rintro ⟨h1, h2⟩; exact ⟨by omega, h2⟩
            · rintro ⟨h1, h2⟩
              refine ⟨?_, h2⟩
              rcases Nat.lt_or_ge i p with y | y
              · exact y
              · have e : i = p := by omega
                subst e; exact absurd (hL.mpr h2) z
        | succ e ihe =>
          intro r L hr hL
          refine br_f (nI_ge (b := 4) (by omega) (by decide)) ⟨hin, ?_⟩
          rw [nI_clamp (show p < 2 ^ 31 by omega), lc_bt1 (by omega), T.2.2.2.1 p r (by omega) (by omega)]
          refine br_c (fun z => ?_) (fun z => nm_r (nI_1 r) (ihe (r + 1) L (by omega) ?_))
          · rw [lc_i4, nI_clamp (show 4 * p + r < 2 ^ 31 by omega)]
            refine ⟨vp_in_nI (by omega) (by decide), nm_e (nm_r (nI_1 r) (ihe (r + 1) _ (by omega) ?_))⟩
            rw [b_or, Bool.or_eq_true, hL, T.2.1 p r b (by omega) (by omega) (by omega)]
            constructor
            · rintro (⟨r', h1, h2⟩ | (⟨_, y⟩ | ⟨y, _⟩))
              · exact ⟨r', by omega, h2⟩
              · exact ⟨r, by omega, z, y⟩
              · omega
            · rintro ⟨r', h1, h2, h3⟩
              rcases Nat.lt_or_ge r' r with y | y
              · exact Or.inl ⟨r', y, h2, h3⟩
              · have e : r' = r := by omega
                subst e; exact Or.inr (Or.inl ⟨by omega, h3⟩)
          · rw [hL]
            constructor
            · rintro ⟨r', h1, h2⟩; exact ⟨r', by omega, h2⟩
            · rintro ⟨r', h1, h2, h3⟩
              refine ⟨r', ?_, h2, h3⟩
              rcases Nat.lt_or_ge r' r with y | y
              · exact y
              · have e : r' = r := by omega
                subst e; exact absurd h2 z
      exact inner 4 0 0 rfl (by rw [b_0]; constructor
                                · intro z; cases z
                                · rintro ⟨r, h, -⟩; exact absurd h (Nat.not_lt_zero r))
  exact ⟨c + 1, loop c 0 0 (by omega) (fun i hi => by rw [b_0]; constructor
                                                      · intro z; cases z
                                                      · rintro ⟨h, -⟩; exact absurd h (Nat.not_lt_zero i))⟩
/-- loans that are in conflict anywhere -/
def lc_Br (c : Nat) (k f s : Nat → Nat) (b : Nat) : Prop := b < c ∧ ∃ p, p < c ∧ lc_Cn c k f s b p
theorem lx_broken8 (V : lc_V c k f s K F S) (T : lc_Std c k f s R H E WB WA) {post : Int32 → SX → Prop} (h : post (nI (cn (lc_Br c k f s) c)) (nI c, st, gr, qd, K, F, S, R, H, E, WB, WA, HN, D, Q)) : ∃ n, wX_broken_8 post (nI c) st gr qd K F S R H E WB WA HN D Q n 0 0 := by
  have hc := V.1
  have sum : ∀ w, lc_W w (lc_Br c k f s) → ∀ d b, b + d = c → wX_broken_36 post w (nI c) st gr qd K F S R H E WB WA HN D Q (d + 1) (nI (cn (lc_Br c k f s) b)) (nI b) := by
    intro w hw d
    induction d with
    | zero =>
      intro b hb
      have e : b = c := by omega
      subst e
      exact br_t (nI_le (Nat.le_refl _) (by omega)) h
    | succ d ih =>
      intro b hb
      refine br_f (nI_ge (by omega) (by omega)) ?_
      refine nm_r (e' := nI (cn (lc_Br c k f s) (b + 1))) ?_ (nm_r (nI_1 b) (ih (b + 1) (by omega)))
      rw [lc_bv w (by omega)]
      simp only [cn]
      by_cases hB : lc_Br c k f s b
      · rw [if_pos ((hw b (by omega)).mpr hB), b01_t hB, nI_1]
      · rw [if_neg (fun z => hB ((hw b (by omega)).mp z)), b01_f hB, Int32.add_zero, Nat.add_zero]
  have loop : ∀ d p w, p + d = c → lc_W w (fun b => b < c ∧ ∃ q, q < p ∧ lc_Cn c k f s b q) → wX_broken_8 post (nI c) st gr qd K F S R H E WB WA HN D Q (d + 1) w (nI p) := by
    intro d
    induction d with
    | zero =>
      intro p w hp hw
      have e : p = c := by omega
      subst e
      exact br_t (nI_le (Nat.le_refl _) (by omega)) ⟨p + 1, sum w hw p 0 (by omega)⟩
    | succ d ih =>
      intro p w hp hw
      refine br_f (nI_ge (by omega) (by omega)) ?_
      refine lx_conflictsAt V T (by omega) (fun w2 hw2 => nm_e (nm_r (nI_1 p) (ih (p + 1) _ (by omega) (fun i hi => ?_))))
      rw [b_or, Bool.or_eq_true, hw i hi, hw2 i hi]
      constructor
      · rintro (⟨h1, q, h2, h3⟩ | ⟨h1, h2⟩)
        · exact ⟨h1, q, by omega, h3⟩
        · exact ⟨h1, p, by omega, h2⟩
      · rintro ⟨h1, q, h2, h3⟩
        rcases Nat.lt_or_ge q p with y | y
        · exact Or.inl ⟨h1, q, y, h3⟩
        · have e : q = p := by omega
          subst e; exact Or.inr ⟨h1, h3⟩
  exact ⟨c + 1, loop c 0 0 (by omega) (fun i hi => by rw [b_0]; constructor
                                                      · intro z; cases z
                                                      · rintro ⟨-, q, h, -⟩; exact absurd h (Nat.not_lt_zero q))⟩
end
end
section
/-! ===== the reference's small methods ===== -/
theorem lc_m4_bits {w : Int32} {b : Nat → Bool} (h4 : ∀ i, i < 4 → bt w i = b i) (hh : ∀ i, 4 ≤ i → i < 32 → bt w i = false) : w = nI (lc_m4 b) := by
  apply b_ext
  intro i hi
  rw [lc_nIt _ hi]
  rcases Nat.lt_or_ge i 4 with z | z
  · rw [h4 i z, lc_m4_tb _ z]
  · rw [hh i z hi]
    cases hb : (lc_m4 b).testBit i
    · rfl
    · exact absurd (lc_tb_lt _ (lc_m4_lt b) i hb) (by omega)
theorem lc_hi {S i : Nat} (hS : S < 16) (h4 : 4 ≤ i) (hi : i < 32) : bt (nI S) i = false := by
  rw [lc_nIt _ hi]
  cases hb : S.testBit i
  · rfl
  · exact absurd (lc_tb_lt S hS i hb) (by omega)
theorem lc_hiO {b i : Nat} (hb : b < 4) (h4 : 4 ≤ i) (hi : i < 32) : bt ((1 : Int32) <<< (nI b &&& 31)) i = false := by
  rw [lc_one (by omega) hi, decide_eq_false (by omega)]
/-- x &&& 3, known where the part is -/
theorem lc_a3 {x : Int32} {P : Prop} {j : Nat} (h : P → x = nI j ∧ j < 4) : ∃ j', j' < 4 ∧ x &&& 3 = nI j' ∧ (P → j' = j) := by
  rcases Classical.em P with hp | hp
  · obtain ⟨e, h4⟩ := h hp
    exact ⟨j, h4, by rw [e, lc_and3 h4], fun _ => rfl⟩
  · obtain ⟨j', h4, e⟩ := pk_andE x (m := 3) 2 (by decide)
    exact ⟨j', h4, e, fun z => absurd z hp⟩
section
variable {c : Nat} {k f s : Nat → Nat} {mo : Int32} {K F S M U Fa : Nat → Int32}
theorem ly_n58 {post : Int32 → Prop} {t : Nat} (hc : c < 2 ^ 31) (ht : t < 2 ^ 31) (h : post (lc_oI (lc_lt c t))) : wY_next_58 post (nI t) (nI c) mo K F S M U Fa := by
  unfold wY_next_58
  exact pk_le c t (fun z => ek_v (P := post) (by simp [lc_lt, Nat.not_lt.mpr z, lc_oI]) h) (fun z => ek_v (P := post) (by simp [lc_lt, z, lc_oI]) h)
theorem ly_next (V : lc_V c k f s K F S) {p i : Nat} (hp : p < c) (hi : i < 2) {post : Int32 → Prop} (h : post (lc_oI (lc_nx c k f p i))) : wpY_next post (nI c, mo, K, F, S, M, U, Fa) (nI p) (nI i) := by
  have hc := V.1
  obtain ⟨hp24, -, hin, hK, h11, hF, -, -⟩ := lc_Vp V hp
  unfold wpY_next
  dsimp only
  refine ⟨hin, nm_r hK ?_⟩
  refine pk_eq i 0 (fun ei => ?_) (fun ei => ?_)
  · refine pk_eq (k p) 11 (fun e => ?_) (fun e => ?_)
    · have : post (-1) := ek_v (P := post) (by simp [lc_nx, e, ei, lc_oI]) h
      unfold wY_next_58
      exact br_c (fun _ => this) (fun _ => this)
    · refine pk_eq (k p) 9 (fun e9 => ⟨hin, ?_⟩) (fun e9 => ?_)
      · obtain ⟨eF, h24⟩ := hF (by omega)
        rw [eF]
        exact ly_n58 (by omega) (by omega) (ek_v (P := post) (by simp [lc_nx, e9, ei]) h)
      · rw [nI_1]
        exact ly_n58 (by omega) (by omega) (ek_v (P := post) (by simp [lc_nx, e, e9, ei]) h)
  · refine pk_eq (k p) 10 (fun e => ⟨hin, ?_⟩) (fun e => ?_)
    · obtain ⟨eF, h24⟩ := hF (by omega)
      rw [eF]
      exact ly_n58 (by omega) (by omega) (ek_v (P := post) (by simp [lc_nx, e, ei]) h)
    · have : post (-1) := ek_v (P := post) (by simp [lc_nx, e, ei, lc_oI]) h
      unfold wY_next_58
      exact br_c (fun _ => this) (fun _ => this)
theorem ly_makes (V : lc_V c k f s K F S) {p : Nat} (hp : p < c) {post : Int32 → Prop} (h1 : lc_mk k p → post 1) (h0 : ¬ lc_mk k p → post 0) : wpY_makes post (nI c, mo, K, F, S, M, U, Fa) (nI p) := by
  obtain ⟨hp24, -, hin, hK, h11, -⟩ := lc_Vp V hp
  unfold wpY_makes
  dsimp only
  exact ⟨hin, pk_eq (k p) 3 (fun e => h1 (Or.inl e)) (fun e => ⟨hin, pk_eq (k p) 4 (fun e2 => h1 (Or.inr e2)) (fun e2 => h0 (fun z => z.elim e e2)) hK⟩) hK⟩
theorem ly_ownerOf (V : lc_V c k f s K F S) {p : Nat} (hp : p < c) {post : Int32 → Prop} (h : post (lc_oI (lc_ow k f s p))) : wpY_ownerOf post (nI c, mo, K, F, S, M, U, Fa) (nI p) := by
  obtain ⟨hp24, -, hin, hK, h11, hF, -, hS⟩ := lc_Vp V hp
  unfold wpY_ownerOf
  dsimp only
  refine ⟨hin, nm_r hK (pk_le 3 (k p) (fun e => pk_le 5 (k p) (fun e5 => ?_) (fun e5 => ⟨hin, ?_⟩)) (fun e => ⟨hin, ?_⟩))⟩
  · exact ek_v (P := post) (lc_ow3 (by omega)).symm h
  · rw [(hS (by omega) (by omega)).1]
    exact ek_v (P := post) (lc_ow2 (by omega) (by omega)).symm h
  · rw [(hF (by omega)).1]
    exact ek_v (P := post) (lc_ow1 (by omega)).symm h
theorem ly_isAgainst (V : lc_V c k f s K F S) {p b : Nat} (hp : p < c) (hb : b < c) (hm : lc_mk k b) {post : Int32 → Prop} (h1 : lc_Ag k f s p b → post 1) (h0 : ¬ lc_Ag k f s p b → post 0) : wpY_isAgainst post (nI c, mo, K, F, S, M, U, Fa) (nI p) (nI b) := by
  obtain ⟨hp24, -, hin, hK, h11, hF, -, hS⟩ := lc_Vp V hp
  obtain ⟨hb24, -, hinb, hKb, hb11, hFb, -, hSb⟩ := lc_Vp V hb
  have O := lc_V_OK V
  have ob : lc_ow k f s b = some (s b) := by
    unfold lc_mk at hm
    unfold lc_ow
    rw [if_neg (by omega), if_pos (by omega)]
  have sb4 : s b < 4 := (hSb (by unfold lc_mk at hm; omega) (by unfold lc_mk at hm; omega)).2
  have h34 : ∀ z0, (z0 = 0 ∨ z0 = 1) → (z0 = 1 → lc_wr k p) → (z0 = 0 → ¬ lc_wr k p) → wY_isAgainst_34 post (nI p) (nI b) z0 (nI c) mo K F S M U Fa := by
    intro z0 hz w1 w0
    unfold wY_isAgainst_34
    refine ly_ownerOf V hp ?_
    cases ho : lc_ow k f s p with
    | none => exact br_t (by decide) (h0 (fun z => by have := z.2.1; rw [ho] at this; cases this))
    | some o =>
      have o4 := lc_ow_lt O hp ho
      refine br_f (nI_pos (by omega)) ?_
      refine ly_ownerOf V hp ?_
      rw [ho]
      refine ly_ownerOf V hb ?_
      rw [ob]
      refine pk_eq o (s b) (fun e => ?_) (fun e => h0 (fun z => by have := z.2.1; rw [ho] at this; cases this; exact e rfl))
      have hsm : lc_ow k f s p = some (s b) := by rw [ho, e]
      rcases hz with z | z <;> subst z
      · exact br_t rfl ⟨hinb, pk_eq (k b) 4 (fun e4 => h1 ⟨hm, hsm, Or.inr e4⟩) (fun e4 => h0 (fun z => z.2.2.elim (w0 rfl) e4)) hKb⟩
      · exact br_f (by decide) (h1 ⟨hm, hsm, Or.inl (w1 rfl)⟩)
  have h29 : lc_wr k p → wY_isAgainst_29 post (nI p) (nI b) (nI c) mo K F S M U Fa := by
    intro hw
    unfold wY_isAgainst_29
    exact h34 1 (Or.inr rfl) (fun _ => hw) (fun z => absurd z (by decide))
  unfold wpY_isAgainst
  dsimp only
  refine ⟨hin, pk_eq (k p) 0 (fun e => h29 (Or.inl e)) (fun e => ⟨hin, pk_eq (k p) 2 (fun e2 => h29 (Or.inr (Or.inl e2))) (fun e2 => ⟨hin, pk_eq (k p) 4 (fun e3 => h29 (Or.inr (Or.inr e3))) (fun e3 => ?_) hK⟩) hK⟩) hK⟩
  exact h34 0 (Or.inl rfl) (fun z => absurd z (by decide)) (fun _ z => z.elim e (fun z => z.elim e2 e3))
theorem ly_holdBehind (V : lc_V c k f s K F S) {p A : Nat} (hp : p < c) (hA : A < 16) {post : Int32 → Prop} (h : post (nI (lc_hB k f s p A))) : wpY_holdBehind post (nI c, mo, K, F, S, M, U, Fa) (nI p) (nI A) := by
  obtain ⟨hp24, hcl, hin, hK, h11, hF, hf4, hS⟩ := lc_Vp V hp
  obtain ⟨r, r4, er, hr⟩ := lc_a3 (x := F (nI p).toNatClampNeg) (P := k p ≤ 8) (j := f p) (fun z => ⟨(hF (by omega)).1, hf4 z⟩)
  obtain ⟨q, q4, eq, hq⟩ := lc_a3 (x := S (nI p).toNatClampNeg) (P := 3 ≤ k p ∧ k p ≤ 6) (j := s p) (fun z => hS z.1 z.2)
  unfold wpY_holdBehind
  dsimp only
  refine ⟨hin, nm_r hK ⟨hin, nm_r er ⟨hin, nm_r eq (nm_e ?_)⟩⟩⟩
  have clr : (k p = 3 ∨ k p = 4 ∨ k p = 8) → post (nI A &&& (((1 : Int32) <<< (nI r &&& 31)) ^^^ (-1))) := by
    intro h3
    have e := hr (by omega)
    refine ek_v (P := post) (lc_m4_bits (fun i hi => ?_) (fun i h4 hi => ?_)) h
    · rw [lc_clr _ _ (by omega), lc_one (by omega) (by omega), lc_nIt _ (by omega), lc_src1 h3, e]
      by_cases z : i = f p
      · simp [z, lc_ob]
      · simp [z, lc_ob]
    · rw [lc_clr _ _ hi, lc_hi hA h4 hi]; rfl
  have oth : ¬ (k p = 3 ∨ k p = 4 ∨ k p = 8) → ((k p = 5 ∧ r = q) ∨ ¬ (k p = 5 ∨ k p = 6)) → post (nI A) := by
    intro h3 h5
    refine ek_v (P := post) (lc_m4_bits (fun i hi => ?_) (fun i h4 hi => lc_hi hA h4 hi)) h
    rw [lc_nIt _ (by omega)]
    rcases h5 with ⟨e5, erq⟩ | h56
    · have e1 := hr (by omega)
      have e2 := hq (by omega)
      rw [lc_src3 (Or.inl e5)]
      by_cases z : i = f p
      · rw [if_pos z, z]; show _ = A.testBit (s p); rw [← e1, ← e2, erq]
      · rw [if_neg z, if_neg (fun y => z (by rw [y.2, ← e1, ← e2, erq]))]; rfl
    · rw [lc_src2 h3 h56]; rfl
  have h71 : ¬ (k p = 3 ∨ k p = 4 ∨ k p = 8) → ∀ z0, (z0 = 1 ∧ A.testBit q = true) ∨ (z0 = 0 ∧ A.testBit q = false) → wY_holdBehind_71 post (nI A) (nI (k p)) (nI r) (nI q) (nI A &&& (((1 : Int32) <<< (nI r &&& 31)) ^^^ (-1))) z0 (nI c) mo K F S M U Fa := by
    intro h3 z0 hz
    have h110 : ((k p = 5 ∧ r = q) ∨ ¬ k p = 5) → wY_holdBehind_110 post (nI A) (nI (k p)) (nI r) (nI A &&& (((1 : Int32) <<< (nI r &&& 31)) ^^^ (-1))) z0 (nI c) mo K F S M U Fa := by
      intro h5
      unfold wY_holdBehind_110
      refine pk_eq (k p) 6 (fun e6 => ?_) (fun e6 => oth h3 (by omega))
      have e1 := hr (by omega)
      have e2 := hq (by omega)
      rcases hz with ⟨z, ht⟩ | ⟨z, ht⟩ <;> subst z
      · refine br_f (by decide) (ek_v (P := post) (lc_m4_bits (fun i hi => ?_) (fun i h4 hi => ?_)) h)
        · rw [b_or, lc_clr _ _ (by omega), lc_one (by omega) (by omega), lc_nIt _ (by omega), lc_src3 (Or.inr e6), e1]
          by_cases z : i = f p
          · rw [if_pos z]; show _ = A.testBit (s p); rw [← e2, ht]; simp [z]
          · rw [if_neg z, if_neg (fun y => by omega)]; show _ = A.testBit i; simp [z]
        · rw [b_or, lc_clr _ _ hi, lc_hi hA h4 hi, lc_hiO r4 h4 hi]; rfl
      · refine br_t rfl (ek_v (P := post) (lc_m4_bits (fun i hi => ?_) (fun i h4 hi => ?_)) h)
        · rw [lc_clr _ _ (by omega), lc_one (by omega) (by omega), lc_nIt _ (by omega), lc_src3 (Or.inr e6), e1]
          by_cases z : i = f p
          · rw [if_pos z]; show _ = A.testBit (s p); rw [← e2, ht]; simp [z]
          · rw [if_neg z, if_neg (fun y => by omega)]; show _ = A.testBit i; simp [z]
        · rw [lc_clr _ _ hi, lc_hi hA h4 hi]; rfl
    unfold wY_holdBehind_71
    refine pk_eq (k p) 5 (fun e5 => pk_eq r q (fun e => h110 (Or.inl ⟨e5, e⟩)) (fun e => ?_)) (fun e5 => h110 (Or.inr e5))
    have e1 := hr (by omega)
    have e2 := hq (by omega)
    have efs : ¬ f p = s p := fun z => e (by rw [e1, e2, z])
    rcases hz with ⟨z, ht⟩ | ⟨z, ht⟩ <;> subst z
    · refine br_f (by decide) (ek_v (P := post) (lc_m4_bits (fun i hi => ?_) (fun i h4 hi => ?_)) h)
      · rw [lc_clr _ _ (by omega), b_or, lc_clr _ _ (by omega), lc_one (by omega) (by omega), lc_one (by omega) (by omega), lc_nIt _ (by omega), lc_src3 (Or.inl e5), e1, e2]
        rw [e2] at ht
        by_cases z : i = f p
        · rw [if_pos z]; show _ = A.testBit (s p); rw [ht]; simp [z, efs]
        · rw [if_neg z]
          by_cases z2 : i = s p
          · rw [if_pos ⟨e5, z2⟩]; show _ = false; simp [z2]
          · rw [if_neg (fun y => z2 y.2)]; show _ = A.testBit i; simp [z, z2]
      · rw [lc_clr _ _ hi, b_or, lc_clr _ _ hi, lc_hi hA h4 hi, lc_hiO r4 h4 hi]; rfl
    · refine br_t rfl (ek_v (P := post) (lc_m4_bits (fun i hi => ?_) (fun i h4 hi => ?_)) h)
      · rw [lc_clr _ _ (by omega), lc_clr _ _ (by omega), lc_one (by omega) (by omega), lc_one (by omega) (by omega), lc_nIt _ (by omega), lc_src3 (Or.inl e5), e1, e2]
        rw [e2] at ht
        by_cases z : i = f p
        · rw [if_pos z]; show _ = A.testBit (s p); rw [ht]; simp [z]
        · rw [if_neg z]
          by_cases z2 : i = s p
          · rw [if_pos ⟨e5, z2⟩]; show _ = false; simp [z2]
          · rw [if_neg (fun y => z2 y.2)]; show _ = A.testBit i; simp [z, z2]
      · rw [lc_clr _ _ hi, lc_clr _ _ hi, lc_hi hA h4 hi]; rfl
  refine pk_eq (k p) 3 (fun e => clr (by omega)) (fun e3 => ?_)
  refine pk_eq (k p) 4 (fun e => clr (by omega)) (fun e4 => ?_)
  refine pk_eq (k p) 8 (fun e => clr (by omega)) (fun e8 => ?_)
  rw [lc_bt1 (by omega), lc_nIt _ (by omega)]
  refine br_c (fun z => h71 (by omega) 1 (Or.inl ⟨rfl, z⟩)) (fun z => h71 (by omega) 0 (Or.inr ⟨rfl, Bool.eq_false_iff.mpr z⟩))
theorem ly_after (V : lc_V c k f s K F S) {p A w : Nat} (hp : p < c) (hA : A < 16) (hw : w < 3) {post : Int32 → Prop} (h : post (nI (lc_af k f s w p A))) : wpY_after post (nI c, mo, K, F, S, M, U, Fa) (nI p) (nI A) (nI w) := by
  obtain ⟨hp24, hcl, hin, hK, h11, hF, hf4, hS⟩ := lc_Vp V hp
  obtain ⟨r, r4, er, hr⟩ := lc_a3 (x := F (nI p).toNatClampNeg) (P := k p ≤ 8) (j := f p) (fun z => ⟨(hF (by omega)).1, hf4 z⟩)
  unfold wpY_after
  dsimp only
  rw [er]
  refine ⟨hin, nm_r hK ⟨hin, nm_e ?_⟩⟩
  refine pk_eq w 0 (fun e0 => ?_) (fun e0 => ?_)
  · exact ly_holdBehind V hp hA (ek_v (P := post) (by simp [lc_af, e0]) h)
  · refine pk_eq w 1 (fun e1 => ?_) (fun e1 => ?_)
    · have h1 : post (nI (lc_hA k f s p A)) := ek_v (P := post) (by simp [lc_af, e1]) h
      have set : lc_mk k p → post (nI A ||| ((1 : Int32) <<< (nI r &&& 31))) := by
        intro hm
        have e := hr (by unfold lc_mk at hm; omega)
        refine ek_v (P := post) (lc_m4_bits (fun i hi => ?_) (fun i h4 hi => ?_)) h1
        · rw [b_or, lc_one (by omega) (by omega), lc_nIt _ (by omega), e]
          by_cases z : i = f p
          · rw [if_pos ⟨hm, z⟩]; simp [z]
          · rw [if_neg (fun y => z y.2), lc_src1 (by unfold lc_mk at hm; omega), if_neg z]; show _ = A.testBit i; simp [z]
        · rw [b_or, lc_hi hA h4 hi, lc_hiO r4 h4 hi]; rfl
      refine pk_eq (k p) 3 (fun e => set (Or.inl e)) (fun e3 => ?_)
      refine pk_eq (k p) 4 (fun e => set (Or.inr e)) (fun e4 => ?_)
      refine ly_holdBehind V hp hA (ek_v (P := post) (congrArg nI ?_) h1)
      unfold lc_hB lc_hA
      congr 1
      funext i
      rw [if_neg (fun y => y.1.elim e3 e4)]
    · have h1 : post (nI (lc_hO k f p A)) := ek_v (P := post) (by simp [lc_af, e0, e1]) h
      refine pk_eq (k p) 0 (fun e => ?_) (fun ek0 => ?_)
      · have er0 := hr (by omega)
        refine ek_v (P := post) (lc_m4_bits (fun i hi => ?_) (fun i h4 hi => ?_)) h1
        · rw [b_or, lc_one (by omega) (by omega), lc_nIt _ (by omega), er0]
          by_cases z : i = f p
          · simp [z, e]
          · simp [z]
        · rw [b_or, lc_hi hA h4 hi, lc_hiO r4 h4 hi]; rfl
      · refine pk_eq (k p) 2 (fun e => ?_) (fun e2 => ?_)
        · have er0 := hr (by omega)
          refine ek_v (P := post) (lc_m4_bits (fun i hi => ?_) (fun i h4 hi => ?_)) h1
          · rw [lc_clr _ _ (by omega), lc_one (by omega) (by omega), lc_nIt _ (by omega), er0]
            by_cases z : i = f p
            · simp [z, e]
            · simp [z]
          · rw [lc_clr _ _ hi, lc_hi hA h4 hi]; rfl
        · refine ek_v (P := post) (lc_m4_bits (fun i hi => ?_) (fun i h4 hi => lc_hi hA h4 hi)) h1
          rw [lc_nIt _ (by omega), if_neg (fun y => ek0 y.1), if_neg (fun y => e2 y.1)]
theorem ly_clear {post : SY → Prop} (h : ∀ M', (∀ n, n < 384 → M' n = 0) → post (nI c, mo, K, F, S, M', U, Fa)) : wpY_clear post (nI c, mo, K, F, S, M, U, Fa) := by
  have loop : ∀ d n M, n + d = 384 → (∀ m, m < n → M m = 0) → wY_clear_2 post (nI c) mo (d + 1) (nI n) K F S M U Fa := by
    intro d
    induction d with
    | zero =>
      intro n M hn hM
      have e : n = 384 := by omega
      subst e
      exact br_t (nI_le (a := 384) (b := 384) (by decide) (by decide)) (h M hM)
    | succ d ih =>
      intro n M hn hM
      refine br_f (nI_ge (b := 384) (by omega) (by decide)) ⟨vp_in_nI (by omega) (by decide), nm_e (nm_r (nI_1 n) (ih (n + 1) _ (by omega) (fun m hm => ?_)))⟩
      rw [nI_clamp (show n < 2 ^ 31 by omega), lc_nar0]
      by_cases e : m = n
      · rw [e, pk_us]
      · rw [pk_un e]; exact hM m (by omega)
  unfold wpY_clear
  exact ⟨385, loop 384 0 M rfl (fun m hm => absurd hm (Nat.not_lt_zero m))⟩
end
/-! ===== situations met, until there is none new ===== -/
noncomputable def lc_ms (M : Nat → Int32) : Nat := cn (fun n => M n = 0) 384
def lc_N (M : Nat → Int32) (mo : Int32) (M' : Nat → Int32) (mo' : Int32) : Prop := (mo' = 0 → mo = 0 ∧ M' = M) ∧ (mo' ≠ 0 → mo ≠ 0 ∨ lc_ms M' < lc_ms M) ∧ lc_ms M' ≤ lc_ms M ∧ ∀ n, M n ≠ 0 → M' n ≠ 0
theorem lc_N_tr {M M1 M2 : Nat → Int32} {g g1 g2 : Int32} (a : lc_N M g M1 g1) (b : lc_N M1 g1 M2 g2) : lc_N M g M2 g2 := by
  obtain ⟨a1, a2, a3, a4⟩ := a
  obtain ⟨b1, b2, b3, b4⟩ := b
  refine ⟨fun z => ?_, fun z => ?_, by omega, fun n hn => b4 n (a4 n hn)⟩
  · obtain ⟨z1, rfl⟩ := b1 z
    exact a1 z1
  · rcases b2 z with w | w
    · rcases a2 w with w | w
      · exact Or.inl w
      · exact Or.inr (by omega)
    · exact Or.inr (by omega)
theorem lc_N_rf {M : Nat → Int32} {g : Int32} : lc_N M g M g := ⟨fun z => ⟨z, rfl⟩, fun z => Or.inl z, Nat.le_refl _, fun _ h => h⟩
theorem lc_N_up {M : Nat → Int32} {g : Int32} {n : Nat} (hn : n < 384) (h : M n = 0) : lc_N M g (upd M n 1) 1 := by
  have mono : ∀ m, upd M n 1 m = 0 → M m = 0 := by
    intro m hm
    by_cases e : m = n
    · rw [e, pk_us] at hm; exact absurd hm (by decide)
    · rw [pk_un e] at hm; exact hm
  have lt : lc_ms (upd M n 1) < lc_ms M := cn_lt (a := n) (fun z => by rw [pk_us] at z; exact absurd z (by decide)) h (fun m _ hm => mono m hm) hn
  exact ⟨fun z => absurd z (by decide), fun _ => Or.inr lt, by omega, fun m hm z => hm (mono m z)⟩
def lc_MS (P : Nat × Nat → Prop) (M : Nat → Int32) : Prop := ∀ n, n < 384 → (M n = 0 ∨ M n = 1) ∧ (M n ≠ 0 → P (n / 16, n % 16))
def lc_ME (P : Nat × Nat → Prop) (M : Nat → Int32) : Prop := ∀ n, n < 384 → (M n = 1 ∧ P (n / 16, n % 16)) ∨ (M n = 0 ∧ ¬ P (n / 16, n % 16))
theorem lc_ME_at {P : Nat × Nat → Prop} {M : Nat → Int32} (h : lc_ME P M) {p A : Nat} (hp : p < 24) (hA : A < 16) : (M (16 * p + A) = 1 ∧ P (p, A)) ∨ (M (16 * p + A) = 0 ∧ ¬ P (p, A)) := by
  have := h (16 * p + A) (by omega)
  rw [show (16 * p + A) / 16 = p by omega, show (16 * p + A) % 16 = A by omega] at this
  exact this
section
variable {c : Nat} {k f s : Nat → Nat} {mo : Int32} {K F S M U Fa : Nat → Int32}
theorem ly_meetS {P : Nat × Nat → Prop} (hc : c ≤ 24) {o : Option Nat} {A : Nat} (hA : A < 16) (ho : ∀ q, o = some q → q < c ∧ P (q, A)) (sn : lc_MS P M) {post : SY → Prop}
    (h : ∀ mo' M', lc_N M mo M' mo' → lc_MS P M' → (∀ q, o = some q → M' (16 * q + A) ≠ 0) → post (nI c, mo', K, F, S, M', U, Fa)) : wpY_meet post (nI c, mo, K, F, S, M, U, Fa) (lc_oI o) (nI A) := by
  unfold wpY_meet
  dsimp only
  cases o with
  | none => exact br_t (by decide) (h mo M lc_N_rf sn (fun q e => by cases e))
  | some q =>
    obtain ⟨hq, hP⟩ := ho q rfl
    refine br_f (nI_pos (by omega)) ?_
    rw [lc_oI_s, lc_i16, nI_clamp (show 16 * q + A < 2 ^ 31 by omega)]
    have hin : vp_in (nI (16 * q + A)) 384 := vp_in_nI (by omega) (by decide)
    refine ⟨hin, br_c (fun z => ⟨hin, nm_e ?_⟩) (fun z => h mo M lc_N_rf sn (fun q' e => by cases e; exact z))⟩
    rw [lc_nar1]
    refine h 1 _ (lc_N_up (by omega) z) (fun n hn => ?_) (fun q' e => by cases e; rw [pk_us]; decide)
    by_cases e : n = 16 * q + A
    · rw [e, pk_us, show (16 * q + A) / 16 = q by omega, show (16 * q + A) % 16 = A by omega]
      exact ⟨Or.inr rfl, fun _ => hP⟩
    · rw [pk_un e]; exact sn n hn
def lc_ClY (c : Nat) (k f s : Nat → Nat) (w : Nat) (M : Nat → Int32) (m : Nat) : Prop := M m ≠ 0 → ∀ y, lc_tY c k f s w (m / 16, m % 16) y → M (16 * y.1 + y.2) ≠ 0
theorem ly_sp69 (V : lc_V c k f s K F S) {i0 : Nat × Nat → Prop} {w : Nat} {post : SY → Prop} {J5 : Int32 → Int32 → (Nat → Int32) → (Nat → Int32) → (Nat → Int32) → (Nat → Int32) → (Nat → Int32) → (Nat → Int32) → Prop} {J19 : Int32 → Int32 → Int32 → (Nat → Int32) → (Nat → Int32) → (Nat → Int32) → (Nat → Int32) → (Nat → Int32) → (Nat → Int32) → Prop} {n : Nat} (hn : n < 16 * c)
    (sn : lc_MS (lc_R i0 (lc_tY c k f s w)) M) (hP : lc_R i0 (lc_tY c k f s w) (n / 16, n % 16)) (h0 : 0 < w ∨ lc_af k f s w (n / 16) (n % 16) ≠ 0)
    (h : ∀ mo' M', lc_N M mo M' mo' → lc_MS (lc_R i0 (lc_tY c k f s w)) M' → (∀ y, lc_tY c k f s w (n / 16, n % 16) y → M' (16 * y.1 + y.2) ≠ 0) → J19 (nI (n + 1)) (nI c) mo' K F S M' U Fa) : wY_spread_69 post J5 J19 (nI w) (nI n) (nI (lc_af k f s w (n / 16) (n % 16))) (nI c) mo K F S M U Fa := by
  have hc := V.1
  have hp : n / 16 < c := by omega
  have hA := lc_af_lt k f s w (n / 16) (n % 16)
  have suc : ∀ i, i < 2 → ∀ q, lc_nx c k f (n / 16) i = some q → q < c ∧ lc_R i0 (lc_tY c k f s w) (q, lc_af k f s w (n / 16) (n % 16)) := by
    intro i hi q e
    exact ⟨lc_nx_lt e, lc_Rs hP ⟨lc_E_i hp hi e, rfl, h0⟩⟩
  unfold wY_spread_69
  rw [lc_d16 (by omega)]
  refine ⟨by decide, ly_next V hp (i := 0) (by decide) ?_⟩
  refine ly_meetS hc hA (suc 0 (by decide)) sn (fun m1 M1 n1 s1 a1 => ⟨by decide, ?_⟩)
  refine ly_next V hp (i := 1) (by decide) ?_
  refine ly_meetS hc hA (suc 1 (by decide)) s1 (fun m2 M2 n2 s2 a2 => ?_)
  refine nm_r (nI_1 n) (h m2 M2 (lc_N_tr n1 n2) s2 ?_)
  rintro y ⟨e, e2, -⟩
  rw [e2]
  rcases e.2 with z | z
  · exact n2.2.2.2 _ (a1 _ z)
  · exact a2 _ z
theorem ly_sp19 (V : lc_V c k f s K F S) {i0 : Nat × Nat → Prop} {w : Nat} (hw : w < 3) {post : SY → Prop} {J5 : Int32 → Int32 → (Nat → Int32) → (Nat → Int32) → (Nat → Int32) → (Nat → Int32) → (Nat → Int32) → (Nat → Int32) → Prop} :
    ∀ d n mo M, n + d = 16 * c → lc_MS (lc_R i0 (lc_tY c k f s w)) M → (mo = 0 → ∀ m, m < n → lc_ClY c k f s w M m) →
      (∀ mo' M', lc_N M mo M' mo' → lc_MS (lc_R i0 (lc_tY c k f s w)) M' → (mo' = 0 → ∀ m, m < 16 * c → lc_ClY c k f s w M' m) → J5 (nI c) mo' K F S M' U Fa) → wY_spread_19 post J5 (nI w) (d + 1) (nI n) (nI c) mo K F S M U Fa := by
  have hc := V.1
  intro d
  induction d with
  | zero =>
    intro n mo M hn sn hC h
    have e : n = 16 * c := by omega
    subst e
    refine br_t ?_ (h mo M lc_N_rf sn hC)
    rw [lc_m16]
    exact nI_le (Nat.le_refl _) (by omega)
  | succ d ih =>
    intro n mo M hn sn hC h
    have hn' : n < 16 * c := by omega
    refine br_f (by rw [lc_m16]; exact nI_ge hn' (by omega)) ⟨vp_in_nI (by omega) (by decide), ?_⟩
    rw [nI_clamp (show n < 2 ^ 31 by omega)]
    have skip : lc_ClY c k f s w M n → wY_spread_19 post J5 (nI w) (d + 1) (nI (n + 1)) (nI c) mo K F S M U Fa := by
      intro hcl
      refine ih (n + 1) mo M (by omega) sn (fun z m hm => ?_) h
      by_cases e : m = n
      · rw [e]; exact hcl
      · exact hC z m (by omega)
    refine br_c (fun z => ?_) (fun z => ⟨by decide, by decide, ?_⟩)
    · unfold wY_spread_56
      exact br_f (by decide) (br_f (by decide) (nm_r (nI_1 n) (skip (fun y => absurd z y))))
    · rw [lc_r16 (n := n) (by omega), lc_d16 (n := n) (by omega)]
      refine ly_after V (show n / 16 < c by omega) (Nat.mod_lt _ (by decide)) hw ?_
      have hP := (sn n (by omega)).2 z
      have go : (0 < w ∨ lc_af k f s w (n / 16) (n % 16) ≠ 0) → wY_spread_69 post J5 (wY_spread_19 post J5 (nI w) (d + 1)) (nI w) (nI n) (nI (lc_af k f s w (n / 16) (n % 16))) (nI c) mo K F S M U Fa := by
        intro h0
        refine ly_sp69 V hn' sn hP h0 (fun mo' M' hN s' a' => ?_)
        refine ih (n + 1) mo' M' (by omega) s' (fun z m hm => ?_) (fun m2 M2 n2 => h m2 M2 (lc_N_tr hN n2))
        by_cases e : m = n
        · rw [e]; exact fun _ => a'
        · obtain ⟨z1, rfl⟩ := hN.1 z
          exact hC z1 m (by omega)
      have haf := lc_af_lt k f s w (n / 16) (n % 16)
      unfold wY_spread_56
      refine pk_lt 0 (lc_af k f s w (n / 16) (n % 16)) (fun e => go (Or.inr (by omega))) (fun e => ?_)
      refine pk_eq (lc_af k f s w (n / 16) (n % 16)) 0 (fun e0 => ?_) (fun e0 => absurd (Nat.le_zero.mp e) e0)
      refine pk_le w 0 (fun ew => nm_r (nI_1 n) (skip ?_)) (fun ew => go (Or.inl ew))
      rintro - y ⟨_, y2, y3⟩
      rcases y3 with y3 | y3
      · omega
      · rw [y2] at y3; exact absurd e0 y3
theorem ly_spread (V : lc_V c k f s K F S) {i0 : Nat × Nat → Prop} {w : Nat} (hw : w < 3) (hb : ∀ x, lc_R i0 (lc_tY c k f s w) x → x.1 < c ∧ x.2 < 16) (sn : lc_MS (lc_R i0 (lc_tY c k f s w)) M) (hi : ∀ x, i0 x → M (16 * x.1 + x.2) ≠ 0) {post : SY → Prop}
    (h : ∀ mo' M', lc_ME (lc_R i0 (lc_tY c k f s w)) M' → post (nI c, mo', K, F, S, M', U, Fa)) : wpY_spread post (nI c, mo, K, F, S, M, U, Fa) (nI w) := by
  have hc := V.1
  have loop : ∀ n mo M, (lc_ms M + 1 < n ∨ (mo = 0 ∧ 0 < n)) → lc_MS (lc_R i0 (lc_tY c k f s w)) M → (∀ x, i0 x → M (16 * x.1 + x.2) ≠ 0) → (mo = 0 → ∀ m, m < 16 * c → lc_ClY c k f s w M m) → wY_spread_5 post (nI w) n (nI c) mo K F S M U Fa := by
    intro n
    induction n with
    | zero => intro mo M h1; omega
    | succ n ih =>
      intro mo M h1 sn hi hC
      refine br_c (fun z => ?_) (fun z => ?_)
      · refine h mo M (fun m hm => ?_)
        have key : ∀ x, lc_R i0 (lc_tY c k f s w) x → M (16 * x.1 + x.2) ≠ 0 := by
          intro x hx
          refine lc_Ri (fun x => M (16 * x.1 + x.2) ≠ 0) hi ?_ hx
          intro x y hx ih t
          obtain ⟨h1, h2⟩ := hb x hx
          refine hC z (16 * x.1 + x.2) (by omega) ih y ?_
          rw [show (16 * x.1 + x.2) / 16 = x.1 by omega, show (16 * x.1 + x.2) % 16 = x.2 by omega]
          exact t
        rcases (sn m hm).1 with e | e
        · refine Or.inr ⟨e, fun y => key _ y ?_⟩
          rw [show 16 * (m / 16, m % 16).1 + (m / 16, m % 16).2 = m by show 16 * (m / 16) + m % 16 = m; omega]
          exact e
        · exact Or.inl ⟨e, (sn m hm).2 (by rw [e]; decide)⟩
      · refine ⟨16 * c + 1, ly_sp19 V hw (16 * c) 0 0 M (by omega) sn (fun _ m hm => absurd hm (Nat.not_lt_zero m)) (fun mo' M' hN s' C' => ?_)⟩
        refine ih mo' M' ?_ s' (fun x hx => hN.2.2.2 _ (hi x hx)) C'
        by_cases z' : mo' = 0
        · right; exact ⟨z', by rcases h1 with h1 | h1
                               · omega
                               · exact absurd h1.1 z⟩
        · left
          rcases hN.2.1 z' with y | y
          · exact absurd rfl y
          · rcases h1 with h1 | h1
            · omega
            · exact absurd h1.1 z
  unfold wpY_spread
  exact ⟨lc_ms M + 2, loop (lc_ms M + 2) 1 M (Or.inl (by omega)) sn hi (fun z => absurd z (by decide))⟩
theorem ly_fromBegin (V : lc_V c k f s K F S) {w : Nat} (hw : w < 3) {post : SY → Prop} (h : ∀ mo' M', lc_ME (lc_Y c k f s w) M' → post (nI c, mo', K, F, S, M', U, Fa)) : wpY_fromBegin post (nI c, mo, K, F, S, M, U, Fa) (nI w) := by
  have hc := V.1
  unfold wpY_fromBegin
  dsimp only
  refine ly_clear (fun M' hM => ?_)
  refine pk_le c 0 (fun e => ?_) (fun e => ?_)
  · unfold wY_fromBegin_18
    refine ly_spread V hw (i0 := lc_iY c) (fun x hx => lc_Y_S hx) (fun n hn => ⟨Or.inl (hM n hn), fun z => absurd (hM n hn) z⟩) (fun x hx => absurd hx.1 (by omega)) h
  · refine nm_e ?_
    unfold wY_fromBegin_18
    rw [lc_nar1]
    refine ly_spread V hw (i0 := lc_iY c) (fun x hx => lc_Y_S hx) (fun n hn => ?_) (fun x hx => ?_) h
    · by_cases z : n = 0
      · rw [z, pk_us]; exact ⟨Or.inr rfl, fun _ => lc_R0 ⟨e, rfl⟩⟩
      · rw [pk_un z]; exact ⟨Or.inl (hM n hn), fun y => absurd (hM n hn) y⟩
    · rw [hx.2]; show upd M' 0 1 0 ≠ 0; rw [pk_us]; decide
/-! ===== useful situations ===== -/
theorem ly_uses (V : lc_V c k f s K F S) {p A : Nat} (hp : p < c) (hA : A < 16) {post : Int32 → Prop} (h1 : k p = 7 ∧ A.testBit (f p) = true → post 1) (h0 : ¬ (k p = 7 ∧ A.testBit (f p) = true) → post 0) : wpY_uses post (nI c, mo, K, F, S, M, U, Fa) (nI p) (nI A) := by
  obtain ⟨hp24, hcl, hin, hK, h11, hF, hf4, hS⟩ := lc_Vp V hp
  unfold wpY_uses
  dsimp only
  refine ⟨hin, pk_eq (k p) 7 (fun e => ⟨hin, ?_⟩) (fun e => h0 (fun z => e z.1)) hK⟩
  have f4 := hf4 (by omega)
  rw [(hF (by omega)).1, lc_bt1 (by omega), lc_nIt _ (by omega)]
  exact br_c (fun z => h1 ⟨e, z⟩) (fun z => h0 (fun y => z y.2))
theorem ly_isUseful {P : Nat × Nat → Prop} (hc : c ≤ 24) {o : Option Nat} {A : Nat} (hA : A < 16) (ho : ∀ q, o = some q → q < c) (hU : ∀ q, q < c → (U (16 * q + A) ≠ 0 ↔ P (q, A))) {post : Int32 → Prop} (h1 : (∃ q, o = some q ∧ P (q, A)) → post 1) (h0 : ¬ (∃ q, o = some q ∧ P (q, A)) → post 0) : wpY_isUseful post (nI c, mo, K, F, S, M, U, Fa) (lc_oI o) (nI A) := by
  unfold wpY_isUseful
  dsimp only
  cases o with
  | none => exact br_t (by decide) (h0 (fun ⟨q, e, _⟩ => by cases e))
  | some q =>
    have hq := ho q rfl
    refine br_f (nI_pos (by omega)) ?_
    rw [lc_oI_s, lc_i16, nI_clamp (show 16 * q + A < 2 ^ 31 by omega)]
    refine ⟨vp_in_nI (by omega) (by decide), br_c (fun z => h0 ?_) (fun z => h1 ⟨q, rfl, (hU q hq).mp z⟩)⟩
    rintro ⟨q', e, hP⟩
    cases e
    exact (hU q hq).mpr hP z
def lc_US (c : Nat) (k f s : Nat → Nat) (U : Nat → Int32) : Prop := ∀ n, n < 384 → (U n = 0 ∨ U n = 1) ∧ (U n ≠ 0 → lc_UY c k f s (n / 16, n % 16))
def lc_U0 (c : Nat) (k f : Nat → Nat) (U : Nat → Int32) : Prop := ∀ n, n < 16 * c → k (n / 16) = 7 → (n % 16).testBit (f (n / 16)) = true → U n ≠ 0
def lc_ClU (c : Nat) (k f s : Nat → Nat) (U : Nat → Int32) (m : Nat) : Prop := ∀ q, lc_E c k f (m / 16) q → U (16 * q + lc_hB k f s (m / 16) (m % 16)) ≠ 0 → U m ≠ 0
def lc_UE (c : Nat) (k f s : Nat → Nat) (U : Nat → Int32) : Prop := lc_ME (lc_UY c k f s) U
theorem lc_b01n {x : Int32} (h : ¬ x = 0) (h1 : x = 0 ∨ x = 1) : x = 1 := h1.elim (fun z => absurd z h) id
theorem ly_fu161 {post : SY → Prop} {J57 : Int32 → (Nat → Int32) → (Nat → Int32) → (Nat → Int32) → (Nat → Int32) → (Nat → Int32) → (Nat → Int32) → Prop} {J71 : Int32 → Int32 → (Nat → Int32) → (Nat → Int32) → (Nat → Int32) → (Nat → Int32) → (Nat → Int32) → (Nat → Int32) → Prop} {n : Nat} {x3 z0 : Int32} (hn : n < 384) (hU : U n = 0 ∨ U n = 1) (hz : z0 = 0 ∨ z0 = 1)
    (h : ∀ U', (U n = 0 → x3 = 0 → U' = U) → (U n = 0 → ¬ x3 = 0 → U' = upd U n 1) → (¬ U n = 0 → U' = U) → J71 (nI (n + 1)) z0 K F S M U' Fa) : wY_findUseful_161 post J57 J71 (nI n) x3 z0 (nI c) mo K F S M U Fa := by
  unfold wY_findUseful_161
  have hin : vp_in (nI n) 384 := vp_in_nI hn (by decide)
  have hz2 : narrow .boolean (.int z0) = .int z0 ∧ fits .boolean (.int z0) = true := by
    rcases hz with e | e <;> subst e
    · exact ⟨narrow_b0, lc_f0⟩
    · exact ⟨narrow_b1, lc_f1⟩
  rw [nI_clamp (show n < 2 ^ 31 by omega), lc_nar0, lc_nar1]
  refine ⟨hz2.1, hz2.2, hin, br_c (fun u0 => br_c (fun x0 => ⟨hin, nm_e (nm_r (nI_1 n) (h _ ?_ ?_ ?_))⟩) (fun x0 => ⟨hin, nm_e (nm_r (nI_1 n) (h _ ?_ ?_ ?_))⟩)) (fun u0 => ⟨hin, nm_e (nm_r (nI_1 n) (h _ ?_ ?_ ?_))⟩)⟩
  · intro _ _; exact lc_upd_same u0.symm
  · intro _ z; exact absurd x0 z
  · intro z; exact absurd u0 z
  · intro _ z; exact absurd z x0
  · intro _ _; rfl
  · intro z; exact absurd u0 z
  · intro z; exact absurd z u0
  · intro z; exact absurd z u0
  · intro _; exact lc_upd_same (lc_b01n u0 hU).symm
/-- a turn: 'later' is x3 -/
theorem ly_fu134 {post : SY → Prop} {J57 : Int32 → (Nat → Int32) → (Nat → Int32) → (Nat → Int32) → (Nat → Int32) → (Nat → Int32) → (Nat → Int32) → Prop} {J71 : Int32 → Int32 → (Nat → Int32) → (Nat → Int32) → (Nat → Int32) → (Nat → Int32) → (Nat → Int32) → (Nat → Int32) → Prop} {n : Nat} {x3 : Int32} (hn : n < 384) (hU : U n = 0 ∨ U n = 1)
    (h : ∀ mo' U', (mo' = 0 ∨ mo' = 1) → lc_N U mo U' mo' → (¬ x3 = 0 → U' n ≠ 0) → (U' = U ∨ (¬ x3 = 0 ∧ U' = upd U n 1)) → J71 (nI (n + 1)) mo' K F S M U' Fa) : wY_findUseful_134 post J57 J71 (nI n) x3 (nI c) mo K F S M U Fa := by
  have hin : vp_in (nI n) 384 := vp_in_nI hn (by decide)
  unfold wY_findUseful_134
  refine br_c (fun m0 => br_c (fun x0 => ?_) (fun x0 => ⟨hin, ?_⟩)) (fun m0 => ?_)
  · unfold wY_findUseful_160
    refine ly_fu161 hn hU (Or.inl rfl) (fun U' a b d => ?_)
    have e : U' = U := by rcases hU with z | z
                          · exact a z x0
                          · exact d (by rw [z]; decide)
    rw [e]
    refine h 0 U (Or.inl rfl) ?_ (fun z => absurd x0 z) (Or.inl rfl)
    rw [m0]; exact lc_N_rf
  · rw [nI_clamp (show n < 2 ^ 31 by omega)]
    refine br_c (fun u0 => ?_) (fun u0 => ?_)
    · unfold wY_findUseful_156
      refine ly_fu161 hn hU (Or.inr rfl) (fun U' a b d => ?_)
      rw [b u0 x0]
      exact h 1 _ (Or.inr rfl) (lc_N_up hn u0) (fun _ => by rw [pk_us]; decide) (Or.inr ⟨x0, rfl⟩)
    · unfold wY_findUseful_160
      refine ly_fu161 hn hU (Or.inl rfl) (fun U' a b d => ?_)
      rw [d u0]
      refine h 0 U (Or.inl rfl) ?_ (fun _ => u0) (Or.inl rfl)
      rw [m0]; exact lc_N_rf
  · unfold wY_findUseful_156
    refine ly_fu161 hn hU (Or.inr rfl) (fun U' a b d => ?_)
    by_cases u0 : U n = 0
    · by_cases x0 : x3 = 0
      · rw [a u0 x0]
        exact h 1 U (Or.inr rfl) ⟨fun z => absurd z (by decide), fun _ => Or.inl m0, Nat.le_refl _, fun _ z => z⟩ (fun z => absurd x0 z) (Or.inl rfl)
      · rw [b u0 x0]
        exact h 1 _ (Or.inr rfl) (lc_N_up hn u0) (fun _ => by rw [pk_us]; decide) (Or.inr ⟨x0, rfl⟩)
    · rw [d u0]
      exact h 1 U (Or.inr rfl) ⟨fun z => absurd z (by decide), fun _ => Or.inl m0, Nat.le_refl _, fun _ z => z⟩ (fun _ => u0) (Or.inl rfl)
theorem ly_fu71 (V : lc_V c k f s K F S) {post : SY → Prop} {J : Int32 → (Nat → Int32) → (Nat → Int32) → (Nat → Int32) → (Nat → Int32) → (Nat → Int32) → (Nat → Int32) → Prop} :
    ∀ d n mo U, n + d = 16 * c → lc_US c k f s U → (mo = 0 → ∀ m, m < n → lc_ClU c k f s U m) →
      (∀ mo' U', lc_N U mo U' mo' → lc_US c k f s U' → (mo' = 0 → ∀ m, m < 16 * c → lc_ClU c k f s U' m) → J mo' K F S M U' Fa) → wY_findUseful_71 post J (nI c) (d + 1) (nI n) mo K F S M U Fa := by
  have hc := V.1
  intro d
  induction d with
  | zero =>
    intro n mo U hn us hC h
    have e : n = 16 * c := by omega
    subst e
    refine br_t ?_ (h mo U lc_N_rf us hC)
    rw [lc_m16]
    exact nI_le (Nat.le_refl _) (by omega)
  | succ d ih =>
    intro n mo U hn us hC h
    have hn' : n < 16 * c := by omega
    have hp : n / 16 < c := by omega
    have h16 : n % 16 < 16 := Nat.mod_lt _ (by decide)
    have hB := lc_m4_lt (fun q => lc_ob (n % 16) (lc_src k f s (n / 16) q))
    have hB' : lc_hB k f s (n / 16) (n % 16) < 16 := hB
    refine br_f (by rw [lc_m16]; exact nI_ge hn' (by omega)) ⟨by decide, by decide, ?_⟩
    rw [lc_r16 (n := n) (by omega), lc_d16 (n := n) (by omega)]
    refine ly_holdBehind V hp h16 ⟨by decide, ?_⟩
    have turn : ∀ x3, (¬ x3 = 0 ↔ ∃ q, lc_E c k f (n / 16) q ∧ U (16 * q + lc_hB k f s (n / 16) (n % 16)) ≠ 0) → wY_findUseful_134 post J (wY_findUseful_71 post J (nI c) (d + 1)) (nI n) x3 (nI c) mo K F S M U Fa := by
      intro x3 hx
      refine ly_fu134 (by omega) (us n (by omega)).1 (fun mo' U' b01 hN hl hu => ?_)
      refine ih (n + 1) mo' U' (by omega) (fun m hm => ?_) (fun z m hm => ?_) (fun m2 U2 n2 => h m2 U2 (lc_N_tr hN n2))
      · rcases hu with e | ⟨x0, e⟩
        · rw [e]; exact us m hm
        · rw [e]
          by_cases em : m = n
          · rw [em, pk_us]
            refine ⟨Or.inr rfl, fun _ => ?_⟩
            obtain ⟨q, eq, hq⟩ := hx.mp x0
            have hqc := lc_E_r eq
            have := (us (16 * q + lc_hB k f s (n / 16) (n % 16)) (by omega)).2 hq
            rw [show (16 * q + lc_hB k f s (n / 16) (n % 16)) / 16 = q by omega, show (16 * q + lc_hB k f s (n / 16) (n % 16)) % 16 = lc_hB k f s (n / 16) (n % 16) by omega] at this
            exact lc_Rs this ⟨eq, rfl⟩
          · rw [pk_un em]; exact us m hm
      · obtain ⟨z1, rfl⟩ := hN.1 z
        by_cases em : m = n
        · rw [em]
          intro q eq hq
          exact hl (hx.mpr ⟨q, eq, hq⟩)
        · exact hC z1 m (by omega)
    have hU : ∀ q, q < c → (U (16 * q + lc_hB k f s (n / 16) (n % 16)) ≠ 0 ↔ (fun x : Nat × Nat => U (16 * x.1 + x.2) ≠ 0) (q, lc_hB k f s (n / 16) (n % 16))) := fun q hq => Iff.rfl
    refine ly_next V hp (i := 0) (by decide) ?_
    refine ly_isUseful (P := fun x : Nat × Nat => U (16 * x.1 + x.2) ≠ 0) hc hB' (fun q e => lc_nx_lt e) hU (fun a => br_f (by decide) ?_) (fun a => br_t rfl ⟨by decide, ?_⟩)
    · unfold wY_findUseful_129
      obtain ⟨q, e, hq⟩ := a
      exact turn 1 ⟨fun _ => ⟨q, ⟨hp, Or.inl e⟩, hq⟩, fun _ => by decide⟩
    · refine ly_next V hp (i := 1) (by decide) ?_
      refine ly_isUseful (P := fun x : Nat × Nat => U (16 * x.1 + x.2) ≠ 0) hc hB' (fun q e => lc_nx_lt e) hU (fun b => br_f (by decide) ?_) (fun b => br_t rfl ?_)
      · unfold wY_findUseful_129
        obtain ⟨q, e, hq⟩ := b
        exact turn 1 ⟨fun _ => ⟨q, ⟨hp, Or.inr e⟩, hq⟩, fun _ => by decide⟩
      · refine turn 0 ⟨fun z => absurd rfl z, ?_⟩
        rintro ⟨q, ⟨-, e | e⟩, hq⟩
        · exact absurd ⟨q, e, hq⟩ a
        · exact absurd ⟨q, e, hq⟩ b
theorem ly_fu57 (V : lc_V c k f s K F S) {post : SY → Prop} (h : ∀ mo' U', lc_UE c k f s U' → post (nI c, mo', K, F, S, M, U', Fa)) :
    ∀ n mo U, (lc_ms U + 1 < n ∨ (mo = 0 ∧ 0 < n)) → lc_US c k f s U → lc_U0 c k f U → (mo = 0 → ∀ m, m < 16 * c → lc_ClU c k f s U m) → wY_findUseful_57 post (nI c) n mo K F S M U Fa := by
  have hc := V.1
  have O := lc_V_OK V
  intro n
  induction n with
  | zero => intro mo U h1; omega
  | succ n ih =>
    intro mo U h1 us u0 hC
    refine br_c (fun z => ?_) (fun z => ?_)
    · refine h mo U (fun m hm => ?_)
      have key : ∀ x, lc_UY c k f s x → x.1 < c ∧ (x.2 < 16 → U (16 * x.1 + x.2) ≠ 0) := by
        intro x hx
        refine lc_Ri (fun x : Nat × Nat => x.1 < c ∧ (x.2 < 16 → U (16 * x.1 + x.2) ≠ 0)) ?_ ?_ hx
        · rintro x ⟨h0, h7, ht⟩
          refine ⟨h0, fun h16 => u0 (16 * x.1 + x.2) (by omega) ?_ ?_⟩
          · rw [show (16 * x.1 + x.2) / 16 = x.1 by omega]; exact h7
          · rw [show (16 * x.1 + x.2) / 16 = x.1 by omega, show (16 * x.1 + x.2) % 16 = x.2 by omega]; exact ht
        · rintro x y _ ⟨_, ih⟩ ⟨e, e2⟩
          refine ⟨e.1, fun h16 => hC z (16 * y.1 + y.2) (by have := e.1; omega) x.1 ?_ ?_⟩
          · rw [show (16 * y.1 + y.2) / 16 = y.1 by omega]; exact e
          · rw [show (16 * y.1 + y.2) / 16 = y.1 by omega, show (16 * y.1 + y.2) % 16 = y.2 by omega, ← e2]
            exact ih (by rw [e2]; exact lc_m4_lt _)
      rcases (us m hm).1 with e | e
      · refine Or.inr ⟨e, fun y => (key _ y).2 (Nat.mod_lt _ (by decide)) ?_⟩
        rw [show 16 * (m / 16, m % 16).1 + (m / 16, m % 16).2 = m by show 16 * (m / 16) + m % 16 = m; omega]
        exact e
      · exact Or.inl ⟨e, (us m hm).2 (by rw [e]; decide)⟩
    · refine ⟨16 * c + 1, ly_fu71 V (16 * c) 0 0 U (by omega) us (fun _ m hm => absurd hm (Nat.not_lt_zero m)) (fun mo' U' hN s' C' => ?_)⟩
      refine ih mo' U' ?_ s' (fun m hm h7 ht => hN.2.2.2 _ (u0 m hm h7 ht)) C'
      by_cases z' : mo' = 0
      · right; exact ⟨z', by rcases h1 with h1 | h1
                             · omega
                             · exact absurd h1.1 z⟩
      · left
        rcases hN.2.1 z' with y | y
        · exact absurd rfl y
        · rcases h1 with h1 | h1
          · omega
          · exact absurd h1.1 z
theorem ly_findUseful (V : lc_V c k f s K F S) {post : SY → Prop} (h : ∀ mo' U', lc_UE c k f s U' → post (nI c, mo', K, F, S, M, U', Fa)) : wpY_findUseful post (nI c, mo, K, F, S, M, U, Fa) := by
  have hc := V.1
  have loop : ∀ d n U, n + d = 384 → (∀ m, m < n → (U m = 0 ∨ U m = 1) ∧ (U m ≠ 0 → lc_UY c k f s (m / 16, m % 16)) ∧ (m < 16 * c → k (m / 16) = 7 → (m % 16).testBit (f (m / 16)) = true → U m ≠ 0)) → wY_findUseful_2 post (nI c) mo (d + 1) (nI n) K F S M U Fa := by
    intro d
    induction d with
    | zero =>
      intro n U hn hU
      have e : n = 384 := by omega
      subst e
      refine br_t (nI_le (a := 384) (b := 384) (by decide) (by decide)) ⟨lc_ms U + 2, ly_fu57 V h (lc_ms U + 2) 1 U (Or.inl (by omega)) (fun m hm => ⟨(hU m hm).1, (hU m hm).2.1⟩) (fun m hm => (hU m (by omega)).2.2 hm) (fun z => absurd z (by decide))⟩
    | succ d ih =>
      intro n U hn hU
      have hin : vp_in (nI n) 384 := vp_in_nI (by omega) (by decide)
      have ext : ∀ x, (x = 0 ∨ x = 1) → (x ≠ 0 → lc_UY c k f s (n / 16, n % 16)) → (n < 16 * c → k (n / 16) = 7 → (n % 16).testBit (f (n / 16)) = true → x ≠ 0) → wY_findUseful_2 post (nI c) mo (d + 1) (nI (n + 1)) K F S M (upd U n x) Fa := by
        intro x h1 h2 h3
        refine ih (n + 1) _ (by omega) (fun m hm => ?_)
        by_cases e : m = n
        · rw [e, pk_us]; exact ⟨h1, h2, h3⟩
        · rw [pk_un e]; exact hU m (by omega)
      refine br_f (nI_ge (b := 384) (by omega) (by decide)) ?_
      rw [lc_m16, nI_clamp (show n < 2 ^ 31 by omega), lc_nar0, lc_nar1]
      refine pk_le (16 * c) n (fun e => ⟨hin, nm_e (nm_r (nI_1 n) (ext 0 (Or.inl rfl) (fun z => absurd rfl z) (fun z => by omega)))⟩) (fun e => ⟨by decide, by decide, ?_⟩)
      rw [lc_r16 (n := n) (by omega), lc_d16 (n := n) (by omega)]
      refine ly_uses V (show n / 16 < c by omega) (Nat.mod_lt _ (by decide)) (fun a => br_f (by decide) ⟨hin, nm_e (nm_r (nI_1 n) (ext 1 (Or.inr rfl) (fun _ => ?_) (fun _ _ _ => by decide)))⟩) (fun a => br_t rfl ⟨hin, nm_e (nm_r (nI_1 n) (ext 0 (Or.inl rfl) (fun z => absurd rfl z) (fun _ y1 y2 => absurd ⟨y1, y2⟩ a)))⟩)
      exact lc_R0 ⟨by show n / 16 < c; omega, a.1, a.2⟩
  unfold wpY_findUseful
  exact ⟨385, loop 384 0 U rfl (fun m hm => absurd hm (Nat.not_lt_zero m))⟩
end
end
section
/-! ===== the reference's answers ===== -/
theorem lc_sh1 : ∀ j, j < 4 → (1 : Int32) <<< (nI j &&& 31) = nI (2 ^ j) := by decide +kernel
theorem lc_cn_ext {P : Nat → Prop} {c : Nat} (h : ∀ b, P b → b < c) : ∀ d, cn P (c + d) = cn P c := by
  intro d
  induction d with
  | zero => rfl
  | succ d ih =>
    show cn P (c + d) + b01 (P (c + d)) = _
    rw [ih, b01_f (fun z => by have := h _ z; omega), Nat.add_zero]
theorem lc_ag_k {k f s : Nat → Nat} {p b : Nat} (h : lc_Ag k f s p b) : k p ≤ 4 := by
  have := h.2.1
  unfold lc_ow at this
  by_cases e : k p ≤ 2
  · omega
  · rw [if_neg e] at this
    by_cases e4 : k p ≤ 4
    · exact e4
    · rw [if_neg e4] at this; cases this
theorem lc_src4 {k f s : Nat → Nat} {p r r0 : Nat} (h : k p ≤ 4) : lc_src k f s p r = some r0 ↔ (r0 = r ∧ ¬ (lc_mk k p ∧ f p = r)) := by
  by_cases hm : lc_mk k p
  · have h' : k p = 3 ∨ k p = 4 ∨ k p = 8 := by unfold lc_mk at hm; omega
    rw [lc_src1 h']
    by_cases e : r = f p
    · rw [if_pos e]
      constructor
      · intro z; cases z
      · rintro ⟨-, z⟩; exact absurd ⟨hm, e.symm⟩ z
    · rw [if_neg e]
      constructor
      · intro z; cases z; exact ⟨rfl, fun y => e y.2.symm⟩
      · rintro ⟨z, -⟩; rw [z]
  · rw [lc_src2 (by unfold lc_mk at hm; omega) (by omega)]
    constructor
    · intro z; cases z; exact ⟨rfl, fun y => hm y.1⟩
    · rintro ⟨z, -⟩; rw [z]
theorem lc_CnY {c : Nat} {k f s : Nat → Nat} (O : lc_OK c k f s) {b p : Nat} (ha : lc_Ag k f s p b) : lc_Cn c k f s b p ↔ (lc_RX c k f b ∧ ∃ A, 1 ≤ A ∧ A < 16 ∧ lc_Fo c k f s b (p, A) ∧ ∃ q, lc_E c k f p q ∧ lc_UY c k f s (q, lc_hB k f s p A)) := by
  have k4 := lc_ag_k ha
  constructor
  · rintro ⟨-, r, hr, hg, ⟨q, e, hw⟩, hh⟩
    obtain ⟨hm, hR, A, hF, ht⟩ := (lc_L2 O hr).mp hh
    have hA := (lc_Fo_S O (lc_RX_lt hR) hm hF).2
    refine ⟨hR, A, Nat.one_le_iff_ne_zero.mpr (lc_tb_ne ht), hA, hF, q, e, (lc_L5 O (lc_m4_lt _)).mpr ⟨r, hr, (lc_hB_t hr).mpr ⟨r, (lc_src4 k4).mpr ⟨rfl, hg⟩, ht⟩, hw⟩⟩
  · rintro ⟨hR, A, -, hA, hF, q, e, hu⟩
    obtain ⟨r, hr, ht, hw⟩ := (lc_L5 O (lc_m4_lt _)).mp hu
    obtain ⟨r0, hs, h0⟩ := (lc_hB_t hr).mp ht
    obtain ⟨e0, hg⟩ := (lc_src4 k4).mp hs
    rw [e0] at h0
    exact ⟨ha, r, hr, hg, ⟨q, e, hw⟩, (lc_L2 O hr).mpr ⟨ha.1, hR, A, hF, h0⟩⟩
section
variable {c : Nat} {k f s : Nat → Nat} {mo : Int32} {K F S M U Fa : Nat → Int32}
theorem ly_isPoint {post : Int32 → Prop} {x : Int32} (hc : c < 2 ^ 31) (h1 : ∀ p, p < c → x = nI p → post 1) (h0 : (∀ p, p < c → ¬ x = nI p) → post 0) : wpY_isPoint post (nI c, mo, K, F, S, M, U, Fa) x := by
  unfold wpY_isPoint
  dsimp only
  refine br_c (fun z => h0 (fun p hp e => ?_)) (fun z => ?_)
  · rw [e] at z; exact nI_pos (by omega) z
  · obtain ⟨j, hj, rfl⟩ := nI_of z
    exact pk_le c j (fun e => h0 (fun p hp z => by rw [nI_eq hj (by omega)] at z; omega)) (fun e => h1 j e rfl)
theorem ly_isIn {post : Int32 → Prop} {a l g : Nat} (ha : a < 2 ^ 31) (hl : l < 2 ^ 31) (hg : g < 2 ^ 31) (h1 : l ≤ a ∧ a ≤ g → post 1) (h0 : ¬ (l ≤ a ∧ a ≤ g) → post 0) : wpY_isIn post (nI c, mo, K, F, S, M, U, Fa) (nI a) (nI l) (nI g) := by
  unfold wpY_isIn
  dsimp only
  exact pk_lt a l (fun e => h0 (by omega)) (fun e => pk_lt g a (fun e2 => h0 (by omega)) (fun e2 => h1 ⟨e, e2⟩))
theorem ly_isIn3 {post : Int32 → Prop} {x : Int32} (h1 : ∀ r, r < 4 → x = nI r → post 1) (h0 : (∀ r, r < 4 → ¬ x = nI r) → post 0) : wpY_isIn post (nI c, mo, K, F, S, M, U, Fa) x 0 3 := by
  unfold wpY_isIn
  dsimp only
  refine br_c (fun z => h0 (fun p hp e => ?_)) (fun z => ?_)
  · rw [e] at z; exact nI_pos (by omega) z
  · obtain ⟨j, hj, rfl⟩ := nI_of z
    exact pk_lt 3 j (fun e => h0 (fun p hp z => by rw [nI_eq hj (by omega)] at z; omega)) (fun e => h1 j (by omega) rfl)
theorem ly_isMet {P : Nat × Nat → Prop} (hM : lc_ME P M) {p : Nat} (hp : p < 24) {post : Int32 → Prop} (h1 : (∃ A, A < 16 ∧ P (p, A)) → post 1) (h0 : ¬ (∃ A, A < 16 ∧ P (p, A)) → post 0) : wpY_isMet post (nI c, mo, K, F, S, M, U, Fa) (nI p) := by
  have loop : ∀ d A, A + d = 16 → (∀ B, B < A → ¬ P (p, B)) → wY_isMet_2 post (nI p) (nI c) mo K F S M U Fa (d + 1) (nI A) := by
    intro d
    induction d with
    | zero =>
      intro A hA hn
      have e : A = 16 := by omega
      subst e
      exact br_t (nI_le (a := 16) (b := 16) (by decide) (by decide)) (h0 (fun ⟨B, h, hP⟩ => hn B h hP))
    | succ d ih =>
      intro A hA hn
      refine br_f (nI_ge (b := 16) (by omega) (by decide)) ?_
      rw [lc_i16, nI_clamp (show 16 * p + A < 2 ^ 31 by omega)]
      refine ⟨vp_in_nI (by omega) (by decide), ?_⟩
      rcases lc_ME_at hM hp (show A < 16 by omega) with ⟨e, hP⟩ | ⟨e, hP⟩
      · exact br_f (by rw [e]; decide) (h1 ⟨A, by omega, hP⟩)
      · refine br_t e (nm_r (nI_1 A) (ih (A + 1) (by omega) (fun B hB => ?_)))
        by_cases z : B = A
        · rw [z]; exact hP
        · exact hn B (by omega)
  unfold wpY_isMet
  exact ⟨17, loop 16 0 rfl (fun B hB => absurd hB (Nat.not_lt_zero B))⟩
theorem ly_reached (V : lc_V c k f s K F S) {x : Int32} {post : Int32 → SY → Prop} (h1 : ∀ p, p < c → x = nI p → lc_RX c k f p → ∀ mo' M', post 1 (nI c, mo', K, F, S, M', U, Fa)) (h0 : (∀ p, p < c → x = nI p → ¬ lc_RX c k f p) → ∀ mo' M', post 0 (nI c, mo', K, F, S, M', U, Fa)) : wpY_reached post (nI c, mo, K, F, S, M, U, Fa) x := by
  have hc := V.1
  unfold wpY_reached
  dsimp only
  refine ly_fromBegin V (w := 1) (by decide) (fun mo' M' hM => ?_)
  refine ly_isPoint (by omega) (fun p hp e => br_f (by decide) ?_) (fun hn => br_t rfl (h0 (fun p hp e _ => hn p hp e) mo' M'))
  subst e
  refine ly_isMet hM (by omega) (fun ⟨A, _, a⟩ => br_f (by decide) (h1 p hp rfl ((lc_L1 1 (by decide) (s := s)).mpr ⟨A, a⟩) mo' M')) (fun a => br_t rfl (h0 (fun p' hp' e z => ?_) mo' M'))
  rw [nI_eq (by omega) (by omega)] at e
  subst e
  obtain ⟨A, hA⟩ := (lc_L1 1 (by decide) (s := s)).mp z
  exact a ⟨A, (lc_Y_S hA).2, hA⟩
theorem ly_reachedP (V : lc_V c k f s K F S) {p : Nat} (hp : p < c) {post : Int32 → SY → Prop} (h1 : lc_RX c k f p → ∀ mo' M', post 1 (nI c, mo', K, F, S, M', U, Fa)) (h0 : ¬ lc_RX c k f p → ∀ mo' M', post 0 (nI c, mo', K, F, S, M', U, Fa)) : wpY_reached post (nI c, mo, K, F, S, M, U, Fa) (nI p) := by
  have hc := V.1
  refine ly_reached V (fun p' hp' e z => h1 ?_) (fun z => h0 (z p hp rfl))
  rw [nI_eq (by omega) (by omega)] at e
  rw [e]; exact z
theorem ly_follow (V : lc_V c k f s K F S) {b : Nat} (hb : b < c) {post : Int32 → SY → Prop} (h1 : lc_mk k b → lc_RX c k f b → ∀ mo' M', lc_ME (lc_Fo c k f s b) M' → post 1 (nI c, mo', K, F, S, M', U, Fa)) (h0 : ¬ (lc_mk k b ∧ lc_RX c k f b) → ∀ mo' M', post 0 (nI c, mo', K, F, S, M', U, Fa)) : wpY_follow post (nI c, mo, K, F, S, M, U, Fa) (nI b) := by
  have hc := V.1
  have O := lc_V_OK V
  obtain ⟨hb24, hcl, hin, hK, h11, hF, hf4, hS⟩ := lc_Vp V hb
  unfold wpY_follow
  dsimp only
  refine ly_makes V hb (fun hm => br_f (by decide) ?_) (fun hm => br_t rfl (h0 (fun z => hm z.1) mo M))
  have f4 := hf4 (by unfold lc_mk at hm; omega)
  refine ly_reachedP V hb (fun hR mo1 M1 => br_f (by decide) ?_) (fun hR mo1 M1 => br_t rfl (h0 (fun z => hR z.2) mo1 M1))
  refine ly_clear (fun M2 hM2 => ⟨hin, ?_⟩)
  dsimp only
  rw [(hF (by unfold lc_mk at hm; omega)).1]
  refine nm_r (lc_sh1 (f b) f4) ?_
  refine ly_next V hb (i := 0) (by decide) ?_
  refine ly_meetS (P := lc_Fo c k f s b) hc (lc_pw1 _ f4) (fun q e => ⟨lc_nx_lt e, lc_R0 ⟨e, rfl⟩⟩) (fun n hn => ⟨Or.inl (hM2 n hn), fun z => absurd (hM2 n hn) z⟩) (fun mo3 M3 n3 s3 a3 => ?_)
  refine ly_spread V (w := 0) (by decide) (i0 := lc_iF c k f b) (fun x hx => lc_Fo_S O hb hm hx) s3 (fun x hx => ?_) (fun mo4 M4 hM4 => h1 hm hR mo4 M4 hM4)
  rw [hx.2]
  exact a3 x.1 hx.1
theorem ly_holds25 (V : lc_V c k f s K F S) {p r : Nat} (hp : p < c) (hr : r < 4) {post : Int32 → SY → Prop} (h : ∀ w, lc_W w (fun i => i < c ∧ lc_HX c k f s i (p, r)) → ∀ mo' M', post w (nI c, mo', K, F, S, M', U, Fa)) : ∃ n, wY_holds_25 post (nI p) (nI r) n 0 0 (nI c) mo K F S M U Fa := by
  have hc := V.1
  have O := lc_V_OK V
  have loop : ∀ d b w mo M, b + d = c → lc_W w (fun i => i < b ∧ lc_HX c k f s i (p, r)) → wY_holds_25 post (nI p) (nI r) (d + 1) w (nI b) (nI c) mo K F S M U Fa := by
    intro d
    induction d with
    | zero =>
      intro b w mo M hb hw
      have e : b = c := by omega
      subst e
      exact br_t (nI_le (Nat.le_refl _) (by omega)) (h w hw mo M)
    | succ d ih =>
      intro b w mo M hb hw
      have hbc : b < c := by omega
      refine br_f (nI_ge hbc (by omega)) ?_
      refine ly_follow V hbc (fun hm hR mo' M' hM => ⟨17, ?_⟩) (fun hn mo' M' => ⟨1, ?_⟩)
      · have inner : ∀ e A x, A + e = 16 → lc_W x (fun i => (i < b ∧ lc_HX c k f s i (p, r)) ∨ (i = b ∧ ∃ B, B < A ∧ lc_Fo c k f s b (p, B) ∧ B.testBit r = true)) → wY_holds_45 post (wY_holds_25 post (nI p) (nI r) (d + 1)) (nI p) (nI r) (nI b) 1 (nI c) mo' K F S M' U Fa (e + 1) x (nI A) := by
          intro e
          induction e with
          | zero =>
            intro A x hA hx
            have e : A = 16 := by omega
            subst e
            refine br_t (nI_le (a := 16) (b := 16) (by decide) (by decide)) (nm_r (nI_1 b) (ih (b + 1) x mo' M' (by omega) (fun i hi => ?_)))
            rw [hx i hi]
            constructor
            · rintro (⟨h1, h2⟩ | ⟨h1, B, _, h2, h3⟩)
              · exact ⟨by omega, h2⟩
              · subst h1; exact ⟨by omega, (lc_L2 O hr).mpr ⟨hm, hR, B, h2, h3⟩⟩
            · rintro ⟨h1, h2⟩
              rcases Nat.lt_or_ge i b with z | z
              · exact Or.inl ⟨z, h2⟩
              · have e : i = b := by omega
                subst e
                obtain ⟨_, _, B, h3, h4⟩ := (lc_L2 O hr).mp h2
                exact Or.inr ⟨rfl, B, (lc_Fo_S O hbc hm h3).2, h3, h4⟩
          | succ e ihe =>
            intro A x hA hx
            have A16 : A < 16 := by omega
            refine br_f (nI_ge (b := 16) A16 (by decide)) (br_f (by decide) ?_)
            rw [lc_i16, nI_clamp (show 16 * p + A < 2 ^ 31 by omega)]
            refine ⟨vp_in_nI (by omega) (by decide), ?_⟩
            have skip : ¬ (lc_Fo c k f s b (p, A) ∧ A.testBit r = true) → wY_holds_45 post (wY_holds_25 post (nI p) (nI r) (d + 1)) (nI p) (nI r) (nI b) 1 (nI c) mo' K F S M' U Fa (e + 1) x (nI (A + 1)) := by
              intro hn
              refine ihe (A + 1) x (by omega) (fun i hi => ?_)
              rw [hx i hi]
              constructor
              · rintro (h1 | ⟨h1, B, h2, h3⟩)
                · exact Or.inl h1
                · exact Or.inr ⟨h1, B, by omega, h3⟩
              · rintro (h1 | ⟨h1, B, h2, h3⟩)
                · exact Or.inl h1
                · refine Or.inr ⟨h1, B, ?_, h3⟩
                  rcases Nat.lt_or_ge B A with z | z
                  · exact z
                  · have e : B = A := by omega
                    subst e; exact absurd h3 hn
            rcases lc_ME_at hM (show p < 24 by omega) A16 with ⟨e1, hP⟩ | ⟨e1, hP⟩
            · refine br_f (by rw [e1]; decide) ?_
              rw [lc_bt1 (by omega), lc_nIt _ (by omega)]
              refine br_c (fun z => nm_e (nm_r (nI_1 A) (ihe (A + 1) _ (by omega) (fun i hi => ?_)))) (fun z => nm_r (nI_1 A) (skip (fun y => z y.2)))
              rw [b_or, lc_one (by omega) hi, Bool.or_eq_true, hx i hi, decide_eq_true_iff]
              constructor
              · rintro ((h1 | ⟨h1, B, h2, h3⟩) | h1)
                · exact Or.inl h1
                · exact Or.inr ⟨h1, B, by omega, h3⟩
                · exact Or.inr ⟨h1, A, by omega, hP, z⟩
              · rintro (h1 | ⟨h1, B, h2, h3⟩)
                · exact Or.inl (Or.inl h1)
                · exact Or.inr h1
            · exact br_t e1 (nm_r (nI_1 A) (skip (fun y => hP y.1)))
        refine inner 16 0 w rfl (fun i hi => ?_)
        rw [hw i hi]
        constructor
        · intro z; exact Or.inl z
        · rintro (z | ⟨_, B, h, _⟩)
          · exact z
          · exact absurd h (Nat.not_lt_zero B)
      · refine br_f (by decide) (br_t rfl (nm_r (nI_1 b) (ih (b + 1) w mo' M' (by omega) (fun i hi => ?_))))
        rw [hw i hi]
        constructor
        · rintro ⟨h1, h2⟩; exact ⟨by omega, h2⟩
        · rintro ⟨h1, h2⟩
          refine ⟨?_, h2⟩
          rcases Nat.lt_or_ge i b with z | z
          · exact z
          · have e : i = b := by omega
            subst e; exact absurd (lc_HX_mk h2) hn
  exact ⟨c + 1, loop c 0 0 mo M (by omega) (fun i hi => by rw [b_0]; constructor
                                                           · intro z; cases z
                                                           · rintro ⟨h, -⟩; exact absurd h (Nat.not_lt_zero i))⟩
theorem ly_isFree (V : lc_V c k f s K F S) {p r : Nat} (hp : p < c) (hr : r < 4) {post : Int32 → SY → Prop} (h1 : lc_FX c k f s (p, r) → ∀ mo' M', post 1 (nI c, mo', K, F, S, M', U, Fa)) (h0 : ¬ lc_FX c k f s (p, r) → ∀ mo' M', post 0 (nI c, mo', K, F, S, M', U, Fa)) : wpY_isFree post (nI c, mo, K, F, S, M, U, Fa) (nI p) (nI r) := by
  have hc := V.1
  have O := lc_V_OK V
  unfold wpY_isFree
  dsimp only
  refine ly_fromBegin V (w := 1) (by decide) (fun mo' M' hM => ⟨17, ?_⟩)
  have loop : ∀ d A, A + d = 16 → (∀ B, B < A → ¬ (lc_Y c k f s 1 (p, B) ∧ B.testBit r = false)) → wY_isFree_7 post (nI p) (nI r) (nI c) mo' K F S M' U Fa (d + 1) (nI A) := by
    intro d
    induction d with
    | zero =>
      intro A hA hn
      have e : A = 16 := by omega
      subst e
      refine br_t (nI_le (a := 16) (b := 16) (by decide) (by decide)) (h0 (fun z => ?_) mo' M')
      obtain ⟨B, hB, hb⟩ := (lc_L3 O hr).mp z
      exact hn B (lc_Y_S hB).2 ⟨hB, hb⟩
    | succ d ih =>
      intro A hA hn
      refine br_f (nI_ge (b := 16) (by omega) (by decide)) ?_
      rw [lc_i16, nI_clamp (show 16 * p + A < 2 ^ 31 by omega)]
      refine ⟨vp_in_nI (by omega) (by decide), ?_⟩
      have skip : ¬ (lc_Y c k f s 1 (p, A) ∧ A.testBit r = false) → wY_isFree_7 post (nI p) (nI r) (nI c) mo' K F S M' U Fa (d + 1) (nI (A + 1)) := by
        intro z
        refine ih (A + 1) (by omega) (fun B hB => ?_)
        by_cases e : B = A
        · rw [e]; exact z
        · exact hn B (by omega)
      rcases lc_ME_at hM (show p < 24 by omega) (show A < 16 by omega) with ⟨e, hP⟩ | ⟨e, hP⟩
      · refine br_f (by rw [e]; decide) ?_
        rw [lc_bt0 (by omega), lc_nIt _ (by omega)]
        exact br_c (fun z => h1 ((lc_L3 O hr).mpr ⟨A, hP, z⟩) mo' M') (fun z => nm_r (nI_1 A) (skip (fun y => z y.2)))
      · exact br_t e (nm_r (nI_1 A) (skip (fun y => hP y.1)))
  exact loop 16 0 rfl (fun B hB => absurd hB (Nat.not_lt_zero B))
theorem ly_isInConflict (V : lc_V c k f s K F S) (hU : lc_UE c k f s U) {b p : Nat} (hb : b < c) (hp : p < c) {post : Int32 → SY → Prop} (h1 : lc_Cn c k f s b p → ∀ mo' M', post 1 (nI c, mo', K, F, S, M', U, Fa)) (h0 : ¬ lc_Cn c k f s b p → ∀ mo' M', post 0 (nI c, mo', K, F, S, M', U, Fa)) : wpY_isInConflict post (nI c, mo, K, F, S, M, U, Fa) (nI b) (nI p) := by
  have hc := V.1
  have O := lc_V_OK V
  unfold wpY_isInConflict
  dsimp only
  refine ly_makes V hb (fun hm => br_f (by decide) ?_) (fun hm => br_t rfl (h0 (fun z => hm z.1.1) mo M))
  refine ly_isAgainst V hp hb hm (fun ha => br_f (by decide) ?_) (fun ha => br_t rfl (h0 (fun z => ha z.1) mo M))
  refine ly_follow V hb (fun _ hR mo' M' hM => br_f (by decide) ⟨16, ?_⟩) (fun hn mo' M' => br_t rfl (h0 (fun z => hn ⟨hm, ((lc_CnY O ha).mp z).1⟩) mo' M'))
  have loop : ∀ d A, A + d = 16 → 1 ≤ A → (∀ B, 1 ≤ B → B < A → ¬ (lc_Fo c k f s b (p, B) ∧ ∃ q, lc_E c k f p q ∧ lc_UY c k f s (q, lc_hB k f s p B))) → wY_isInConflict_29 post (nI p) (nI c) mo' K F S M' U Fa (d + 1) (nI A) := by
    intro d
    induction d with
    | zero =>
      intro A hA h1A hn
      have e : A = 16 := by omega
      subst e
      refine br_t (nI_le (a := 16) (b := 16) (by decide) (by decide)) (h0 (fun z => ?_) mo' M')
      obtain ⟨_, B, hB1, hB, hF, hu⟩ := (lc_CnY O ha).mp z
      exact hn B hB1 hB ⟨hF, hu⟩
    | succ d ih =>
      intro A hA h1A hn
      have A16 : A < 16 := by omega
      have hB' : lc_hB k f s p A < 16 := lc_m4_lt _
      have skip : ¬ (lc_Fo c k f s b (p, A) ∧ ∃ q, lc_E c k f p q ∧ lc_UY c k f s (q, lc_hB k f s p A)) → wY_isInConflict_29 post (nI p) (nI c) mo' K F S M' U Fa (d + 1) (nI (A + 1)) := by
        intro z
        refine ih (A + 1) (by omega) (by omega) (fun B hB1 hB => ?_)
        by_cases e : B = A
        · rw [e]; exact z
        · exact hn B hB1 (by omega)
      refine br_f (nI_ge (b := 16) A16 (by decide)) ?_
      refine ly_holdBehind V hp A16 ?_
      rw [lc_i16, nI_clamp (show 16 * p + A < 2 ^ 31 by omega)]
      refine ⟨vp_in_nI (by omega) (by decide), ?_⟩
      have hUP : ∀ q, q < c → (U (16 * q + lc_hB k f s p A) ≠ 0 ↔ lc_UY c k f s (q, lc_hB k f s p A)) := by
        intro q hq
        rcases lc_ME_at hU (show q < 24 by omega) hB' with ⟨e, z⟩ | ⟨e, z⟩
        · rw [e]; exact ⟨fun _ => z, fun _ => by decide⟩
        · rw [e]; exact ⟨fun y => absurd rfl y, fun y => absurd y z⟩
      rcases lc_ME_at hM (show p < 24 by omega) A16 with ⟨e, hP⟩ | ⟨e, hP⟩
      · refine br_f (by rw [e]; decide) ?_
        refine ly_next V hp (i := 0) (by decide) ?_
        refine ly_isUseful hc hB' (fun q e => lc_nx_lt e) hUP (fun ⟨q, e1, y⟩ => br_f (by decide) (h1 ((lc_CnY O ha).mpr ⟨hR, A, h1A, A16, hP, q, ⟨hp, Or.inl e1⟩, y⟩) mo' M')) (fun a => br_t rfl ?_)
        refine ly_next V hp (i := 1) (by decide) ?_
        refine ly_isUseful hc hB' (fun q e => lc_nx_lt e) hUP (fun ⟨q, e1, y⟩ => br_f (by decide) (h1 ((lc_CnY O ha).mpr ⟨hR, A, h1A, A16, hP, q, ⟨hp, Or.inr e1⟩, y⟩) mo' M')) (fun a2 => br_t rfl (nm_r (nI_1 A) (skip ?_)))
        rintro ⟨_, q, ⟨_, e1 | e1⟩, y⟩
        · exact a ⟨q, e1, y⟩
        · exact a2 ⟨q, e1, y⟩
      · exact br_t e (nm_r (nI_1 A) (skip (fun y => hP y.1)))
  exact loop 15 1 rfl (Nat.le_refl _) (fun B h1 h2 => absurd h2 (by omega))
theorem ly_conflictsAt (V : lc_V c k f s K F S) {p : Nat} (hp : p < c) {post : Int32 → SY → Prop} (h : ∀ w, lc_W w (fun i => i < c ∧ lc_Cn c k f s i p) → ∀ mo' M' U', post w (nI c, mo', K, F, S, M', U', Fa)) : wpY_conflictsAt post (nI c, mo, K, F, S, M, U, Fa) (nI p) := by
  have hc := V.1
  unfold wpY_conflictsAt
  dsimp only
  refine ly_findUseful V (fun mo1 U1 hU => ⟨c + 1, ?_⟩)
  have loop : ∀ d b w mo M, b + d = c → lc_W w (fun i => i < b ∧ lc_Cn c k f s i p) → wY_conflictsAt_8 post (nI p) (d + 1) w (nI b) (nI c) mo K F S M U1 Fa := by
    intro d
    induction d with
    | zero =>
      intro b w mo M hb hw
      have e : b = c := by omega
      subst e
      exact br_t (nI_le (Nat.le_refl _) (by omega)) (h w hw mo M U1)
    | succ d ih =>
      intro b w mo M hb hw
      refine br_f (nI_ge (by omega) (by omega)) ?_
      refine ly_isInConflict V hU (by omega) hp (fun hC mo' M' => br_f (by decide) (nm_e (nm_r (nI_1 b) (ih (b + 1) _ mo' M' (by omega) (fun i hi => ?_))))) (fun hC mo' M' => br_t rfl (nm_r (nI_1 b) (ih (b + 1) _ mo' M' (by omega) (fun i hi => ?_))))
      · rw [b_or, lc_one (by omega) hi, Bool.or_eq_true, hw i hi, decide_eq_true_iff]
        constructor
        · rintro (⟨h1, h2⟩ | e)
          · exact ⟨by omega, h2⟩
          · subst e; exact ⟨by omega, hC⟩
        · rintro ⟨h1, h2⟩
          rcases Nat.lt_or_ge i b with z | z
          · exact Or.inl ⟨z, h2⟩
          · exact Or.inr (by omega)
      · rw [hw i hi]
        constructor
        · rintro ⟨h1, h2⟩; exact ⟨by omega, h2⟩
        · rintro ⟨h1, h2⟩
          refine ⟨?_, h2⟩
          rcases Nat.lt_or_ge i b with z | z
          · exact z
          · have e : i = b := by omega
            subst e; exact absurd h2 hC
  exact loop c 0 0 mo1 M (by omega) (fun i hi => by rw [b_0]; constructor
                                                    · intro z; cases z
                                                    · rintro ⟨h, -⟩; exact absurd h (Nat.not_lt_zero i))
theorem ly_isUnset (V : lc_V c k f s K F S) {p : Nat} (hp : p < c) {post : Int32 → SY → Prop} (h1 : lc_Un c k f s p → ∀ mo' M', post 1 (nI c, mo', K, F, S, M', U, Fa)) (h0 : ¬ lc_Un c k f s p → ∀ mo' M', post 0 (nI c, mo', K, F, S, M', U, Fa)) : wpY_isUnset post (nI c, mo, K, F, S, M, U, Fa) (nI p) := by
  have hc := V.1
  have O := lc_V_OK V
  obtain ⟨hp24, hcl, hin, hK, h11, hF, hf4, hS⟩ := lc_Vp V hp
  unfold wpY_isUnset
  dsimp only
  rw [hK]
  refine ⟨hin, ly_isIn (l := 1) (g := 4) (by omega) (by decide) (by decide) (fun hk => br_f (by decide) ?_) (fun hk => br_t rfl (h0 ?_ mo M))⟩
  · obtain ⟨o, ho⟩ : ∃ o, lc_ow k f s p = some o := by
      unfold lc_ow
      by_cases e : k p ≤ 2
      · exact ⟨_, if_pos e⟩
      · rw [if_neg e, if_pos hk.2]; exact ⟨_, rfl⟩
    have o4 := lc_ow_lt O hp ho
    refine ly_fromBegin V (w := 2) (by decide) (fun mo' M' hM => ⟨17, ?_⟩)
    have loop : ∀ d A, A + d = 16 → (∀ B, B < A → ¬ (lc_Y c k f s 2 (p, B) ∧ B.testBit o = false)) → wY_isUnset_24 post (nI p) (nI c) mo' K F S M' U Fa (d + 1) (nI A) := by
      intro d
      induction d with
      | zero =>
        intro A hA hn
        have e : A = 16 := by omega
        subst e
        refine br_t (nI_le (a := 16) (b := 16) (by decide) (by decide)) (h0 (fun ⟨o', e1, _, z⟩ => ?_) mo' M')
        rw [ho] at e1; cases e1
        obtain ⟨B, hB, hb⟩ := (lc_L4 (s := s) o4).mp z
        exact hn B (lc_Y_S hB).2 ⟨hB, hb⟩
      | succ d ih =>
        intro A hA hn
        refine br_f (nI_ge (b := 16) (by omega) (by decide)) ?_
        rw [lc_i16, nI_clamp (show 16 * p + A < 2 ^ 31 by omega)]
        refine ⟨vp_in_nI (by omega) (by decide), ?_⟩
        have skip : ¬ (lc_Y c k f s 2 (p, A) ∧ A.testBit o = false) → wY_isUnset_24 post (nI p) (nI c) mo' K F S M' U Fa (d + 1) (nI (A + 1)) := by
          intro z
          refine ih (A + 1) (by omega) (fun B hB => ?_)
          by_cases e : B = A
          · rw [e]; exact z
          · exact hn B (by omega)
        rcases lc_ME_at hM (show p < 24 by omega) (show A < 16 by omega) with ⟨e, hP⟩ | ⟨e, hP⟩
        · refine br_f (by rw [e]; decide) ?_
          refine ly_ownerOf V hp ?_
          rw [ho]
          show ((nI A >>> (nI o &&& 31) &&& 1 = 0 → _) ∧ (¬ nI A >>> (nI o &&& 31) &&& 1 = 0 → _))
          rw [lc_bt0 (by omega), lc_nIt _ (by omega)]
          exact br_c (fun z => h1 ⟨o, ho, by omega, (lc_L4 (s := s) o4).mpr ⟨A, hP, z⟩⟩ mo' M') (fun z => nm_r (nI_1 A) (skip (fun y => z y.2)))
        · exact br_t e (nm_r (nI_1 A) (skip (fun y => hP y.1)))
    exact loop 16 0 rfl (fun B hB => absurd hB (Nat.not_lt_zero B))
  · rintro ⟨o, ho, hk0, _⟩
    apply hk
    unfold lc_ow at ho
    by_cases e : k p ≤ 2
    · omega
    · rw [if_neg e] at ho
      by_cases e4 : k p ≤ 4
      · omega
      · rw [if_neg e4] at ho; cases ho
theorem ly_isIdle (V : lc_V c k f s K F S) {p : Nat} (hp : p < c) {post : Int32 → SY → Prop} (h1 : lc_Id c k f s p → ∀ mo' M', post 1 (nI c, mo', K, F, S, M', U, Fa)) (h0 : ¬ lc_Id c k f s p → ∀ mo' M', post 0 (nI c, mo', K, F, S, M', U, Fa)) : wpY_isIdle post (nI c, mo, K, F, S, M, U, Fa) (nI p) := by
  obtain ⟨hp24, hcl, hin, hK, h11, hF, hf4, hS⟩ := lc_Vp V hp
  unfold wpY_isIdle
  dsimp only
  refine ⟨hin, pk_eq (k p) 7 (fun e => ⟨hin, ?_⟩) (fun e => h0 (fun z => e z.1) mo M) hK⟩
  rw [(hF (by omega)).1]
  exact ly_isFree V hp (hf4 (by omega)) (fun a mo' M' => br_f (by decide) (h1 ⟨e, a⟩ mo' M')) (fun a mo' M' => br_t rfl (h0 (fun z => a z.2) mo' M'))
theorem ly_isFault (V : lc_V c k f s K F S) {p : Nat} (hp : p < c) {post : Int32 → SY → Prop} (h1 : lc_Ft c k f s p → ∀ mo' M' U', post 1 (nI c, mo', K, F, S, M', U', Fa)) (h0 : ¬ lc_Ft c k f s p → ∀ mo' M' U', post 0 (nI c, mo', K, F, S, M', U', Fa)) : wpY_isFault post (nI c, mo, K, F, S, M, U, Fa) (nI p) := by
  have hc := V.1
  unfold wpY_isFault
  dsimp only
  refine ly_conflictsAt V hp (fun w hw mo1 M1 U1 => ?_)
  show (w = 0 → _) ∧ (¬ w = 0 → _)
  rw [lc_W_0 hw]
  refine br_c (fun z => ?_) (fun z => h1 (Or.inr (Or.inr ?_)) mo1 M1 U1)
  · refine ly_isUnset V hp (fun a mo2 M2 => br_f (by decide) (h1 (Or.inl a) mo2 M2 U1)) (fun a mo2 M2 => br_t rfl ?_)
    refine ly_isIdle V hp (fun b mo3 M3 => br_f (by decide) (h1 (Or.inr (Or.inl b)) mo3 M3 U1)) (fun b mo3 M3 => br_t rfl (h0 ?_ mo3 M3 U1))
    rintro (y | y | ⟨q, hq, y⟩)
    · exact a y
    · exact b y
    · exact z q (by omega) ⟨hq, y⟩
  · apply Classical.byContradiction
    intro hn
    exact z (fun i hi y => hn ⟨i, y.1, y.2⟩)
theorem ly_faults (V : lc_V c k f s K F S) {post : Int32 → SY → Prop} (h : ∀ mo' M' U', post (nI (cn (lc_Ft c k f s) c)) (nI c, mo', K, F, S, M', U', Fa)) : wpY_faults post (nI c, mo, K, F, S, M, U, Fa) := by
  have hc := V.1
  have loop : ∀ d p mo M U, p + d = c → wY_faults_4 post (d + 1) (nI (cn (lc_Ft c k f s) p)) (nI p) (nI c) mo K F S M U Fa := by
    intro d
    induction d with
    | zero =>
      intro p mo M U hp
      have e : p = c := by omega
      subst e
      exact br_t (nI_le (Nat.le_refl _) (by omega)) (h mo M U)
    | succ d ih =>
      intro p mo M U hp
      refine br_f (nI_ge (by omega) (by omega)) ?_
      refine ly_isFault V (by omega) (fun a mo' M' U' => br_f (by decide) ?_) (fun a mo' M' U' => br_t rfl ?_)
      · refine nm_r (e' := nI (cn (lc_Ft c k f s) (p + 1))) ?_ (nm_r (nI_1 p) (ih (p + 1) mo' M' U' (by omega)))
        rw [nI_1]; simp only [cn]; rw [b01_t a]
      · have e : cn (lc_Ft c k f s) (p + 1) = cn (lc_Ft c k f s) p := by simp only [cn]; rw [b01_f a, Nat.add_zero]
        have := ih (p + 1) mo' M' U' (by omega)
        rw [e] at this
        exact nm_r (nI_1 p) this
  unfold wpY_faults
  exact ⟨c + 1, loop c 0 mo M U (by omega)⟩
theorem ly_firstFault (V : lc_V c k f s K F S) {post : Int32 → SY → Prop} (h1 : ∀ p, p < c → lc_Ft c k f s p → (∀ q, q < p → ¬ lc_Ft c k f s q) → ∀ mo' M' U', post (nI p) (nI c, mo', K, F, S, M', U', Fa)) (h0 : (∀ q, q < c → ¬ lc_Ft c k f s q) → ∀ mo' M' U', post (-3) (nI c, mo', K, F, S, M', U', Fa)) : wpY_firstFault post (nI c, mo, K, F, S, M, U, Fa) := by
  have hc := V.1
  have loop : ∀ d p mo M U, p + d = c → (∀ q, q < p → ¬ lc_Ft c k f s q) → wY_firstFault_2 post (d + 1) (nI p) (nI c) mo K F S M U Fa := by
    intro d
    induction d with
    | zero =>
      intro p mo M U hp hn
      have e : p = c := by omega
      subst e
      exact br_t (nI_le (Nat.le_refl _) (by omega)) (h0 hn mo M U)
    | succ d ih =>
      intro p mo M U hp hn
      refine br_f (nI_ge (by omega) (by omega)) ?_
      refine ly_isFault V (by omega) (fun a mo' M' U' => br_f (by decide) (h1 p (by omega) a hn mo' M' U')) (fun a mo' M' U' => br_t rfl (nm_r (nI_1 p) (ih (p + 1) mo' M' U' (by omega) (fun q hq => ?_))))
      rcases Nat.lt_or_ge q p with z | z
      · exact hn q z
      · have e : q = p := by omega
        rw [e]; exact a
  unfold wpY_firstFault
  exact ⟨c + 1, loop c 0 mo M U (by omega) (fun q hq => absurd hq (Nat.not_lt_zero q))⟩
theorem ly_span28 (V : lc_V c k f s K F S) {b : Nat} (hb : b < c) (hm : lc_mk k b) (hR : lc_RX c k f b) (hM : lc_ME (lc_Fo c k f s b) M) (hU : lc_UE c k f s U) {post : Int32 → SY → Prop} (h : ∀ w, lc_W w (fun i => i < c ∧ lc_Sp c k f s b i) → post w (nI c, mo, K, F, S, M, U, Fa)) : ∃ n, wY_span_28 post (nI c) mo K F S M U Fa n 0 0 := by
  have hc := V.1
  have O := lc_V_OK V
  have loop : ∀ d n w, n + d = 16 * c → lc_W w (fun i => ∃ m, m < n ∧ m / 16 = i ∧ lc_Fo c k f s b (m / 16, m % 16) ∧ lc_UY c k f s (m / 16, m % 16)) → wY_span_28 post (nI c) mo K F S M U Fa (d + 1) w (nI n) := by
    intro d
    induction d with
    | zero =>
      intro n w hn hw
      have e : n = 16 * c := by omega
      subst e
      refine br_t (by rw [lc_m16]; exact nI_le (Nat.le_refl _) (by omega)) (h w (fun i hi => ?_))
      rw [hw i hi]
      constructor
      · rintro ⟨m, hm1, e, hF, hu⟩
        rw [e] at hF hu
        obtain ⟨r, hr, ht, hw⟩ := (lc_L5 O (Nat.mod_lt _ (by decide))).mp hu
        exact ⟨by omega, r, hr, hw, (lc_L2 O hr).mpr ⟨hm, hR, _, hF, ht⟩⟩
      · rintro ⟨hic, r, hr, hw, hh⟩
        obtain ⟨_, _, A, hF, ht⟩ := (lc_L2 O hr).mp hh
        have hA : A < 16 := (lc_Fo_S O hb hm hF).2
        refine ⟨16 * i + A, by omega, by omega, ?_⟩
        rw [show (16 * i + A) / 16 = i by omega, show (16 * i + A) % 16 = A by omega]
        exact ⟨hF, (lc_L5 O hA).mpr ⟨r, hr, ht, hw⟩⟩
    | succ d ih =>
      intro n w hn hw
      have hin : vp_in (nI n) 384 := vp_in_nI (by omega) (by decide)
      refine br_f (by rw [lc_m16]; exact nI_ge (by omega) (by omega)) ⟨hin, ?_⟩
      rw [nI_clamp (show n < 2 ^ 31 by omega)]
      have skip : ¬ (lc_Fo c k f s b (n / 16, n % 16) ∧ lc_UY c k f s (n / 16, n % 16)) → wY_span_28 post (nI c) mo K F S M U Fa (d + 1) w (nI (n + 1)) := by
        intro z
        refine ih (n + 1) w (by omega) (fun i hi => ?_)
        rw [hw i hi]
        constructor
        · rintro ⟨m, h1, h2⟩; exact ⟨m, by omega, h2⟩
        · rintro ⟨m, h1, h2, h3⟩
          refine ⟨m, ?_, h2, h3⟩
          rcases Nat.lt_or_ge m n with y | y
          · exact y
          · have e : m = n := by omega
            subst e; exact absurd h3 z
      rcases hM n (by omega) with ⟨e, hP⟩ | ⟨e, hP⟩
      · refine br_f (by rw [e]; decide) ⟨hin, ?_⟩
        rcases hU n (by omega) with ⟨e2, hQ⟩ | ⟨e2, hQ⟩
        · refine br_f (by rw [e2]; decide) ⟨by decide, ?_⟩
          rw [lc_d16 (by omega)]
          refine nm_e (nm_r (nI_1 n) (ih (n + 1) _ (by omega) (fun i hi => ?_)))
          rw [b_or, lc_one (by omega) hi, Bool.or_eq_true, hw i hi, decide_eq_true_iff]
          constructor
          · rintro (⟨m, h1, h2⟩ | e)
            · exact ⟨m, by omega, h2⟩
            · exact ⟨n, by omega, e.symm, hP, hQ⟩
          · rintro ⟨m, h1, h2, h3⟩
            rcases Nat.lt_or_ge m n with y | y
            · exact Or.inl ⟨m, y, h2, h3⟩
            · have e : m = n := by omega
              subst e; exact Or.inr h2.symm
        · exact br_t e2 (nm_r (nI_1 n) (skip (fun y => hQ y.2)))
      · exact br_t e (nm_r (nI_1 n) (skip (fun y => hP y.1)))
  exact ⟨16 * c + 1, loop (16 * c) 0 0 (by omega) (fun i hi => by rw [b_0]; constructor
                                                                  · intro z; cases z
                                                                  · rintro ⟨m, h, -⟩; exact absurd h (Nat.not_lt_zero m))⟩
theorem ly_broken (V : lc_V c k f s K F S) {post : Int32 → SY → Prop} (h : ∀ mo' M' U', post (nI (cn (lc_Br c k f s) c)) (nI c, mo', K, F, S, M', U', Fa)) : wpY_broken post (nI c, mo, K, F, S, M, U, Fa) := by
  have hc := V.1
  have ecn : cn (lc_Br c k f s) 24 = cn (lc_Br c k f s) c := by
    have := lc_cn_ext (P := lc_Br c k f s) (c := c) (fun b z => z.1) (24 - c)
    rw [show c + (24 - c) = 24 by omega] at this
    exact this
  have sum : ∀ w mo M U, lc_W w (lc_Br c k f s) → ∀ d b, b + d = 24 → wY_broken_30 post w (nI c) mo K F S M U Fa (d + 1) (nI (cn (lc_Br c k f s) b)) (nI b) := by
    intro w mo M U hw d
    induction d with
    | zero =>
      intro b hb
      have e : b = 24 := by omega
      subst e
      rw [ecn]
      exact br_t (nI_le (a := 24) (b := 24) (by decide) (by decide)) (h mo M U)
    | succ d ih =>
      intro b hb
      refine br_f (nI_ge (b := 24) (by omega) (by decide)) ?_
      refine nm_r (e' := nI (cn (lc_Br c k f s) (b + 1))) ?_ (nm_r (nI_1 b) (ih (b + 1) (by omega)))
      rw [lc_bv w (by omega)]
      simp only [cn]
      by_cases hB : lc_Br c k f s b
      · rw [if_pos ((hw b (by omega)).mpr hB), b01_t hB, nI_1]
      · rw [if_neg (fun z => hB ((hw b (by omega)).mp z)), b01_f hB, Int32.add_zero, Nat.add_zero]
  have loop : ∀ d p w mo M U, p + d = c → lc_W w (fun b => b < c ∧ ∃ q, q < p ∧ lc_Cn c k f s b q) → wY_broken_4 post (d + 1) w (nI p) (nI c) mo K F S M U Fa := by
    intro d
    induction d with
    | zero =>
      intro p w mo M U hp hw
      have e : p = c := by omega
      subst e
      exact br_t (nI_le (Nat.le_refl _) (by omega)) ⟨25, sum w mo M U hw 24 0 rfl⟩
    | succ d ih =>
      intro p w mo M U hp hw
      refine br_f (nI_ge (by omega) (by omega)) ?_
      refine ly_conflictsAt V (by omega) (fun w2 hw2 mo' M' U' => nm_e (nm_r (nI_1 p) (ih (p + 1) _ mo' M' U' (by omega) (fun i hi => ?_))))
      rw [b_or, Bool.or_eq_true, hw i hi, hw2 i hi]
      constructor
      · rintro (⟨h1, q, h2, h3⟩ | ⟨h1, h2⟩)
        · exact ⟨h1, q, by omega, h3⟩
        · exact ⟨h1, p, by omega, h2⟩
      · rintro ⟨h1, q, h2, h3⟩
        rcases Nat.lt_or_ge q p with y | y
        · exact Or.inl ⟨h1, q, y, h3⟩
        · have e : q = p := by omega
          subst e; exact Or.inr ⟨h1, h3⟩
  unfold wpY_broken
  exact ⟨c + 1, loop c 0 0 mo M U (by omega) (fun i hi => by rw [b_0]; constructor
                                                             · intro z; cases z
                                                             · rintro ⟨-, q, h, -⟩; exact absurd h (Nat.not_lt_zero q))⟩
end
end
section
/-! ===== paths that show a conflict: states (0 before the loan, 1 held, 2 behind the conflict; the point; a reference, or a set) ===== -/
def lc_gX (c : Nat) (k f s : Nat → Nat) (b g : Nat) (x y : Nat × Nat × Nat) : Prop :=
  lc_E c k f x.2.1 y.2.1 ∧ ((x.1 = 0 ∧ y.1 = 0 ∧ y.2.2 = 0) ∨ (x.1 = 0 ∧ x.2.1 = b ∧ y.1 = 1 ∧ y.2.2 = f b) ∨
    (1 ≤ x.1 ∧ y.1 = x.1 ∧ y.2.2 < 4 ∧ lc_src k f s x.2.1 y.2.2 = some x.2.2) ∨ (1 ≤ x.1 ∧ x.2.1 = g ∧ y.1 = 2 ∧ y.2.2 < 4 ∧ lc_src k f s x.2.1 y.2.2 = some x.2.2))
def lc_gY (c : Nat) (k f s : Nat → Nat) (b g : Nat) (x y : Nat × Nat × Nat) : Prop :=
  lc_E c k f x.2.1 y.2.1 ∧ ((x.1 = 0 ∧ y.1 = 0 ∧ y.2.2 = 0) ∨ (x.1 = 0 ∧ x.2.1 = b ∧ y.1 = 1 ∧ y.2.2 = 2 ^ f b) ∨
    (1 ≤ x.1 ∧ y.1 = x.1 ∧ y.2.2 = lc_hB k f s x.2.1 x.2.2 ∧ y.2.2 ≠ 0) ∨ (x.1 = 1 ∧ x.2.1 = g ∧ y.1 = 2 ∧ y.2.2 = lc_hB k f s x.2.1 x.2.2 ∧ y.2.2 ≠ 0))
def lc_PX (c : Nat) (k f s : Nat → Nat) (b g n : Nat) (x : Nat × Nat × Nat) : Prop := lc_rn (fun x => x = (0, 0, 0)) (lc_gX c k f s b g) n x
def lc_PY (c : Nat) (k f s : Nat → Nat) (b g n : Nat) (x : Nat × Nat × Nat) : Prop := lc_rn (fun x => x = (0, 0, 0)) (lc_gY c k f s b g) n x
def lc_tg (k f : Nat → Nat) (x : Nat × Nat × Nat) : Prop := x.1 = 2 ∧ k x.2.1 = 7 ∧ f x.2.1 = x.2.2
def lc_tgY (k f : Nat → Nat) (x : Nat × Nat × Nat) : Prop := x.1 = 2 ∧ k x.2.1 = 7 ∧ x.2.2.testBit (f x.2.1) = true
/-- a path of n steps shows the conflict -/
def lc_T (c : Nat) (k f s : Nat → Nat) (b g n : Nat) : Prop := ∃ x, lc_PX c k f s b g n x ∧ lc_tg k f x
section
variable {c : Nat} {k f s : Nat → Nat} {b g : Nat}
theorem lc_PX_ok (hc : 0 < c) (hf : f b < 4) : ∀ n x, lc_PX c k f s b g n x → x.2.1 < c ∧ ((x.1 = 0 ∧ x.2.2 = 0) ∨ ((x.1 = 1 ∨ x.1 = 2) ∧ x.2.2 < 4)) := by
  intro n
  induction n with
  | zero => intro x h; rw [show x = (0, 0, 0) from h]; exact ⟨hc, Or.inl ⟨rfl, rfl⟩⟩
  | succ n ih =>
    rintro y ⟨x, hx, e, hg⟩
    obtain ⟨h1, h2⟩ := ih x hx
    refine ⟨lc_E_r e, ?_⟩
    rcases hg with ⟨_, a, d⟩ | ⟨_, _, a, d⟩ | ⟨z, a, d, _⟩ | ⟨z, _, a, d, _⟩
    · exact Or.inl ⟨a, d⟩
    · exact Or.inr ⟨Or.inl a, by rw [d]; exact hf⟩
    · exact Or.inr ⟨by omega, d⟩
    · exact Or.inr ⟨Or.inr a, d⟩
theorem lc_PY_ok (hc : 0 < c) (hf : f b < 4) : ∀ n x, lc_PY c k f s b g n x → x.2.1 < c ∧ x.1 ≤ 2 ∧ x.2.2 < 16 := by
  intro n
  induction n with
  | zero => intro x h; rw [show x = (0, 0, 0) from h]; exact ⟨hc, by decide, by decide⟩
  | succ n ih =>
    rintro y ⟨x, hx, e, hg⟩
    obtain ⟨h1, h2, h3⟩ := ih x hx
    refine ⟨lc_E_r e, ?_⟩
    rcases hg with ⟨_, a, d⟩ | ⟨_, _, a, d⟩ | ⟨z, a, d, _⟩ | ⟨z, _, a, d, _⟩
    · omega
    · rw [a, d]; exact ⟨by decide, lc_pw1 _ hf⟩
    · rw [a, d]; exact ⟨h2, lc_m4_lt _⟩
    · rw [a, d]; exact ⟨by decide, lc_m4_lt _⟩
theorem lc_LS1 (O : lc_OK c k f s) (hc : 0 < c) (hf : f b < 4) : ∀ n x, lc_PX c k f s b g n x → ∃ A, lc_PY c k f s b g n (x.1, x.2.1, A) ∧ ((x.1 = 0 ∧ A = 0) ∨ (1 ≤ x.1 ∧ A.testBit x.2.2 = true)) := by
  intro n
  induction n with
  | zero => intro x h; rw [show x = (0, 0, 0) from h]; exact ⟨0, rfl, Or.inl ⟨rfl, rfl⟩⟩
  | succ n ih =>
    rintro y ⟨x, hx, e, hg⟩
    obtain ⟨A, hA, hd⟩ := ih x hx
    have hxo := (lc_PX_ok hc hf n x hx).2
    rcases hg with ⟨z, a, d⟩ | ⟨z, z2, a, d⟩ | ⟨z, a, d, hs⟩ | ⟨z, z2, a, d, hs⟩
    · exact ⟨0, ⟨_, hA, e, Or.inl ⟨z, a, rfl⟩⟩, Or.inl ⟨a, rfl⟩⟩
    · exact ⟨2 ^ f b, ⟨_, hA, e, Or.inr (Or.inl ⟨z, z2, a, rfl⟩)⟩, Or.inr ⟨by omega, by rw [d, Nat.testBit_two_pow_self]⟩⟩
    · have ht : A.testBit x.2.2 = true := by
        rcases hd with ⟨w, _⟩ | ⟨_, w⟩
        · omega
        · exact w
      have hB : (lc_hB k f s x.2.1 A).testBit y.2.2 = true := (lc_hB_t d).mpr ⟨_, hs, ht⟩
      exact ⟨lc_hB k f s x.2.1 A, ⟨_, hA, e, Or.inr (Or.inr (Or.inl ⟨z, a, rfl, lc_tb_ne hB⟩))⟩, Or.inr ⟨by omega, hB⟩⟩
    · have ht : A.testBit x.2.2 = true := by
        rcases hd with ⟨w, _⟩ | ⟨_, w⟩
        · omega
        · exact w
      have hB : (lc_hB k f s x.2.1 A).testBit y.2.2 = true := (lc_hB_t d).mpr ⟨_, hs, ht⟩
      refine ⟨lc_hB k f s x.2.1 A, ⟨_, hA, e, ?_⟩, Or.inr ⟨by omega, hB⟩⟩
      rcases (by omega : x.1 = 1 ∨ x.1 = 2) with w | w
      · exact Or.inr (Or.inr (Or.inr ⟨w, z2, a, rfl, lc_tb_ne hB⟩))
      · exact Or.inr (Or.inr (Or.inl ⟨z, by show y.1 = x.1; omega, rfl, lc_tb_ne hB⟩))
theorem lc_LS2 (O : lc_OK c k f s) (hc : 0 < c) (hf : f b < 4) : ∀ n x, lc_PY c k f s b g n x → (x.1 = 0 ∧ x.2.2 = 0 ∧ lc_PX c k f s b g n (0, x.2.1, 0)) ∨ (1 ≤ x.1 ∧ ∀ r, x.2.2.testBit r = true → lc_PX c k f s b g n (x.1, x.2.1, r)) := by
  intro n
  induction n with
  | zero => intro x h; rw [show x = (0, 0, 0) from h]; exact Or.inl ⟨rfl, rfl, rfl⟩
  | succ n ih =>
    rintro y ⟨x, hx, e, hg⟩
    have hy := (lc_PY_ok hc hf (n + 1) y ⟨x, hx, e, hg⟩).2.2
    rcases hg with ⟨z, a, d⟩ | ⟨z, z2, a, d⟩ | ⟨z, a, d, _⟩ | ⟨z, z2, a, d, _⟩
    · rcases ih x hx with ⟨w1, w2, w3⟩ | ⟨w1, _⟩
      · exact Or.inl ⟨a, d, ⟨_, w3, e, Or.inl ⟨rfl, rfl, rfl⟩⟩⟩
      · omega
    · rcases ih x hx with ⟨w1, w2, w3⟩ | ⟨w1, _⟩
      · refine Or.inr ⟨by omega, fun r hr => ⟨_, w3, e, Or.inr (Or.inl ⟨rfl, z2, a, ?_⟩)⟩⟩
        rw [d, Nat.testBit_two_pow] at hr
        exact (of_decide_eq_true hr).symm
      · omega
    · rcases ih x hx with ⟨w1, _⟩ | ⟨w1, w2⟩
      · omega
      · refine Or.inr ⟨by omega, fun r hr => ?_⟩
        have r4 := lc_tb_lt _ hy r hr
        rw [d, lc_hB_t r4] at hr
        obtain ⟨r0, hs, h0⟩ := hr
        exact ⟨_, w2 r0 h0, e, Or.inr (Or.inr (Or.inl ⟨w1, a, r4, hs⟩))⟩
    · rcases ih x hx with ⟨w1, _⟩ | ⟨w1, w2⟩
      · omega
      · refine Or.inr ⟨by omega, fun r hr => ?_⟩
        have r4 := lc_tb_lt _ hy r hr
        rw [d, lc_hB_t r4] at hr
        obtain ⟨r0, hs, h0⟩ := hr
        exact ⟨_, w2 r0 h0, e, Or.inr (Or.inr (Or.inr ⟨w1, z2, a, r4, hs⟩))⟩
theorem lc_T_Y (O : lc_OK c k f s) (hc : 0 < c) (hf : f b < 4) (n : Nat) : lc_T c k f s b g n ↔ ∃ x, lc_PY c k f s b g n x ∧ lc_tgY k f x := by
  constructor
  · rintro ⟨x, hx, t1, t2, t3⟩
    obtain ⟨A, hA, hd⟩ := lc_LS1 O hc hf n x hx
    refine ⟨_, hA, t1, t2, ?_⟩
    rcases hd with ⟨w, _⟩ | ⟨_, w⟩
    · omega
    · show A.testBit (f x.2.1) = true
      rw [t3]; exact w
  · rintro ⟨x, hx, t1, t2, t3⟩
    rcases lc_LS2 O hc hf n x hx with ⟨w, _⟩ | ⟨_, w⟩
    · omega
    · exact ⟨_, w _ t3, t1, t2, rfl⟩
end
/-! the numbers of the states -/
def lc_cX (x : Nat × Nat × Nat) : Nat := if x.1 = 0 then x.2.1 else if x.1 = 1 then 24 + 24 * x.2.2 + x.2.1 else 120 + 24 * x.2.2 + x.2.1
def lc_dX (n : Nat) : Nat × Nat × Nat := if n < 24 then (0, n, 0) else if n < 120 then (1, n % 24, (n - 24) / 24) else (2, n % 24, (n - 120) / 24)
def lc_okX (x : Nat × Nat × Nat) : Prop := x.2.1 < 24 ∧ ((x.1 = 0 ∧ x.2.2 = 0) ∨ ((x.1 = 1 ∨ x.1 = 2) ∧ x.2.2 < 4))
theorem lc_cX_lt {x : Nat × Nat × Nat} (h : lc_okX x) : lc_cX x < 216 := by
  obtain ⟨h1, h2⟩ := h
  unfold lc_cX
  by_cases e : x.1 = 0
  · rw [if_pos e]; omega
  · rw [if_neg e]
    by_cases e1 : x.1 = 1
    · rw [if_pos e1]; omega
    · rw [if_neg e1]; omega
theorem lc_dcX {x : Nat × Nat × Nat} (h : lc_okX x) : lc_dX (lc_cX x) = x := by
  obtain ⟨ph, p, r⟩ := x
  obtain ⟨h1, h2⟩ := h
  dsimp only at h1 h2
  unfold lc_cX lc_dX
  dsimp only
  by_cases e : ph = 0
  · rw [if_pos e, if_pos h1, e]
    have : r = 0 := by omega
    rw [this]
  · rw [if_neg e]
    by_cases e1 : ph = 1
    · rw [if_pos e1, if_neg (by omega), if_pos (by omega), e1]
      rw [show (24 + 24 * r + p) % 24 = p by omega, show (24 + 24 * r + p - 24) / 24 = r by omega]
    · rw [if_neg e1, if_neg (by omega), if_neg (by omega)]
      rw [show (120 + 24 * r + p) % 24 = p by omega, show (120 + 24 * r + p - 120) / 24 = r by omega, show ph = 2 by omega]
theorem lc_cdX {n : Nat} (h : n < 216) : lc_cX (lc_dX n) = n ∧ lc_okX (lc_dX n) := by
  unfold lc_dX
  by_cases e : n < 24
  · rw [if_pos e]; exact ⟨rfl, e, Or.inl ⟨rfl, rfl⟩⟩
  · rw [if_neg e]
    by_cases e1 : n < 120
    · rw [if_pos e1]
      refine ⟨?_, Nat.mod_lt _ (by decide), Or.inr ⟨Or.inl rfl, ?_⟩⟩
      · show 24 + 24 * ((n - 24) / 24) + n % 24 = n
        omega
      · show (n - 24) / 24 < 4
        omega
    · rw [if_neg e1]
      refine ⟨?_, Nat.mod_lt _ (by decide), Or.inr ⟨Or.inr rfl, ?_⟩⟩
      · show 120 + 24 * ((n - 120) / 24) + n % 24 = n
        omega
      · show (n - 120) / 24 < 4
        omega
/-! ===== the breadth-first search ===== -/
def lc_oD (d : Nat) : Int32 := if d = 0 then -1 else nI d
theorem lc_oD_0 : lc_oD 0 = -1 := rfl
theorem lc_oD_s {d : Nat} (h : d ≠ 0) : lc_oD d = nI d := if_neg h
def lc_core (c : Nat) (k f s : Nat → Nat) (b g : Nat) (δ q : Nat → Nat) (i m : Nat) (D Q : Nat → Int32) : Prop :=
  i ≤ m ∧ m = cn (fun n => δ n ≠ 0) 216 ∧ (∀ n, n < 216 → D n = lc_oD (δ n)) ∧ (∀ j, j < m → Q j = nI (q j) ∧ q j < 216 ∧ δ (q j) ≠ 0 ∧ δ (q j) ≤ j + 1) ∧
  (∀ n, n < 216 → δ n ≠ 0 → (∃ j, j < m ∧ q j = n) ∧ lc_PX c k f s b g (δ n - 1) (lc_dX n)) ∧ (∀ j j', j ≤ j' → j' < m → δ (q j) ≤ δ (q j')) ∧ (∀ j, i < m → j < m → δ (q j) ≤ δ (q i) + 1) ∧
  (∀ j, j < i → ¬ lc_tg k f (lc_dX (q j)) ∧ ∀ y, lc_gX c k f s b g (lc_dX (q j)) y → δ (lc_cX y) ≠ 0 ∧ δ (lc_cX y) ≤ δ (q j) + 1) ∧ δ 0 = 1
def lc_A (c : Nat) (k f s : Nat → Nat) (b g i m : Nat) (D Q : Nat → Int32) : Prop := ∃ δ q, lc_core c k f s b g δ q i m D Q
def lc_B (c : Nat) (k f s : Nat → Nat) (b g i s0 d0 m : Nat) (D Q : Nat → Int32) : Prop := ∃ δ q, lc_core c k f s b g δ q i m D Q ∧ i < m ∧ q i = s0 ∧ δ s0 = d0
section
variable {c : Nat} {k f s : Nat → Nat} {b g : Nat} {D Q : Nat → Int32}
/-- every path so far is behind the head, or ends at a state that was looked at -/
theorem lc_bfs (hc : 0 < c) (hc24 : c ≤ 24) (hf : f b < 4) {δ q : Nat → Nat} {i m : Nat} (C : lc_core c k f s b g δ q i m D Q) : ∀ n x, lc_PX c k f s b g n x → (∃ j, j < i ∧ q j = lc_cX x ∧ δ (lc_cX x) ≤ n + 1) ∨ (i < m ∧ δ (q i) ≤ n + 1) := by
  obtain ⟨c1, c2, c3, c4, c5, c6, c7, c8, c9⟩ := C
  have ok : ∀ n x, lc_PX c k f s b g n x → lc_okX x := by
    intro n x h
    obtain ⟨h1, h2⟩ := lc_PX_ok hc hf n x h
    exact ⟨by omega, h2⟩
  have at' : ∀ n x, lc_okX x → δ (lc_cX x) ≠ 0 → δ (lc_cX x) ≤ n + 1 → (∃ j, j < i ∧ q j = lc_cX x ∧ δ (lc_cX x) ≤ n + 1) ∨ (i < m ∧ δ (q i) ≤ n + 1) := by
    intro n x hx h0 hl
    obtain ⟨⟨j, hj, ej⟩, _⟩ := c5 (lc_cX x) (lc_cX_lt hx) h0
    rcases Nat.lt_or_ge j i with z | z
    · exact Or.inl ⟨j, z, ej, hl⟩
    · have := c6 i j z hj
      rw [ej] at this
      exact Or.inr ⟨by omega, by omega⟩
  intro n
  induction n with
  | zero =>
    intro x h
    have e : x = (0, 0, 0) := h
    subst e
    exact at' 0 (0, 0, 0) (ok 0 _ h) (by show δ 0 ≠ 0; omega) (by show δ 0 ≤ 1; omega)
  | succ n ih =>
    rintro y ⟨x, hx, hg⟩
    rcases ih x hx with ⟨j, hj, ej, hl⟩ | ⟨h1, h2⟩
    · have h8 := (c8 j hj).2 y (by rw [ej, lc_dcX (ok n x hx)]; exact hg)
      rw [ej] at h8
      exact at' (n + 1) y (ok (n + 1) y ⟨x, hx, hg⟩) h8.1 (by omega)
    · exact Or.inr ⟨h1, by omega⟩
theorem lc_bfs_end (hc : 0 < c) (hc24 : c ≤ 24) (hf : f b < 4) {i m : Nat} (A : lc_A c k f s b g i m D Q) (h : m ≤ i) (n : Nat) : ¬ lc_T c k f s b g n := by
  obtain ⟨δ, q, C⟩ := A
  rintro ⟨x, hx, ht⟩
  rcases lc_bfs hc hc24 hf C n x hx with ⟨j, hj, ej, _⟩ | ⟨h1, _⟩
  · have := (C.2.2.2.2.2.2.2.1 j hj).1
    rw [ej, lc_dcX ⟨by have := (lc_PX_ok hc hf n x hx).1; omega, (lc_PX_ok hc hf n x hx).2⟩] at this
    exact this ht
  · omega
theorem lc_bfs_min (hc : 0 < c) (hc24 : c ≤ 24) (hf : f b < 4) {i s0 d0 m : Nat} (B : lc_B c k f s b g i s0 d0 m D Q) (n : Nat) (hn : n + 1 < d0) : ¬ lc_T c k f s b g n := by
  obtain ⟨δ, q, C, him, eq, ed⟩ := B
  rintro ⟨x, hx, ht⟩
  rcases lc_bfs hc hc24 hf C n x hx with ⟨j, hj, ej, _⟩ | ⟨_, h1⟩
  · have := (C.2.2.2.2.2.2.2.1 j hj).1
    rw [ej, lc_dcX ⟨by have := (lc_PX_ok hc hf n x hx).1; omega, (lc_PX_ok hc hf n x hx).2⟩] at this
    exact this ht
  · rw [eq, ed] at h1; omega
theorem lc_B_of {i m : Nat} (A : lc_A c k f s b g i m D Q) (h : i < m) : ∃ s0 d0, lc_B c k f s b g i s0 d0 m D Q ∧ Q i = nI s0 ∧ s0 < 216 ∧ D s0 = nI d0 ∧ 1 ≤ d0 ∧ d0 ≤ 216 ∧ lc_PX c k f s b g (d0 - 1) (lc_dX s0) := by
  obtain ⟨δ, q, C⟩ := A
  have C' := C
  obtain ⟨c1, c2, c3, c4, c5, c6, c7, c8, c9⟩ := C
  obtain ⟨h1, h2, h3, h4⟩ := c4 i h
  have hm : m ≤ 216 := by rw [c2]; exact cn_le _ _
  refine ⟨q i, δ (q i), ⟨δ, q, C', h, rfl, rfl⟩, h1, h2, ?_, by omega, by omega, (c5 _ h2 h3).2⟩
  rw [c3 _ h2, lc_oD_s h3]
theorem lc_B_D {i s0 d0 m : Nat} (B : lc_B c k f s b g i s0 d0 m D Q) : D s0 = nI d0 ∧ m ≤ 216 ∧ d0 ≤ 216 ∧ s0 < 216 := by
  obtain ⟨δ, q, ⟨c1, c2, c3, c4, c5, c6, c7, c8, c9⟩, him, eq, ed⟩ := B
  obtain ⟨h1, h2, h3, h4⟩ := c4 i him
  rw [eq] at h2 h3 h4
  have hm : m ≤ 216 := by rw [c2]; exact cn_le _ _
  refine ⟨?_, hm, by rw [← ed]; omega, h2⟩
  rw [c3 _ h2, lc_oD_s h3, ed]
theorem lc_B_adv {i s0 d0 m : Nat} (B : lc_B c k f s b g i s0 d0 m D Q) (ht : ¬ lc_tg k f (lc_dX s0)) (hy : ∀ y, lc_gX c k f s b g (lc_dX s0) y → lc_cX y < 216 ∧ D (lc_cX y) ≠ -1) : lc_A c k f s b g (i + 1) m D Q := by
  obtain ⟨δ, q, ⟨c1, c2, c3, c4, c5, c6, c7, c8, c9⟩, him, eq, ed⟩ := B
  refine ⟨δ, q, by omega, c2, c3, c4, c5, c6, fun j h1 h2 => ?_, fun j hj => ?_, c9⟩
  · have a := c7 j him h2
    have d := c6 i (i + 1) (by omega) h1
    omega
  · rcases Nat.lt_or_ge j i with z | z
    · exact c8 j z
    · have e : j = i := by omega
      subst e
      rw [eq]
      refine ⟨ht, fun y hg => ?_⟩
      obtain ⟨h1, h2⟩ := hy y hg
      have h0 : δ (lc_cX y) ≠ 0 := by
        intro z
        apply h2
        rw [c3 _ h1, z, lc_oD_0]
      obtain ⟨⟨j', hj', ej'⟩, _⟩ := c5 _ h1 h0
      have := c7 j' him hj'
      rw [ej', eq] at this
      exact ⟨h0, this⟩
/-- a state not reached before -/
theorem lc_B_new {i s0 d0 m : Nat} (B : lc_B c k f s b g i s0 d0 m D Q) {y : Nat × Nat × Nat} (hy : lc_okX y) (hg : lc_gX c k f s b g (lc_dX s0) y) (hD : D (lc_cX y) = -1) :
    m < 216 ∧ lc_B c k f s b g i s0 d0 (m + 1) (upd D (lc_cX y) (nI (d0 + 1))) (upd Q m (nI (lc_cX y))) := by
  obtain ⟨δ, q, ⟨c1, c2, c3, c4, c5, c6, c7, c8, c9⟩, him, eq, ed⟩ := B
  have hl := lc_cX_lt hy
  generalize hn0 : lc_cX y = n0 at hD hl
  have hm216 : m ≤ 216 := by rw [c2]; exact cn_le _ _
  have h0 : δ n0 = 0 := by
    apply Classical.byContradiction
    intro z
    obtain ⟨⟨j, hj, ej⟩, _⟩ := c5 n0 hl z
    have := (c4 j hj).2.2.2
    rw [ej] at this
    rw [c3 n0 hl, lc_oD_s z] at hD
    exact lc_neg1 (by omega) hD
  have hlt : m < 216 := by
    rw [c2]
    have h := cn_add (P := fun n => δ n ≠ 0) (a := n0) (fun z => z h0) hl
    have h2 := cn_le (fun n => δ n ≠ 0 ∨ n = n0) 216
    omega
  refine ⟨hlt, ?_⟩
  have hi := c4 i him
  rw [eq] at hi
  have eδ : ∀ n, δ n ≠ 0 → (fun n => if n = n0 then d0 + 1 else δ n) n = δ n := by
    intro n hn
    exact if_neg (fun z => hn (by rw [z]; exact h0))
  have eq' : ∀ j, j < m → (fun j => if j = m then n0 else q j) j = q j := fun j hj => if_neg (by omega)
  have eqm : (fun j => if j = m then n0 else q j) m = n0 := if_pos rfl
  have eδ0 : (fun n => if n = n0 then d0 + 1 else δ n) n0 = d0 + 1 := if_pos rfl
  refine ⟨fun n => if n = n0 then d0 + 1 else δ n, fun j => if j = m then n0 else q j, ⟨by omega, ?_, ?_, ?_, ?_, ?_, ?_, ?_, ?_⟩, by omega, ?_, ?_⟩
  · rw [c2, ← cn_add (P := fun n => δ n ≠ 0) (a := n0) (fun z => z h0) hl]
    refine cn_eq (fun n hn => ?_)
    by_cases e : n = n0
    · simp [e]
    · simp [e]
  · intro n hn
    by_cases e : n = n0
    · subst e
      rw [pk_us, eδ0, lc_oD_s (by omega)]
    · rw [pk_un e]; dsimp only; rw [if_neg e]; exact c3 n hn
  · intro j hj
    by_cases e : j = m
    · subst e
      rw [pk_us, eqm, eδ0]
      exact ⟨rfl, hl, by omega, by omega⟩
    · have hj' : j < m := by omega
      obtain ⟨a1, a2, a3, a4⟩ := c4 j hj'
      rw [pk_un e, eq' j hj', eδ _ a3]
      exact ⟨a1, a2, a3, a4⟩
  · intro n hn hne
    by_cases e : n = n0
    · subst e
      rw [eδ0]
      refine ⟨⟨m, by omega, eqm⟩, ?_⟩
      have hp := (c5 s0 hi.2.1 hi.2.2.1).2
      rw [ed] at hp
      have hd1 : d0 ≠ 0 := by rw [← ed]; exact hi.2.2.1
      rw [show d0 + 1 - 1 = (d0 - 1) + 1 by omega, ← hn0, lc_dcX hy]
      exact ⟨_, hp, hg⟩
    · have hne' : δ n ≠ 0 := by
        intro z; apply hne; dsimp only; rw [if_neg e]; exact z
      obtain ⟨⟨j, hj, ej⟩, hp⟩ := c5 n hn hne'
      rw [eδ n hne']
      exact ⟨⟨j, by omega, by rw [eq' j hj]; exact ej⟩, hp⟩
  · intro j j' h1 h2
    by_cases e : j' = m
    · rw [e, eqm, eδ0]
      by_cases e1 : j = m
      · rw [e1, eqm, eδ0]; exact Nat.le_refl _
      · have hj : j < m := by omega
        have := c7 j him hj
        rw [eq' j hj, eδ _ (c4 j hj).2.2.1]
        rw [eq, ed] at this
        exact this
    · have hj' : j' < m := by omega
      have hj : j < m := by omega
      rw [eq' j hj, eq' j' hj', eδ _ (c4 j hj).2.2.1, eδ _ (c4 j' hj').2.2.1]
      exact c6 j j' h1 hj'
  · intro j _ hj
    rw [eq' i him, eδ _ (c4 i him).2.2.1, eq, ed]
    by_cases e : j = m
    · rw [e, eqm, eδ0]; exact Nat.le_refl _
    · have hj' : j < m := by omega
      have := c7 j him hj'
      rw [eq' j hj', eδ _ (c4 j hj').2.2.1]
      rw [eq, ed] at this
      exact this
  · intro j hj
    have hj' : j < m := by omega
    obtain ⟨a1, a2⟩ := c8 j hj
    rw [eq' j hj', eδ _ (c4 j hj').2.2.1]
    refine ⟨a1, fun y' hy' => ?_⟩
    obtain ⟨a3, a4⟩ := a2 y' hy'
    rw [eδ _ a3]
    exact ⟨a3, a4⟩
  · rw [eδ 0 (by omega)]; exact c9
  · rw [eq' i him]; exact eq
  · rw [eδ _ hi.2.2.1]; exact ed
theorem lc_A_0 (hD : ∀ n, n < 216 → D n = -1) : lc_A c k f s b g 0 1 (upd D 0 1) (upd Q 0 0) := by
  have one : cn (fun n => (fun n => if n = 0 then 1 else 0) n ≠ 0) 216 = 1 := by
    have h := cn_add (P := fun _ => False) (a := 0) (fun z => z) (show 0 < 216 by decide)
    have z : cn (fun _ => False) 216 = 0 := by
      have : ∀ N, cn (fun _ => False) N = 0 := by
        intro N
        induction N with
        | zero => rfl
        | succ N ih => show cn (fun _ => False) N + b01 False = 0; rw [ih, b01_f (fun z => z)]
      exact this 216
    rw [z] at h
    refine Eq.trans ?_ h
    refine cn_eq (fun n hn => ?_)
    by_cases e : n = 0
    · simp [e]
    · simp [e]
  refine ⟨fun n => if n = 0 then 1 else 0, fun _ => 0, by decide, one.symm, ?_, ?_, ?_, ?_, ?_, ?_, rfl⟩
  · intro n hn
    by_cases e : n = 0
    · subst e; rfl
    · rw [pk_un e, hD n hn]; dsimp only; rw [if_neg e]; rfl
  · intro j hj
    have e : j = 0 := by omega
    subst e
    exact ⟨by rw [pk_us]; rfl, by decide, by decide, by decide⟩
  · intro n hn hne
    have e : n = 0 := by
      apply Classical.byContradiction
      intro z; apply hne; dsimp only; rw [if_neg z]
    subst e
    exact ⟨⟨0, by decide, rfl⟩, rfl⟩
  · intro j j' _ _; exact Nat.le_refl _
  · intro j _ _; exact Nat.le_succ _
  · intro j hj; exact absurd hj (Nat.not_lt_zero j)
end
end
section
/-! ===== the component's search for a shortest path ===== -/
theorem lc_i24 (z q t : Nat) : (nI z + (24 * nI q)) + nI t = nI (z + 24 * q + t) := by
  rw [show (24 : Int32) = nI 24 from rfl, pk_mul, nI_add, nI_add]
section
variable {c : Nat} {k f s : Nat → Nat} {st gr qd : Int32} {K F S R H E WB WA HN D Q : Nat → Int32} {b g : Nat}
theorem lx_holdersAfter (V : lc_V c k f s K F S) {p r : Nat} (hp : p < c) (hr : r < 4) {post : Int32 → Prop} (h : ∀ w, (∀ q, q < 4 → (bt w q = true ↔ lc_src k f s p q = some r)) → post w) : wpX_holdersAfter post (nI c, st, gr, qd, K, F, S, R, H, E, WB, WA, HN, D, Q) (nI p) (nI r) := by
  obtain ⟨hp24, hcl, hin, hK, h11, hF, hf4, hS⟩ := lc_Vp V hp
  have h90 : ∀ z0 : Int32, (z0 = 1 ∧ (k p = 3 ∨ k p = 4 ∨ k p = 8 ∨ ((k p = 5 ∨ k p = 6) ∧ s p ≠ r))) ∨ (z0 = 0 ∧ ¬ (k p = 3 ∨ k p = 4 ∨ k p = 8) ∧ ¬ (k p = 5 ∨ k p = 6)) → wX_holdersAfter_90 post (nI p) (nI r) ((1 : Int32) <<< (nI r &&& 31)) z0 (nI c) st gr qd K F S R H E WB WA HN D Q := by
    intro z0 hz
    unfold wX_holdersAfter_90
    rcases hz with ⟨z, hz⟩ | ⟨z, hz1, hz2⟩ <;> subst z
    · refine br_f (by decide) ⟨hin, ?_⟩
      have f4 := hf4 (by omega)
      refine pk_eq (f p) r (fun e => h 0 (fun q hq => ?_)) (fun e => h _ (fun q hq => ?_)) (hF (by omega)).1
      · rw [b_0]
        by_cases h3 : k p = 3 ∨ k p = 4 ∨ k p = 8
        · rw [lc_src1 h3]
          by_cases w : q = f p
          · simp [w]
          · rw [if_neg w]; simp; omega
        · rw [lc_src3 (by omega)]
          by_cases w : q = f p
          · rw [if_pos w]; simp; omega
          · rw [if_neg w]
            by_cases w2 : k p = 5 ∧ q = s p
            · simp [w2]
            · rw [if_neg w2]; simp; omega
      · rw [lc_one (by omega) (by omega), decide_eq_true_iff]
        by_cases h3 : k p = 3 ∨ k p = 4 ∨ k p = 8
        · rw [lc_src1 h3]
          by_cases w : q = f p
          · rw [if_pos w]; simp; omega
          · rw [if_neg w]; simp
        · rw [lc_src3 (by omega)]
          by_cases w : q = f p
          · rw [if_pos w]; simp; omega
          · rw [if_neg w]
            by_cases w2 : k p = 5 ∧ q = s p
            · rw [if_pos w2]; simp; omega
            · rw [if_neg w2]; simp
    · refine br_t rfl (h _ (fun q hq => ?_))
      rw [lc_one (by omega) (by omega), decide_eq_true_iff, lc_src2 hz1 hz2]
      simp
  have h65 : ((k p = 5 ∨ k p = 6) → s p ≠ r) → wX_holdersAfter_65 post (nI p) (nI r) ((1 : Int32) <<< (nI r &&& 31)) (nI (k p)) (nI c) st gr qd K F S R H E WB WA HN D Q := by
    intro hs
    have h78 : (k p < 3 ∨ 6 < k p) → wX_holdersAfter_78 post (nI p) (nI r) ((1 : Int32) <<< (nI r &&& 31)) (nI (k p)) (nI c) st gr qd K F S R H E WB WA HN D Q := by
      intro hk
      unfold wX_holdersAfter_78
      refine pk_eq (k p) 8 (fun e => ?_) (fun e => h90 0 (Or.inr ⟨rfl, by omega, by omega⟩))
      unfold wX_holdersAfter_85
      exact h90 1 (Or.inl ⟨rfl, by omega⟩)
    unfold wX_holdersAfter_65
    refine pk_lt (k p) 3 (fun e => h78 (Or.inl e)) (fun e => pk_le (k p) 6 (fun e2 => ?_) (fun e2 => h78 (Or.inr e2)))
    unfold wX_holdersAfter_85
    refine h90 1 (Or.inl ⟨rfl, ?_⟩)
    by_cases z : k p = 5 ∨ k p = 6
    · exact Or.inr (Or.inr (Or.inr ⟨z, hs z⟩))
    · omega
  have h37 : (k p = 5 → s p ≠ r) → wX_holdersAfter_37 post (nI p) (nI r) ((1 : Int32) <<< (nI r &&& 31)) (nI (k p)) (nI c) st gr qd K F S R H E WB WA HN D Q := by
    intro h5
    unfold wX_holdersAfter_37
    refine pk_eq (k p) 6 (fun e => ⟨hin, ?_⟩) (fun e => h65 (fun z => h5 (by omega)))
    obtain ⟨eS, s4⟩ := hS (by omega) (by omega)
    have f4 := hf4 (by omega)
    refine pk_eq (s p) r (fun e2 => ⟨hin, ?_⟩) (fun e2 => h65 (fun _ => e2)) eS
    rw [(hF (by omega)).1]
    refine h _ (fun q hq => ?_)
    rw [b_or, lc_one (by omega) (by omega), lc_one (by omega) (by omega), Bool.or_eq_true, decide_eq_true_iff, decide_eq_true_iff, lc_src3 (Or.inr e)]
    by_cases w : q = f p
    · rw [if_pos w]; simp [w, e2]
    · rw [if_neg w, if_neg (by omega)]; simp [w]
  unfold wpX_holdersAfter
  dsimp only
  refine nm_e ⟨hin, nm_r hK (pk_eq (k p) 5 (fun e => ⟨hin, ?_⟩) (fun e => h37 (fun z => absurd z e)))⟩
  obtain ⟨eS, s4⟩ := hS (by omega) (by omega)
  have f4 := hf4 (by omega)
  refine pk_eq (s p) r (fun e2 => ⟨hin, ?_⟩) (fun e2 => h37 (fun _ => e2)) eS
  rw [(hF (by omega)).1]
  refine h _ (fun q hq => ?_)
  rw [lc_one (by omega) (by omega), decide_eq_true_iff, lc_src3 (Or.inl e)]
  by_cases w : q = f p
  · rw [if_pos w]; simp [w, e2]
  · rw [if_neg w]
    by_cases w2 : q = s p
    · rw [if_pos ⟨e, w2⟩]; simp [w]
    · rw [if_neg (fun z => w2 z.2)]; simp [w]; omega
theorem lx_reachB {i s0 d0 m : Nat} (B : lc_B c k f s b g i s0 d0 m D Q) {y : Nat × Nat × Nat} (hy : lc_okX y) (hg : lc_gX c k f s b g (lc_dX s0) y) {x d : Int32} (ex : x = nI (lc_cX y)) (ed : d = nI (d0 + 1)) {post : SX → Prop}
    (h : ∀ m' D' Q', lc_B c k f s b g i s0 d0 m' D' Q' → (∀ n, D n ≠ -1 → D' n ≠ -1) → D' (lc_cX y) ≠ -1 → post (nI c, st, gr, nI m', K, F, S, R, H, E, WB, WA, HN, D', Q')) : wpX_reach post (nI c, st, gr, nI m, K, F, S, R, H, E, WB, WA, HN, D, Q) x d := by
  subst ex ed
  have hl := lc_cX_lt hy
  obtain ⟨-, hm, hd, -⟩ := lc_B_D B
  have hin : vp_in (nI (lc_cX y)) 216 := vp_in_nI hl (by decide)
  unfold wpX_reach
  dsimp only
  rw [nI_clamp (show lc_cX y < 2 ^ 31 by omega), nI_clamp (show m < 2 ^ 31 by omega)]
  refine ⟨hin, br_c (fun z => ?_) (fun z => h m D Q B (fun _ w => w) z)⟩
  obtain ⟨hlt, B'⟩ := lc_B_new B hy hg z
  refine ⟨hin, nm_e ⟨vp_in_nI hlt (by decide), nm_e (nm_r (nI_1 m) (h (m + 1) _ _ B' (fun n hn => ?_) ?_))⟩⟩
  · by_cases e : n = lc_cX y
    · rw [e, pk_us]; exact lc_neg1 (by omega)
    · rw [pk_un e]; exact hn
  · rw [pk_us]; exact lc_neg1 (by omega)
theorem lx_stepBefore (V : lc_V c k f s K F S) (hb : b < c) (hm : lc_mk k b) {i s0 d0 m : Nat} (B : lc_B c k f s b g i s0 d0 m D Q) (hs : s0 < c) {post : SX → Prop}
    (h : ∀ m' D' Q', lc_B c k f s b g i s0 d0 m' D' Q' → (∀ y, lc_gX c k f s b g (lc_dX s0) y → lc_cX y < 216 ∧ D' (lc_cX y) ≠ -1) → post (nI c, st, gr, nI m', K, F, S, R, H, E, WB, WA, HN, D', Q')) : wpX_stepBefore post (nI c, st, gr, nI m, K, F, S, R, H, E, WB, WA, HN, D, Q) (nI s0) (nI b) := by
  have hc := V.1
  obtain ⟨hb24, hcl, hin, hK, h11, hF, hf4, hS⟩ := lc_Vp V hb
  have f4 := hf4 (by unfold lc_mk at hm; omega)
  have eF := (hF (by unfold lc_mk at hm; omega)).1
  have ed : lc_dX s0 = (0, s0, 0) := by unfold lc_dX; rw [if_pos (by omega)]
  obtain ⟨eD, -⟩ := lc_B_D B
  unfold wpX_stepBefore
  dsimp only
  rw [nI_clamp (show s0 < 2 ^ 31 by omega), eD]
  refine ⟨vp_in_nI (by omega) (by decide), nm_r (nI_1 d0) ⟨3, ?_⟩⟩
  have step : ∀ n j m D Q, j < 2 → lc_B c k f s b g i s0 d0 m D Q → (∀ m' D' Q', lc_B c k f s b g i s0 d0 m' D' Q' → (∀ n, D n ≠ -1 → D' n ≠ -1) → (∀ q, lc_nx c k f s0 j = some q → D' (lc_cX (0, q, 0)) ≠ -1 ∧ (s0 = b → D' (lc_cX (1, q, f b)) ≠ -1)) → wX_stepBefore_12 post (nI s0) (nI b) (nI (d0 + 1)) n (nI (j + 1)) (nI c) st gr (nI m') K F S R H E WB WA HN D' Q') → wX_stepBefore_12 post (nI s0) (nI b) (nI (d0 + 1)) (n + 1) (nI j) (nI c) st gr (nI m) K F S R H E WB WA HN D Q := by
    intro n j m D Q hj B hk
    refine br_f (nI_ge (b := 2) hj (by decide)) ?_
    refine lx_behind V hs hj ?_
    cases hn : lc_nx c k f s0 j with
    | none => exact br_t rfl (nm_r (nI_1 j) (hk m D Q B (fun _ w => w) (fun q e => by rw [hn] at e; cases e)))
    | some q =>
      have hq := lc_nx_lt hn
      have e := lc_E_i hs hj hn
      refine br_f (lc_neg1 (by omega)) ?_
      refine lx_reachB B (y := (0, q, 0)) ⟨by show q < 24; omega, Or.inl ⟨rfl, rfl⟩⟩ (by rw [ed]; exact ⟨e, Or.inl ⟨rfl, rfl, rfl⟩⟩) rfl rfl (fun m1 D1 Q1 B1 mo1 a1 => ?_)
      refine pk_eq s0 b (fun es => ⟨hin, ?_⟩) (fun es => nm_r (nI_1 j) (hk m1 D1 Q1 B1 mo1 (fun q' e' => by rw [hn] at e'; cases e'; exact ⟨a1, fun z => absurd z es⟩)))
      refine lx_reachB B1 (y := (1, q, f b)) ⟨by show q < 24; omega, Or.inr ⟨Or.inl rfl, f4⟩⟩ (by rw [ed]; exact ⟨e, Or.inr (Or.inl ⟨rfl, es, rfl, rfl⟩)⟩) (by rw [eF]; exact lc_i24 24 (f b) q) rfl (fun m2 D2 Q2 B2 mo2 a2 => ?_)
      exact nm_r (nI_1 j) (hk m2 D2 Q2 B2 (fun n w => mo2 n (mo1 n w)) (fun q' e' => by rw [hn] at e'; cases e'; exact ⟨mo2 _ a1, fun _ => a2⟩))
  refine step 2 0 m D Q (by decide) B (fun m1 D1 Q1 B1 mo1 a1 => step 1 1 m1 D1 Q1 (by decide) B1 (fun m2 D2 Q2 B2 mo2 a2 => ?_))
  refine br_t (nI_le (a := 2) (b := 2) (by decide) (by decide)) (h m2 D2 Q2 B2 ?_)
  rintro ⟨ph, q, r⟩ hg
  rw [ed] at hg
  obtain ⟨e, hg⟩ := hg
  dsimp only at e hg
  have hq := lc_E_r e
  rcases hg with ⟨_, e1, e2⟩ | ⟨_, es, e1, e2⟩ | ⟨z, _⟩ | ⟨z, _⟩
  · subst e1 e2
    refine ⟨lc_cX_lt ⟨by show q < 24; omega, Or.inl ⟨rfl, rfl⟩⟩, ?_⟩
    rcases e.2 with w | w
    · exact mo2 _ (a1 q w).1
    · exact (a2 q w).1
  · subst e1 e2
    refine ⟨lc_cX_lt ⟨by show q < 24; omega, Or.inr ⟨Or.inl rfl, f4⟩⟩, ?_⟩
    rcases e.2 with w | w
    · exact mo2 _ ((a1 q w).2 es)
    · exact (a2 q w).2 es
  · omega
  · omega
theorem lx_stepTo {i s0 d0 m : Nat} (B : lc_B c k f s b g i s0 d0 m D Q) {ph q to : Nat} {fl d : Int32} (hfl : (fl = 0 ∧ ph = 1) ∨ (fl = 1 ∧ ph = 2)) (hq : q < 4) (hto : to < 24) (hg : lc_gX c k f s b g (lc_dX s0) (ph, to, q)) (ed : d = nI (d0 + 1)) {post : SX → Prop}
    (h : ∀ m' D' Q', lc_B c k f s b g i s0 d0 m' D' Q' → (∀ n, D n ≠ -1 → D' n ≠ -1) → D' (lc_cX (ph, to, q)) ≠ -1 → post (nI c, st, gr, nI m', K, F, S, R, H, E, WB, WA, HN, D', Q')) : wpX_stepTo post (nI c, st, gr, nI m, K, F, S, R, H, E, WB, WA, HN, D, Q) fl (nI q) (nI to) d := by
  unfold wpX_stepTo
  dsimp only
  rcases hfl with ⟨e1, e2⟩ | ⟨e1, e2⟩ <;> subst e1 e2
  · refine br_t rfl ?_
    unfold wX_stepTo_12
    exact lx_reachB B (y := (1, to, q)) ⟨hto, Or.inr ⟨Or.inl rfl, hq⟩⟩ hg (lc_i24 24 q to) ed h
  · refine br_f (by decide) ?_
    unfold wX_stepTo_12
    exact lx_reachB B (y := (2, to, q)) ⟨hto, Or.inr ⟨Or.inr rfl, hq⟩⟩ hg (lc_i24 120 q to) ed h
theorem lx_stepHeld (V : lc_V c k f s K F S) (hgc : g < c) {i s0 d0 m ph p r : Nat} (B : lc_B c k f s b g i s0 d0 m D Q) (hs : 24 ≤ s0) (es : lc_dX s0 = (ph, p, r)) (hp : p < c) {post : SX → Prop}
    (h : ∀ m' D' Q', lc_B c k f s b g i s0 d0 m' D' Q' → (∀ y, lc_gX c k f s b g (lc_dX s0) y → lc_cX y < 216 ∧ D' (lc_cX y) ≠ -1) → post (nI c, st, gr, nI m', K, F, S, R, H, E, WB, WA, HN, D', Q')) : wpX_stepHeld post (nI c, st, gr, nI m, K, F, S, R, H, E, WB, WA, HN, D, Q) (nI s0) (nI g) := by
  have hc := V.1
  obtain ⟨-, -, -, hs216⟩ := lc_B_D B
  have hph : (s0 < 120 ∧ ph = 1 ∧ p = s0 % 24 ∧ r = (s0 - 24) / 24) ∨ (120 ≤ s0 ∧ ph = 2 ∧ p = s0 % 24 ∧ r = (s0 - 120) / 24) := by
    unfold lc_dX at es
    rw [if_neg (by omega)] at es
    by_cases z : s0 < 120
    · rw [if_pos z] at es; cases es; exact Or.inl ⟨z, rfl, rfl, rfl⟩
    · rw [if_neg z] at es; cases es; exact Or.inr ⟨by omega, rfl, rfl, rfl⟩
  have r4 : r < 4 := by omega
  have er : r = (s0 - 24) / 24 % 4 := by omega
  have ep : p = s0 % 24 := by omega
  have h11 : ∀ fl : Int32, (fl = 0 ∧ ph = 1) ∨ (fl = 1 ∧ ph = 2) → wX_stepHeld_11 post (nI s0) (nI g) fl (nI c) st gr (nI m) K F S R H E WB WA HN D Q := by
    intro fl hfl
    unfold wX_stepHeld_11
    have e1 : ((nI s0 - 24) / 24) - ((nI s0 - 24) / 24) / 4 * 4 = nI r := by
      rw [show (24 : Int32) = nI 24 from rfl, show (4 : Int32) = nI 4 from rfl, pk_sub hs, pk_div (by omega) (by decide) (by decide), pk_rem (by omega) (by decide) (by decide), er]
    have e2 : nI s0 - nI s0 / 24 * 24 = nI p := by
      rw [show (24 : Int32) = nI 24 from rfl, pk_rem (by omega) (by decide) (by decide), ep]
    refine ⟨by decide, by decide, nm_r e1 ⟨by decide, nm_r e2 ?_⟩⟩
    refine lx_holdersAfter V hp r4 (fun w hw => ⟨3, ?_⟩)
    -- one successor point
    have inner : ∀ n j t, lc_nx c k f p j = some t → j < 2 → ∀ e q m D Q, q + e = 4 → lc_B c k f s b g i s0 d0 m D Q → (∀ q', q' < q → lc_src k f s p q' = some r → D (lc_cX (ph, t, q')) ≠ -1 ∧ (p = g → D (lc_cX (2, t, q')) ≠ -1)) →
        (∀ m' D' Q', lc_B c k f s b g i s0 d0 m' D' Q' → (∀ n, D n ≠ -1 → D' n ≠ -1) → (∀ q', q' < 4 → lc_src k f s p q' = some r → D' (lc_cX (ph, t, q')) ≠ -1 ∧ (p = g → D' (lc_cX (2, t, q')) ≠ -1)) → wX_stepHeld_42 post (nI s0) (nI g) fl (nI p) w n (nI (j + 1)) (nI c) st gr (nI m') K F S R H E WB WA HN D' Q') →
        wX_stepHeld_61 post (wX_stepHeld_42 post (nI s0) (nI g) fl (nI p) w n) (nI s0) (nI g) fl (nI p) w (nI j) (nI t) (e + 1) (nI q) (nI c) st gr (nI m) K F S R H E WB WA HN D Q := by
      intro n j t ht hj e
      have htc := lc_nx_lt ht
      have hE := lc_E_i hp hj ht
      induction e with
      | zero =>
        intro q m D Q hq B ha hk
        have e4 : q = 4 := by omega
        subst e4
        exact br_t (nI_le (a := 4) (b := 4) (by decide) (by decide)) (nm_r (nI_1 j) (hk m D Q B (fun _ z => z) ha))
      | succ e ih =>
        intro q m D Q hq B ha hk
        have q4 : q < 4 := by omega
        obtain ⟨eD, -⟩ := lc_B_D B
        refine br_f (nI_ge (b := 4) q4 (by decide)) (br_f (lc_neg1 (by omega)) ?_)
        rw [lc_bt1 (by omega), hw q q4]
        have hin : vp_in (nI s0) 216 := vp_in_nI hs216 (by decide)
        refine br_c (fun z => ⟨hin, ?_⟩) (fun z => ?_)
        · rw [nI_clamp (show s0 < 2 ^ 31 by omega), eD]
          have h1 : 1 ≤ ph := by omega
          refine lx_stepTo B hfl q4 (show t < 24 by omega) (by rw [es]; exact ⟨hE, Or.inr (Or.inr (Or.inl ⟨h1, rfl, q4, z⟩))⟩) (nI_1 d0) (fun m1 D1 Q1 B1 mo1 a1 => ?_)
          obtain ⟨eD1, -⟩ := lc_B_D B1
          refine pk_eq p g (fun eg => ⟨hin, ?_⟩) (fun eg => nm_r (nI_1 q) (ih (q + 1) m1 D1 Q1 (by omega) B1 (fun q' hq' hs' => ?_) (fun m' D' Q' B' mo' a' => hk m' D' Q' B' (fun n w => mo' n (mo1 n w)) a')))
          · dsimp only
            rw [eD1]
            refine lx_stepTo B1 (Or.inr ⟨rfl, rfl⟩) q4 (show t < 24 by omega) (by rw [es]; exact ⟨hE, Or.inr (Or.inr (Or.inr ⟨h1, eg, rfl, q4, z⟩))⟩) (nI_1 d0) (fun m2 D2 Q2 B2 mo2 a2 => ?_)
            refine nm_r (nI_1 q) (ih (q + 1) m2 D2 Q2 (by omega) B2 (fun q' hq' hs' => ?_) (fun m' D' Q' B' mo' a' => hk m' D' Q' B' (fun n w => mo' n (mo2 n (mo1 n w))) a'))
            by_cases e' : q' = q
            · rw [e']; exact ⟨mo2 _ a1, fun _ => a2⟩
            · obtain ⟨x1, x2⟩ := ha q' (by omega) hs'
              exact ⟨mo2 _ (mo1 _ x1), fun y => mo2 _ (mo1 _ (x2 y))⟩
          · by_cases e' : q' = q
            · rw [e']; exact ⟨a1, fun y => absurd y eg⟩
            · obtain ⟨x1, x2⟩ := ha q' (by omega) hs'
              exact ⟨mo1 _ x1, fun y => mo1 _ (x2 y)⟩
        · refine nm_r (nI_1 q) (ih (q + 1) m D Q (by omega) B (fun q' hq' hs' => ?_) hk)
          by_cases e' : q' = q
          · rw [e'] at hs'; exact absurd hs' z
          · exact ha q' (by omega) hs'
    have step : ∀ n j m D Q, j < 2 → lc_B c k f s b g i s0 d0 m D Q → (∀ m' D' Q', lc_B c k f s b g i s0 d0 m' D' Q' → (∀ n, D n ≠ -1 → D' n ≠ -1) → (∀ t, lc_nx c k f p j = some t → ∀ q', q' < 4 → lc_src k f s p q' = some r → D' (lc_cX (ph, t, q')) ≠ -1 ∧ (p = g → D' (lc_cX (2, t, q')) ≠ -1)) → wX_stepHeld_42 post (nI s0) (nI g) fl (nI p) w n (nI (j + 1)) (nI c) st gr (nI m') K F S R H E WB WA HN D' Q') → wX_stepHeld_42 post (nI s0) (nI g) fl (nI p) w (n + 1) (nI j) (nI c) st gr (nI m) K F S R H E WB WA HN D Q := by
      intro n j m D Q hj B hk
      refine br_f (nI_ge (b := 2) hj (by decide)) ?_
      refine lx_behind V hp hj ?_
      cases hn : lc_nx c k f p j with
      | none => exact ⟨1, br_f (by decide) (br_t rfl (nm_r (nI_1 j) (hk m D Q B (fun _ w => w) (fun t e => by rw [hn] at e; cases e))))⟩
      | some t =>
        refine ⟨5, inner n j t hn hj 4 0 m D Q rfl B (fun q' hq' => absurd hq' (Nat.not_lt_zero q')) (fun m' D' Q' B' mo' a' => hk m' D' Q' B' mo' (fun t' e' => ?_))⟩
        rw [hn] at e'; cases e'; exact a'
    refine step 2 0 m D Q (by decide) B (fun m1 D1 Q1 B1 mo1 a1 => step 1 1 m1 D1 Q1 (by decide) B1 (fun m2 D2 Q2 B2 mo2 a2 => ?_))
    refine br_t (nI_le (a := 2) (b := 2) (by decide) (by decide)) (h m2 D2 Q2 B2 ?_)
    rintro ⟨ph', q, r'⟩ hg
    rw [es] at hg
    obtain ⟨e, hg⟩ := hg
    dsimp only at e hg
    have hq := lc_E_r e
    have both : r' < 4 → lc_src k f s p r' = some r → D2 (lc_cX (ph, q, r')) ≠ -1 ∧ (p = g → D2 (lc_cX (2, q, r')) ≠ -1) := by
      intro h1 h2
      rcases e.2 with w | w
      · obtain ⟨x1, x2⟩ := a1 q w r' h1 h2
        exact ⟨mo2 _ x1, fun y => mo2 _ (x2 y)⟩
      · exact a2 q w r' h1 h2
    rcases hg with ⟨z, _⟩ | ⟨z, _⟩ | ⟨_, e1, h4, hs'⟩ | ⟨_, eg, e1, h4, hs'⟩
    · omega
    · omega
    · rw [e1]
      exact ⟨lc_cX_lt ⟨by show q < 24; omega, Or.inr ⟨by show ph = 1 ∨ ph = 2; omega, h4⟩⟩, (both h4 hs').1⟩
    · rw [e1]
      exact ⟨lc_cX_lt ⟨by show q < 24; omega, Or.inr ⟨Or.inr rfl, h4⟩⟩, (both h4 hs').2 eg⟩
  unfold wpX_stepHeld
  dsimp only
  exact pk_lt s0 120 (fun z => h11 0 (Or.inl ⟨rfl, by omega⟩)) (fun z => h11 1 (Or.inr ⟨rfl, by omega⟩))
theorem lx_shown65 (V : lc_V c k f s K F S) (hb : b < c) (hg : g < c) (hm : lc_mk k b) {post : Int32 → SX → Prop}
    (h1 : ∀ n, n < 216 → lc_T c k f s b g n → (∀ j, j < n → ¬ lc_T c k f s b g j) → ∀ qd' D' Q', post (nI (n + 1)) (nI c, st, gr, qd', K, F, S, R, H, E, WB, WA, HN, D', Q')) (h0 : (∀ n, ¬ lc_T c k f s b g n) → ∀ qd' D' Q', post (-3) (nI c, st, gr, qd', K, F, S, R, H, E, WB, WA, HN, D', Q')) :
    ∀ n i m D Q, 216 < n + i → lc_A c k f s b g i m D Q → wX_shown_65 post (nI b) (nI g) n (nI i) (nI c) st gr (nI m) K F S R H E WB WA HN D Q := by
  have hc := V.1
  have O := lc_V_OK V
  have f4 : f b < 4 := (O.2 b hb).2.1 (by unfold lc_mk at hm; omega)
  have c0 : 0 < c := by omega
  intro n
  induction n with
  | zero =>
    intro i m D Q hi A
    obtain ⟨δ, q, C⟩ := A
    have h2 := C.1
    have h3 := C.2.1
    have h4 := cn_le (fun n => δ n ≠ 0) 216
    omega
  | succ n ih =>
    intro i m D Q hi A
    have hm216 : m ≤ 216 := by
      obtain ⟨δ, q, C⟩ := A
      rw [C.2.1]; exact cn_le _ _
    have him : i ≤ m := by
      obtain ⟨δ, q, C⟩ := A
      exact C.1
    refine pk_le m i (fun e => h0 (lc_bfs_end c0 hc f4 A e) (nI m) D Q) (fun e => ?_)
    obtain ⟨s0, d0, B, eQ, hs, eD, hd1, hd2, hP⟩ := lc_B_of A e
    obtain ⟨hpc, hok⟩ := lc_PX_ok c0 f4 _ _ hP
    rw [nI_clamp (show i < 2 ^ 31 by omega)]
    refine ⟨vp_in_nI (by omega) (by decide), nm_r eQ ?_⟩
    have go : ¬ lc_tg k f (lc_dX s0) → wX_shown_132 post (wX_shown_65 post (nI b) (nI g) n) (nI b) (nI g) (nI i) (nI s0) (nI c) st gr (nI m) K F S R H E WB WA HN D Q := by
      intro ht
      have next : ∀ m' D' Q', lc_B c k f s b g i s0 d0 m' D' Q' → (∀ y, lc_gX c k f s b g (lc_dX s0) y → lc_cX y < 216 ∧ D' (lc_cX y) ≠ -1) → wX_shown_65 post (nI b) (nI g) n (nI (i + 1)) (nI c) st gr (nI m') K F S R H E WB WA HN D' Q' := by
        intro m' D' Q' B' hy
        exact ih (i + 1) m' D' Q' (by omega) (lc_B_adv B' ht hy)
      unfold wX_shown_132
      refine pk_le 24 s0 (fun z => ?_) (fun z => ?_)
      · exact lx_stepHeld V hg B z (ph := (lc_dX s0).1) (p := (lc_dX s0).2.1) (r := (lc_dX s0).2.2) rfl hpc (fun m' D' Q' B' hy => nm_r (nI_1 i) (next m' D' Q' B' hy))
      · have e0 : lc_dX s0 = (0, s0, 0) := by unfold lc_dX; rw [if_pos z]
        rw [e0] at hpc
        exact lx_stepBefore V hb hm B hpc (fun m' D' Q' B' hy => nm_r (nI_1 i) (next m' D' Q' B' hy))
    refine pk_lt s0 120 (fun z => go ?_) (fun z => ⟨by decide, ?_⟩)
    · intro ht
      have := ht.1
      unfold lc_dX at this
      by_cases w : s0 < 24
      · rw [if_pos w] at this; cases this
      · rw [if_neg w, if_pos z] at this; cases this
    · have e0 : lc_dX s0 = (2, s0 % 24, (s0 - 120) / 24) := by unfold lc_dX; rw [if_neg (by omega), if_neg (by omega)]
      have e2 : nI s0 - nI s0 / 24 * 24 = nI (s0 % 24) := by
        rw [show (24 : Int32) = nI 24 from rfl, pk_rem (by omega) (by decide) (by decide)]
      have e3 : (nI s0 - 120) / 24 = nI ((s0 - 120) / 24) := by
        rw [show (24 : Int32) = nI 24 from rfl, show (120 : Int32) = nI 120 from rfl, pk_sub z, pk_div (by omega) (by decide) (by decide)]
      have hpc' : s0 % 24 < c := by rw [e0] at hpc; exact hpc
      obtain ⟨hp24, hcl, hin, hK, h11, hF, hf4, hS⟩ := lc_Vp V hpc'
      rw [e2, e3]
      refine ⟨hin, pk_eq (k (s0 % 24)) 7 (fun e7 => ⟨by decide, hin, by decide, ?_⟩) (fun e7 => go (fun ht => e7 (by have := ht.2.1; rw [e0] at this; exact this))) hK⟩
      have f4' := hf4 (by omega)
      refine pk_eq (f (s0 % 24)) ((s0 - 120) / 24) (fun ef => ⟨vp_in_nI hs (by decide), ?_⟩) (fun ef => go (fun ht => ef (by have := ht.2.2; rw [e0] at this; exact this))) (hF (by omega)).1
      rw [nI_clamp (show s0 < 2 ^ 31 by omega), eD]
      have := h1 (d0 - 1) (by omega) ⟨_, hP, by rw [e0]; exact ⟨rfl, e7, ef⟩⟩ (fun j hj => lc_bfs_min c0 hc f4 B j (by omega)) (nI m) D Q
      rw [show d0 - 1 + 1 = d0 by omega] at this
      exact this
theorem lx_shown32 (V : lc_V c k f s K F S) (hb : b < c) (hg : g < c) (hm : lc_mk k b) {post : Int32 → SX → Prop}
    (h1 : ∀ n, n < 216 → lc_T c k f s b g n → (∀ j, j < n → ¬ lc_T c k f s b g j) → ∀ qd' D' Q', post (nI (n + 1)) (nI c, st, gr, qd', K, F, S, R, H, E, WB, WA, HN, D', Q')) (h0 : (∀ n, ¬ lc_T c k f s b g n) → ∀ qd' D' Q', post (-3) (nI c, st, gr, qd', K, F, S, R, H, E, WB, WA, HN, D', Q')) : ∃ n, wX_shown_32 post (nI b) (nI g) (nI c) st gr qd n 0 K F S R H E WB WA HN D Q := by
  have loop : ∀ d n D, n + d = 216 → (∀ j, j < n → D j = -1) → wX_shown_32 post (nI b) (nI g) (nI c) st gr qd (d + 1) (nI n) K F S R H E WB WA HN D Q := by
    intro d
    induction d with
    | zero =>
      intro n D hn hD
      have e : n = 216 := by omega
      subst e
      refine br_t (nI_le (a := 216) (b := 216) (by decide) (by decide)) ?_
      unfold wpX_reach
      dsimp only
      have z0 : (0 : Int32).toNatClampNeg = 0 := by decide
      have i0 : vp_in 0 216 := vp_in_nI (n := 0) (by decide) (by decide)
      rw [z0]
      refine ⟨i0, br_t (hD 0 (by decide)) ⟨i0, nm_e ⟨i0, nm_e (nm_r (e' := nI 1) rfl ⟨217, ?_⟩)⟩⟩⟩
      exact lx_shown65 V hb hg hm h1 h0 217 0 1 _ _ (by decide) (lc_A_0 hD)
    | succ d ih =>
      intro n D hn hD
      refine br_f (nI_ge (b := 216) (by omega) (by decide)) ⟨vp_in_nI (by omega) (by decide), nm_e (nm_r (nI_1 n) (ih (n + 1) _ (by omega) (fun j hj => ?_)))⟩
      rw [nI_clamp (show n < 2 ^ 31 by omega)]
      by_cases e : j = n
      · rw [e, pk_us]
      · rw [pk_un e]; exact hD j (by omega)
  exact ⟨217, loop 216 0 D rfl (fun j hj => absurd hj (Nat.not_lt_zero j))⟩
end
end
section
/-! ===== the reference's shortest paths ===== -/
def lc_sm (d : Nat → Nat) : Nat → Nat
  | 0 => 0
  | n + 1 => lc_sm d n + d n
theorem lc_sm_le {d d' : Nat → Nat} (h : ∀ n, d' n ≤ d n) : ∀ N, lc_sm d' N ≤ lc_sm d N
  | 0 => Nat.le_refl _
  | N + 1 => by
    have a := lc_sm_le h N
    have b := h N
    simp only [lc_sm]; omega
theorem lc_sm_lt {d d' : Nat → Nat} (h : ∀ n, d' n ≤ d n) {m : Nat} (hm : d' m < d m) : ∀ N, m < N → lc_sm d' N < lc_sm d N
  | 0, z => by omega
  | N + 1, z => by
    simp only [lc_sm]
    have b := h N
    rcases Nat.lt_or_ge m N with y | y
    · have a := lc_sm_lt h hm N y
      omega
    · have e : m = N := by omega
      subst e
      have a := lc_sm_le h m
      omega
def lc_dY (n : Nat) : Nat × Nat × Nat := (n / 384, n % 384 / 16, n % 16)
def lc_cY (x : Nat × Nat × Nat) : Nat := 384 * x.1 + 16 * x.2.1 + x.2.2
theorem lc_dcY {x : Nat × Nat × Nat} (h : x.2.1 < 24) (h2 : x.2.2 < 16) : lc_dY (lc_cY x) = x := by
  obtain ⟨ph, p, A⟩ := x
  dsimp only at h h2
  unfold lc_cY lc_dY
  dsimp only
  rw [show (384 * ph + 16 * p + A) / 384 = ph by omega, show (384 * ph + 16 * p + A) % 384 / 16 = p by omega, show (384 * ph + 16 * p + A) % 16 = A by omega]
def lc_FS (c : Nat) (k f s : Nat → Nat) (b g : Nat) (Fa : Nat → Int32) (d : Nat → Nat) : Prop := ∀ n, n < 1152 → Fa n = nI (d n) ∧ 1 ≤ d n ∧ d n ≤ 100000 ∧ (d n < 100000 → lc_PY c k f s b g (d n - 1) (lc_dY n))
def lc_M (d : Nat → Nat) (mo : Int32) (Fa : Nat → Int32) (d' : Nat → Nat) (mo' : Int32) (Fa' : Nat → Int32) : Prop := (mo' = 0 → mo = 0 ∧ d' = d ∧ Fa' = Fa) ∧ (mo' ≠ 0 → mo ≠ 0 ∨ lc_sm d' 1152 < lc_sm d 1152) ∧ ∀ n, d' n ≤ d n
theorem lc_M_rf {d : Nat → Nat} {mo : Int32} {Fa : Nat → Int32} : lc_M d mo Fa d mo Fa := ⟨fun z => ⟨z, rfl, rfl⟩, fun z => Or.inl z, fun _ => Nat.le_refl _⟩
theorem lc_M_tr {d d1 d2 : Nat → Nat} {m m1 m2 : Int32} {Fa F1 F2 : Nat → Int32} (a : lc_M d m Fa d1 m1 F1) (b : lc_M d1 m1 F1 d2 m2 F2) : lc_M d m Fa d2 m2 F2 := by
  obtain ⟨a1, a2, a3⟩ := a
  obtain ⟨b1, b2, b3⟩ := b
  refine ⟨fun z => ?_, fun z => ?_, fun n => Nat.le_trans (b3 n) (a3 n)⟩
  · obtain ⟨z1, rfl, rfl⟩ := b1 z
    exact a1 z1
  · have l1 := lc_sm_le a3 1152
    have l2 := lc_sm_le b3 1152
    rcases b2 z with w | w
    · rcases a2 w with w | w
      · exact Or.inl w
      · exact Or.inr (by omega)
    · exact Or.inr (by omega)
def lc_ClD (c : Nat) (k f s : Nat → Nat) (b g : Nat) (d : Nat → Nat) (m : Nat) : Prop := d m < 100000 → ∀ y, lc_gY c k f s b g (lc_dY m) y → d (lc_cY y) ≤ d m + 1
section
variable {c : Nat} {k f s : Nat → Nat} {mo : Int32} {K F S M U Fa : Nat → Int32} {b g : Nat}
theorem ly_come {d : Nat → Nat} {ph A e : Nat} {o : Option Nat} (hph : ph ≤ 2) (hA : A < 16) (he : 1 ≤ e) (he2 : e ≤ 100000) (ho : ∀ q, o = some q → q < 24 ∧ (e < 100000 → lc_PY c k f s b g (e - 1) (ph, q, A))) (fs : lc_FS c k f s b g Fa d) {post : SY → Prop}
    (h : ∀ mo' Fa' d', lc_M d mo Fa d' mo' Fa' → lc_FS c k f s b g Fa' d' → (∀ q, o = some q → d' (lc_cY (ph, q, A)) ≤ e) → post (nI c, mo', K, F, S, M, U, Fa')) : wpY_come post (nI c, mo, K, F, S, M, U, Fa) (nI ph) (lc_oI o) (nI A) (nI e) := by
  unfold wpY_come
  dsimp only
  cases o with
  | none => exact nm_e (br_t (by decide) (h mo Fa d lc_M_rf fs (fun q z => by cases z)))
  | some q =>
    obtain ⟨hq, hP⟩ := ho q rfl
    have ei : ((384 * nI ph) + (16 * lc_oI (some q))) + nI A = nI (384 * ph + 16 * q + A) := by
      rw [lc_oI_s, show (384 : Int32) = nI 384 from rfl, show (16 : Int32) = nI 16 from rfl, pk_mul, pk_mul, nI_add, nI_add]
    have hl : 384 * ph + 16 * q + A < 1152 := by omega
    have hin : vp_in (nI (384 * ph + 16 * q + A)) 1152 := vp_in_nI hl (by decide)
    refine nm_r ei (br_f (nI_pos (by omega)) ?_)
    rw [nI_clamp (show 384 * ph + 16 * q + A < 2 ^ 31 by omega)]
    have ec : lc_cY (ph, q, A) = 384 * ph + 16 * q + A := rfl
    generalize 384 * ph + 16 * q + A = n0 at hl hin ec ⊢
    obtain ⟨f1, f2, f3, f4⟩ := fs n0 hl
    refine ⟨hin, pk_le (d n0) e (fun z => h mo Fa d lc_M_rf fs (fun q' w => by cases w; rw [ec]; exact z)) (fun z => ⟨hin, nm_e ?_⟩) f1⟩
    have le : ∀ n, (fun n => if n = n0 then e else d n) n ≤ d n := by
      intro n
      dsimp only
      by_cases w : n = n0
      · rw [if_pos w, w]; omega
      · rw [if_neg w]; exact Nat.le_refl _
    have e0 : (fun n => if n = n0 then e else d n) n0 = e := if_pos rfl
    refine h 1 _ (fun n => if n = n0 then e else d n) ⟨fun w => absurd w (by decide), fun _ => Or.inr (lc_sm_lt le (m := n0) (by rw [if_pos rfl]; exact z) 1152 hl), le⟩ (fun n hn => ?_) (fun q' w => by cases w; rw [ec, if_pos rfl]; exact Nat.le_refl _)
    by_cases w : n = n0
    · subst w
      rw [pk_us, e0]
      refine ⟨rfl, he, he2, fun y => ?_⟩
      rw [← ec, lc_dcY (x := (ph, q, A)) hq hA]
      exact hP y
    · rw [pk_un w]; dsimp only; rw [if_neg w]; exact fs n hn
/-- the three ways on from one situation to one point -/
def lc_w3 (f : Nat → Nat) (b g ph at' th : Nat) (y : Nat × Nat × Nat) : Prop := (((ph = 0 ∨ th ≠ 0) ∧ y.1 = ph ∧ y.2.2 = th) ∨ (ph = 0 ∧ at' = b ∧ y.1 = 1 ∧ y.2.2 = 2 ^ f b) ∨ (ph = 1 ∧ at' = g ∧ th ≠ 0 ∧ y.1 = 2 ∧ y.2.2 = th))
theorem ly_go121 {J : Int32 → Int32 → Int32 → (Nat → Int32) → (Nat → Int32) → (Nat → Int32) → (Nat → Int32) → (Nat → Int32) → (Nat → Int32) → Prop} {post : SY → Prop} {d : Nat → Nat} {ph at' th e i : Nat} {o : Option Nat} (hph : ph ≤ 2) (hb : b < 24) (hg : g < 24) (hat : at' < 24) (hth : th < 16) (he : 1 ≤ e) (he2 : e ≤ 100000) (ho : ∀ q, o = some q → q < 24) (hS : ∀ y, o = some y.2.1 → lc_w3 f b g ph at' th y → e < 100000 → lc_PY c k f s b g (e - 1) y) (fs : lc_FS c k f s b g Fa d)
    (h : ∀ mo' Fa' d', lc_M d mo Fa d' mo' Fa' → lc_FS c k f s b g Fa' d' → (∀ q, o = some q → ph = 1 → at' = g → th ≠ 0 → d' (lc_cY (2, q, th)) ≤ e) → J (nI (i + 1)) (nI c) mo' K F S M U Fa') : wY_goOn_121 post J (nI b) (nI g) (nI ph) (nI at') (nI e) (nI th) (nI i) (lc_oI o) (nI c) mo K F S M U Fa := by
  unfold wY_goOn_121
  refine pk_eq ph 1 (fun e1 => pk_eq at' g (fun e2 => pk_eq th 0 (fun e3 => nm_r (nI_1 i) (h mo Fa d lc_M_rf fs (fun _ _ _ _ z => absurd e3 z))) (fun e3 => ?_)) (fun e2 => nm_r (nI_1 i) (h mo Fa d lc_M_rf fs (fun _ _ _ z => absurd z e2)))) (fun e1 => nm_r (nI_1 i) (h mo Fa d lc_M_rf fs (fun _ _ z => absurd z e1)))
  exact ly_come (ph := 2) (by decide) hth he he2 (fun q eq => ⟨ho q eq, hS (2, q, th) eq (Or.inr (Or.inr ⟨e1, e2, e3, rfl, rfl⟩))⟩) fs (fun mo' Fa' d' hM fs' a => nm_r (nI_1 i) (h mo' Fa' d' hM fs' (fun q eq _ _ _ => a q eq)))
theorem ly_go93 (V : lc_V c k f s K F S) (hbc : b < c) (hm : lc_mk k b) {J : Int32 → Int32 → Int32 → (Nat → Int32) → (Nat → Int32) → (Nat → Int32) → (Nat → Int32) → (Nat → Int32) → (Nat → Int32) → Prop} {post : SY → Prop} {d : Nat → Nat} {ph at' th e i : Nat} {o : Option Nat} (hph : ph ≤ 2) (hg : g < 24) (hat : at' < 24) (hth : th < 16) (he : 1 ≤ e) (he2 : e ≤ 100000) (ho : ∀ q, o = some q → q < 24) (hS : ∀ y, o = some y.2.1 → lc_w3 f b g ph at' th y → e < 100000 → lc_PY c k f s b g (e - 1) y) (fs : lc_FS c k f s b g Fa d)
    (h : ∀ mo' Fa' d', lc_M d mo Fa d' mo' Fa' → lc_FS c k f s b g Fa' d' → (∀ q, o = some q → (ph = 0 → at' = b → d' (lc_cY (1, q, 2 ^ f b)) ≤ e) ∧ (ph = 1 → at' = g → th ≠ 0 → d' (lc_cY (2, q, th)) ≤ e)) → J (nI (i + 1)) (nI c) mo' K F S M U Fa') : wY_goOn_93 post J (nI b) (nI g) (nI ph) (nI at') (nI e) (nI th) (nI i) (lc_oI o) (nI c) mo K F S M U Fa := by
  obtain ⟨hb24, hcl, hin, hK, h11, hF, hf4, hS'⟩ := lc_Vp V hbc
  have f4 := hf4 (by unfold lc_mk at hm; omega)
  unfold wY_goOn_93
  have no : (ph = 0 → ¬ at' = b) → wY_goOn_121 post J (nI b) (nI g) (nI ph) (nI at') (nI e) (nI th) (nI i) (lc_oI o) (nI c) mo K F S M U Fa := fun hn =>
    ly_go121 hph hb24 hg hat hth he he2 ho hS fs (fun mo' Fa' d' hM fs' a => h mo' Fa' d' hM fs' (fun q eq => ⟨fun z1 z2 => absurd z2 (hn z1), a q eq⟩))
  refine pk_eq ph 0 (fun e0 => pk_eq at' b (fun eb => ⟨hin, ?_⟩) (fun eb => no (fun _ => eb))) (fun e0 => no (fun z => absurd z e0))
  rw [(hF (by unfold lc_mk at hm; omega)).1, lc_sh1 (f b) f4]
  refine ly_come (ph := 1) (by decide) (lc_pw1 _ f4) he he2 (fun q eq => ⟨ho q eq, hS (1, q, 2 ^ f b) eq (Or.inr (Or.inl ⟨e0, eb, rfl, rfl⟩))⟩) fs (fun mo1 Fa1 d1 hM1 fs1 a1 => ?_)
  exact ly_go121 hph hb24 hg hat hth he he2 ho hS fs1 (fun mo' Fa' d' hM fs' a => h mo' Fa' d' (lc_M_tr hM1 hM) fs' (fun q eq => ⟨fun _ _ => Nat.le_trans (hM.2.2 _) (a1 q eq), a q eq⟩))
theorem ly_go55 (V : lc_V c k f s K F S) (hbc : b < c) (hm : lc_mk k b) (hgc : g < c) {post : SY → Prop} {d : Nat → Nat} {ph at' th e : Nat} (hph : ph ≤ 2) (hat : at' < c) (hth : th < 16) (he : 1 ≤ e) (he2 : e ≤ 100000) (hS : ∀ y, lc_E c k f at' y.2.1 → lc_w3 f b g ph at' th y → e < 100000 → lc_PY c k f s b g (e - 1) y) (fs : lc_FS c k f s b g Fa d)
    (h : ∀ mo' Fa' d', lc_M d mo Fa d' mo' Fa' → lc_FS c k f s b g Fa' d' → (∀ y, lc_E c k f at' y.2.1 → lc_w3 f b g ph at' th y → d' (lc_cY y) ≤ e) → post (nI c, mo', K, F, S, M, U, Fa')) : ∃ n, wY_goOn_55 post (nI b) (nI g) (nI ph) (nI at') (nI e) (nI th) n 0 (nI c) mo K F S M U Fa := by
  have hc := V.1
  have step : ∀ n i mo Fa d, i < 2 → lc_FS c k f s b g Fa d → (∀ mo' Fa' d', lc_M d mo Fa d' mo' Fa' → lc_FS c k f s b g Fa' d' → (∀ y, lc_nx c k f at' i = some y.2.1 → lc_w3 f b g ph at' th y → d' (lc_cY y) ≤ e) → wY_goOn_55 post (nI b) (nI g) (nI ph) (nI at') (nI e) (nI th) n (nI (i + 1)) (nI c) mo' K F S M U Fa') → wY_goOn_55 post (nI b) (nI g) (nI ph) (nI at') (nI e) (nI th) (n + 1) (nI i) (nI c) mo K F S M U Fa := by
    intro n i mo Fa d hi fs hk
    refine br_f (nI_ge (b := 2) hi (by decide)) ?_
    refine ly_next V hat hi ?_
    have ho : ∀ q, lc_nx c k f at' i = some q → q < 24 := fun q eq => by have := lc_nx_lt eq; omega
    have hS2 : ∀ y : Nat × Nat × Nat, lc_nx c k f at' i = some y.2.1 → lc_w3 f b g ph at' th y → e < 100000 → lc_PY c k f s b g (e - 1) y := fun y eq => hS y (lc_E_i hat hi eq)
    have h81 : (ph = 0 ∨ th ≠ 0) → wY_goOn_81 post (wY_goOn_55 post (nI b) (nI g) (nI ph) (nI at') (nI e) (nI th) n) (nI b) (nI g) (nI ph) (nI at') (nI e) (nI th) (nI i) (lc_oI (lc_nx c k f at' i)) (nI c) mo K F S M U Fa := by
      intro h0
      unfold wY_goOn_81
      refine ly_come hph hth he he2 (fun q eq => ⟨ho q eq, hS2 (ph, q, th) eq (Or.inl ⟨h0, rfl, rfl⟩)⟩) fs (fun mo1 Fa1 d1 hM1 fs1 a1 => ?_)
      refine ly_go93 V hbc hm hph (by omega) (by omega) hth he he2 ho hS2 fs1 (fun mo' Fa' d' hM fs' a => hk mo' Fa' d' (lc_M_tr hM1 hM) fs' ?_)
      rintro ⟨ph', q, A'⟩ eq hw
      dsimp only at eq
      rcases hw with ⟨_, w1, w2⟩ | ⟨w0, wb, w1, w2⟩ | ⟨w0, wg, wt, w1, w2⟩ <;> dsimp only at w1 w2 <;> rw [w1, w2]
      · exact Nat.le_trans (hM.2.2 _) (a1 q eq)
      · exact (a q eq).1 w0 wb
      · exact (a q eq).2 w0 wg wt
    refine pk_eq ph 0 (fun e0 => h81 (Or.inl e0)) (fun e0 => pk_eq th 0 (fun et => ?_) (fun et => h81 (Or.inr et)))
    refine ly_go93 V hbc hm hph (by omega) (by omega) hth he he2 ho hS2 fs (fun mo' Fa' d' hM fs' a => hk mo' Fa' d' hM fs' ?_)
    rintro ⟨ph', q, A'⟩ eq hw
    dsimp only at eq
    rcases hw with ⟨w0, _, _⟩ | ⟨w0, _⟩ | ⟨w0, wg, wt, w1, w2⟩
    · rcases w0 with w0 | w0
      · exact absurd w0 e0
      · exact absurd et w0
    · exact absurd w0 e0
    · exact absurd et wt
  refine ⟨3, step 2 0 mo Fa d (by decide) fs (fun m1 Fa1 d1 hM1 fs1 a1 => step 1 1 m1 Fa1 d1 (by decide) fs1 (fun m2 Fa2 d2 hM2 fs2 a2 => ?_))⟩
  refine br_t (nI_le (a := 2) (b := 2) (by decide) (by decide)) (h m2 Fa2 d2 (lc_M_tr hM1 hM2) fs2 (fun y e hw => ?_))
  rcases e.2 with z | z
  · exact Nat.le_trans (hM2.2.2 _) (a1 y z hw)
  · exact a2 y z hw
theorem lc_w3_g {n at' ph A : Nat} {y : Nat × Nat × Nat} (e : lc_dY n = (ph, at', A)) (h : lc_E c k f at' y.2.1) : lc_gY c k f s b g (lc_dY n) y ↔ lc_w3 f b g ph at' (if ph = 0 then 0 else lc_hB k f s at' A) y := by
  rw [e]
  unfold lc_gY lc_w3
  dsimp only
  by_cases e0 : ph = 0
  · rw [if_pos e0]
    constructor
    · rintro ⟨_, ⟨z, a, d⟩ | ⟨z, z2, a, d⟩ | ⟨z, _⟩ | ⟨z, _⟩⟩
      · exact Or.inl ⟨Or.inl e0, by omega, d⟩
      · exact Or.inr (Or.inl ⟨z, z2, a, d⟩)
      · omega
      · omega
    · rintro (⟨_, a, d⟩ | ⟨z, z2, a, d⟩ | ⟨z, _⟩)
      · exact ⟨h, Or.inl ⟨e0, by omega, d⟩⟩
      · exact ⟨h, Or.inr (Or.inl ⟨z, z2, a, d⟩)⟩
      · omega
  · rw [if_neg e0]
    constructor
    · rintro ⟨_, ⟨z, _⟩ | ⟨z, _⟩ | ⟨z, a, d, w⟩ | ⟨z, z2, a, d, w⟩⟩
      · omega
      · omega
      · exact Or.inl ⟨Or.inr (by rw [← d]; exact w), a, d⟩
      · exact Or.inr (Or.inr ⟨z, z2, by rw [← d]; exact w, a, d⟩)
    · rintro (⟨z, a, d⟩ | ⟨z, _⟩ | ⟨z, z2, w, a, d⟩)
      · refine ⟨h, Or.inr (Or.inr (Or.inl ⟨by omega, a, d, ?_⟩))⟩
        rcases z with z | z
        · exact absurd z e0
        · rw [d]; exact z
      · exact absurd z e0
      · exact ⟨h, Or.inr (Or.inr (Or.inr ⟨z, z2, a, d, by rw [d]; exact w⟩))⟩
theorem ly_goOn (V : lc_V c k f s K F S) (hbc : b < c) (hm : lc_mk k b) (hgc : g < c) {post : SY → Prop} {d : Nat → Nat} {n : Nat} (hn : n < 1152) (hd : d n < 100000) (fs : lc_FS c k f s b g Fa d)
    (h : ∀ mo' Fa' d', lc_M d mo Fa d' mo' Fa' → lc_FS c k f s b g Fa' d' → (∀ y, lc_gY c k f s b g (lc_dY n) y → d' (lc_cY y) ≤ d n + 1) → post (nI c, mo', K, F, S, M, U, Fa')) : wpY_goOn post (nI c, mo, K, F, S, M, U, Fa) (nI n) (nI b) (nI g) := by
  have hc := V.1
  have O := lc_V_OK V
  have f4 : f b < 4 := (O.2 b hbc).2.1 (by unfold lc_mk at hm; omega)
  obtain ⟨f1, f2, f3, f4'⟩ := fs n hn
  have hP := f4' hd
  obtain ⟨hat, hph, hA⟩ := lc_PY_ok (by omega) f4 _ _ hP
  have hat : n % 384 / 16 < c := hat
  have e1 : nI n / 384 = nI (n / 384) := pk_div (by omega) (d := 384) (by decide) (by decide)
  have e2 : (nI n - nI n / 384 * 384) / 16 = nI (n % 384 / 16) := by
    have : nI n - nI n / 384 * 384 = nI (n % 384) := pk_rem (by omega) (d := 384) (by decide) (by decide)
    rw [this]
    exact pk_div (by omega) (d := 16) (by decide) (by decide)
  have go : ∀ th, th < 16 → th = (if n / 384 = 0 then 0 else lc_hB k f s (n % 384 / 16) (n % 16)) → ∃ m, wY_goOn_55 post (nI b) (nI g) (nI (n / 384)) (nI (n % 384 / 16)) (nI (d n + 1)) (nI th) m 0 (nI c) mo K F S M U Fa := by
    intro th h16 et
    refine ly_go55 V hbc hm hgc (by omega) hat h16 (by omega) (by omega) (fun y e hw _ => ?_) fs (fun mo' Fa' d' hM fs' a => h mo' Fa' d' hM fs' (fun y hg => a y hg.1 ?_))
    · rw [et] at hw
      have hg := (lc_w3_g (s := s) (n := n) rfl e).mpr hw
      rw [show d n + 1 - 1 = (d n - 1) + 1 by omega]
      exact ⟨_, hP, hg⟩
    · rw [et]
      exact (lc_w3_g (s := s) (n := n) rfl hg.1).mp hg
  unfold wpY_goOn
  dsimp only
  refine ⟨by decide, nm_r e1 ⟨by decide, by decide, nm_r e2 ⟨by decide, nm_r (lc_r16 (by omega)) ⟨vp_in_nI hn (by decide), ?_⟩⟩⟩⟩
  rw [nI_clamp (show n < 2 ^ 31 by omega), f1]
  refine nm_r (nI_1 (d n)) (pk_eq (n / 384) 0 (fun e0 => ?_) (fun e0 => ?_))
  · exact go 0 (by decide) (by rw [if_pos e0])
  · exact ly_holdBehind V hat (Nat.mod_lt _ (by decide)) (go _ (lc_m4_lt _) (by rw [if_neg e0]))
theorem ly_sh88 (V : lc_V c k f s K F S) (hbc : b < c) (hm : lc_mk k b) (hgc : g < c) {post : Int32 → SY → Prop} {J : Int32 → Int32 → (Nat → Int32) → (Nat → Int32) → (Nat → Int32) → (Nat → Int32) → (Nat → Int32) → (Nat → Int32) → Prop} :
    ∀ l n mo Fa d, n + l = 1152 → lc_FS c k f s b g Fa d → (mo = 0 → ∀ m, m < n → lc_ClD c k f s b g d m) → (∀ mo' Fa' d', lc_M d mo Fa d' mo' Fa' → lc_FS c k f s b g Fa' d' → (mo' = 0 → ∀ m, m < 1152 → lc_ClD c k f s b g d' m) → J (nI c) mo' K F S M U Fa') → wY_shown_88 post J (nI b) (nI g) (l + 1) (nI n) (nI c) mo K F S M U Fa := by
  intro l
  induction l with
  | zero =>
    intro n mo Fa d hn fs hC h
    have e : n = 1152 := by omega
    subst e
    exact br_t (nI_le (a := 1152) (b := 1152) (by decide) (by decide)) (h mo Fa d lc_M_rf fs hC)
  | succ l ih =>
    intro n mo Fa d hn fs hC h
    have hn' : n < 1152 := by omega
    obtain ⟨f1, f2, f3, f4⟩ := fs n hn'
    refine br_f (nI_ge (b := 1152) hn' (by decide)) ⟨vp_in_nI hn' (by decide), ?_⟩
    rw [nI_clamp (show n < 2 ^ 31 by omega)]
    refine pk_le 100000 (d n) (fun z => ?_) (fun z => ?_) rfl f1
    · refine nm_r (nI_1 n) (ih (n + 1) mo Fa d (by omega) fs (fun w m hm => ?_) h)
      by_cases e : m = n
      · rw [e]; intro y; omega
      · exact hC w m (by omega)
    · refine ly_goOn V hbc hm hgc hn' z fs (fun mo' Fa' d' hM fs' a => ?_)
      refine nm_r (nI_1 n) (ih (n + 1) mo' Fa' d' (by omega) fs' (fun w m hm => ?_) (fun m2 F2 d2 hM2 => h m2 F2 d2 (lc_M_tr hM hM2)))
      obtain ⟨w1, rfl, rfl⟩ := hM.1 w
      by_cases e : m = n
      · rw [e]; exact fun _ => a
      · exact hC w1 m (by omega)
/-- at rest: d is the length of a shortest path, and one more -/
theorem lc_rest (hc : 0 < c) (hc24 : c ≤ 24) (hf : f b < 4) {Fa : Nat → Int32} {d : Nat → Nat} (h0 : d 0 ≤ 1) (hC : ∀ m, m < 1152 → lc_ClD c k f s b g d m) : ∀ n x, lc_PY c k f s b g n x → n < 99999 → d (lc_cY x) ≤ n + 1 := by
  intro n
  induction n with
  | zero => intro x h _; rw [show x = (0, 0, 0) from h]; exact h0
  | succ n ih =>
    rintro y ⟨x, hx, hg⟩ hn
    have hl := ih x hx (by omega)
    obtain ⟨a1, a2, a3⟩ := lc_PY_ok hc hf n x hx
    have := hC (lc_cY x) (by unfold lc_cY; omega) (by omega) y (by rw [lc_dcY (by omega) a3]; exact hg)
    omega
theorem ly_sh130 (V : lc_V c k f s K F S) (hbc : b < c) (hm : lc_mk k b) {d : Nat → Nat} (fs : lc_FS c k f s b g Fa d) (hR : ∀ n x, lc_PY c k f s b g n x → n < 99999 → d (lc_cY x) ≤ n + 1) {post : Int32 → SY → Prop}
    (h1 : ∀ n, n < 99999 → lc_T c k f s b g n → (∀ j, j < n → ¬ lc_T c k f s b g j) → post (nI (n + 1)) (nI c, mo, K, F, S, M, U, Fa)) (h0 : (∀ j, j < 99999 → ¬ lc_T c k f s b g j) → post (-3) (nI c, mo, K, F, S, M, U, Fa)) : ∃ n, wY_shown_130 post (nI c) mo K F S M U Fa n 100000 768 := by
  have hc := V.1
  have O := lc_V_OK V
  have f4 : f b < 4 := (O.2 b hbc).2.1 (by unfold lc_mk at hm; omega)
  have c0 : 0 < c := by omega
  have ei : (768 + (16 * nI c)) = nI (768 + 16 * c) := by
    rw [show (768 : Int32) = nI 768 from rfl, lc_m16, nI_add]
  have loop : ∀ l n L, n + l = 768 + 16 * c → 768 ≤ n → L ≤ 100000 → (L < 100000 → ∃ m, 768 ≤ m ∧ m < n ∧ d m = L ∧ lc_tgY k f (lc_dY m)) → (∀ m, 768 ≤ m → m < n → lc_tgY k f (lc_dY m) → L ≤ d m) → wY_shown_130 post (nI c) mo K F S M U Fa (l + 1) (nI L) (nI n) := by
    intro l
    induction l with
    | zero =>
      intro n L hn h768 hL hex hall
      have e : n = 768 + 16 * c := by omega
      subst e
      have none' : ∀ j, j < 99999 → j + 1 < L → ¬ lc_T c k f s b g j := by
        intro j hj hjL hT
        obtain ⟨x, hx, ht⟩ := (lc_T_Y O c0 f4 j).mp hT
        obtain ⟨a1, a2, a3⟩ := lc_PY_ok c0 f4 j x hx
        have t1 := ht.1
        have := hall (lc_cY x) (by unfold lc_cY; omega) (by unfold lc_cY; omega) (by rw [lc_dcY (by omega) a3]; exact ht)
        have := hR j x hx hj
        omega
      refine br_t (by rw [ei]; exact nI_le (Nat.le_refl _) (by omega)) (pk_eq L 100000 (fun e => h0 (fun j hj => none' j hj (by omega))) (fun e => ?_))
      obtain ⟨m, m1, m2, m3, m4⟩ := hex (by omega)
      obtain ⟨f1, f2, f3, f5⟩ := fs m (by omega)
      have hp := f5 (by omega)
      rw [m3] at hp f2
      have := h1 (L - 1) (by omega) ((lc_T_Y O c0 f4 _).mpr ⟨_, hp, m4⟩) (fun j hj => none' j (by omega) (by omega))
      rw [show L - 1 + 1 = L by omega] at this
      exact this
    | succ l ih =>
      intro n L hn h768 hL hex hall
      have hn' : n < 1152 := by omega
      have hin : vp_in (nI n) 1152 := vp_in_nI hn' (by decide)
      obtain ⟨f1, f2, f3, f5⟩ := fs n hn'
      have skip : ¬ (d n < L ∧ lc_tgY k f (lc_dY n)) → wY_shown_130 post (nI c) mo K F S M U Fa (l + 1) (nI L) (nI (n + 1)) := by
        intro z
        refine ih (n + 1) L (by omega) (by omega) hL (fun w => ?_) (fun m m1 m2 m3 => ?_)
        · obtain ⟨m, m1, m2, m3⟩ := hex w
          exact ⟨m, m1, by omega, m3⟩
        · by_cases e : m = n
          · subst e
            rcases Nat.lt_or_ge (d m) L with y | y
            · exact absurd ⟨y, m3⟩ z
            · exact y
          · exact hall m m1 (by omega) m3
      refine br_f (by rw [ei]; exact nI_ge (by omega) (by omega)) ⟨hin, ?_⟩
      rw [nI_clamp (show n < 2 ^ 31 by omega)]
      have h182 : ¬ (d n < L ∧ lc_tgY k f (lc_dY n)) → wY_shown_182 post (wY_shown_130 post (nI c) mo K F S M U Fa (l + 1)) (nI L) (nI n) (nI c) mo K F S M U Fa := by
        intro z
        unfold wY_shown_182 wY_shown_183
        exact br_t rfl (nm_r (nI_1 n) (skip z))
      refine pk_le L (d n) (fun z => h182 (fun w => by omega)) (fun z => ⟨by decide, by decide, by decide, ?_⟩) rfl f1
      have e2 : (nI n - nI n / 384 * 384) / 16 = nI (n % 384 / 16) := by
        have : nI n - nI n / 384 * 384 = nI (n % 384) := pk_rem (by omega) (d := 384) (by decide) (by decide)
        rw [this]
        exact pk_div (by omega) (d := 16) (by decide) (by decide)
      rw [e2, lc_r16 (n := n) (by omega)]
      have hph : n / 384 = 2 := by omega
      refine ly_uses V (show n % 384 / 16 < c by omega) (Nat.mod_lt _ (by decide)) (fun a => br_f (by decide) ?_) (fun a => br_t rfl (h182 (fun w => a w.2.2)))
      unfold wY_shown_183
      refine br_f (by decide) ⟨hin, ?_⟩
      rw [nI_clamp (show n < 2 ^ 31 by omega)]
      refine nm_r f1 (nm_r (nI_1 n) (ih (n + 1) (d n) (by omega) (by omega) f3 (fun w => ⟨n, h768, by omega, rfl, hph, a⟩) (fun m m1 m2 m3 => ?_)))
      by_cases e : m = n
      · rw [e]; exact Nat.le_refl _
      · have := hall m m1 (by omega) m3
        omega
  exact ⟨16 * c + 1, loop (16 * c) 768 100000 (by omega) (Nat.le_refl _) (Nat.le_refl _) (fun w => absurd w (by decide)) (fun m m1 m2 => absurd m2 (by omega))⟩
theorem ly_sh74 (V : lc_V c k f s K F S) (hbc : b < c) (hm : lc_mk k b) (hgc : g < c) {post : Int32 → SY → Prop}
    (h1 : ∀ n, n < 99999 → lc_T c k f s b g n → (∀ j, j < n → ¬ lc_T c k f s b g j) → ∀ mo' Fa', post (nI (n + 1)) (nI c, mo', K, F, S, M, U, Fa')) (h0 : (∀ j, j < 99999 → ¬ lc_T c k f s b g j) → ∀ mo' Fa', post (-3) (nI c, mo', K, F, S, M, U, Fa')) :
    ∀ n mo Fa d, (lc_sm d 1152 + 1 < n ∨ (mo = 0 ∧ 0 < n)) → lc_FS c k f s b g Fa d → d 0 ≤ 1 → (mo = 0 → ∀ m, m < 1152 → lc_ClD c k f s b g d m) → wY_shown_74 post (nI b) (nI g) n (nI c) mo K F S M U Fa := by
  have hc := V.1
  have O := lc_V_OK V
  have f4 : f b < 4 := (O.2 b hbc).2.1 (by unfold lc_mk at hm; omega)
  intro n
  induction n with
  | zero => intro mo Fa d hh; omega
  | succ n ih =>
    intro mo Fa d hh fs d0 hC
    refine br_c (fun z => ?_) (fun z => ?_)
    · exact ly_sh130 V hbc hm fs (lc_rest (by omega) hc f4 (Fa := Fa) d0 (hC z)) (fun n hn hT hmin => h1 n hn hT hmin mo Fa) (fun hn => h0 hn mo Fa)
    · refine ⟨1153, ly_sh88 V hbc hm hgc 1152 0 0 Fa d rfl fs (fun _ m hm => absurd hm (Nat.not_lt_zero m)) (fun mo' Fa' d' hM fs' C' => ?_)⟩
      refine ih mo' Fa' d' ?_ fs' (Nat.le_trans (hM.2.2 0) d0) C'
      by_cases z' : mo' = 0
      · right; exact ⟨z', by rcases hh with hh | hh
                             · omega
                             · exact absurd hh.1 z⟩
      · left
        rcases hM.2.1 z' with y | y
        · exact absurd rfl y
        · rcases hh with hh | hh
          · omega
          · exact absurd hh.1 z
theorem ly_sh40 (V : lc_V c k f s K F S) (hbc : b < c) (hm : lc_mk k b) (hgc : g < c) {post : Int32 → SY → Prop}
    (h1 : ∀ n, n < 99999 → lc_T c k f s b g n → (∀ j, j < n → ¬ lc_T c k f s b g j) → ∀ mo' Fa', post (nI (n + 1)) (nI c, mo', K, F, S, M, U, Fa')) (h0 : (∀ j, j < 99999 → ¬ lc_T c k f s b g j) → ∀ mo' Fa', post (-3) (nI c, mo', K, F, S, M, U, Fa')) : ∃ n, wY_shown_40 post (nI b) (nI g) (nI c) mo n 0 K F S M U Fa := by
  have loop : ∀ l n Fa, n + l = 1152 → (∀ m, m < n → Fa m = nI (if m = 0 then 1 else 100000)) → wY_shown_40 post (nI b) (nI g) (nI c) mo (l + 1) (nI n) K F S M U Fa := by
    intro l
    induction l with
    | zero =>
      intro n Fa hn hF
      have e : n = 1152 := by omega
      subst e
      refine br_t (nI_le (a := 1152) (b := 1152) (by decide) (by decide)) ⟨_, ly_sh74 V hbc hm hgc h1 h0 (lc_sm (fun m => if m = 0 then 1 else 100000) 1152 + 2) 1 Fa (fun m => if m = 0 then 1 else 100000) (Or.inl (by omega)) (fun m hm' => ⟨hF m hm', ?_⟩) (Nat.le_refl _) (fun z => absurd z (by decide))⟩
      dsimp only
      by_cases e : m = 0
      · subst e
        exact ⟨by decide, by decide, fun _ => rfl⟩
      · rw [if_neg e]
        exact ⟨by decide, by decide, fun z => absurd z (by decide)⟩
    | succ l ih =>
      intro n Fa hn hF
      have hin : vp_in (nI n) 1152 := vp_in_nI (by omega) (by decide)
      refine br_f (nI_ge (b := 1152) (by omega) (by decide)) (pk_eq n 0 (fun e => ⟨hin, nm_e (nm_r (nI_1 n) (ih (n + 1) _ (by omega) (fun m hm' => ?_)))⟩) (fun e => ⟨hin, nm_e (nm_r (nI_1 n) (ih (n + 1) _ (by omega) (fun m hm' => ?_)))⟩))
      · rw [nI_clamp (show n < 2 ^ 31 by omega)]
        have em : m = n := by omega
        rw [em, pk_us, if_pos e]; rfl
      · rw [nI_clamp (show n < 2 ^ 31 by omega)]
        by_cases em : m = n
        · rw [em, pk_us, if_neg e]; rfl
        · rw [pk_un em]; exact hF m (by omega)
  exact ⟨1153, loop 1152 0 Fa rfl (fun m hm' => absurd hm' (Nat.not_lt_zero m))⟩
end
end
section
/-! ===== the relation and what is owed ===== -/
def i_Rel (_ : Nat) (u : SX) (v : SY) : Prop := match u, v with
  | (fc, st, _, _, K, F, S, R, H, E, WB, WA, _, _, _), (fc', _, K', F', S', _, _, _) => fc' = fc ∧ K' = K ∧ F' = F ∧ S' = S ∧ ∃ (c : Nat) (k f s : Nat → Nat), fc = nI c ∧ lc_V c k f s K F S ∧ (st = 0 ∨ (st = 1 ∧ lc_Std c k f s R H E WB WA))
theorem lc_el {t : Nat} {u : SX} {v : SY} {P : SX → SY → Prop} (I : i_Rel t u v) (h : ∀ {c : Nat} {k f s : Nat → Nat} {st gr qd mo : Int32} {K F S R H E WB WA HN D Q M U Fa : Nat → Int32}, lc_V c k f s K F S → (st = 0 ∨ (st = 1 ∧ lc_Std c k f s R H E WB WA)) → P (nI c, st, gr, qd, K, F, S, R, H, E, WB, WA, HN, D, Q) (nI c, mo, K, F, S, M, U, Fa)) : P u v := by
  obtain ⟨fc, st, gr, qd, K, F, S, R, H, E, WB, WA, HN, D, Q⟩ := u
  obtain ⟨fc', mo, K', F', S', M, U, Fa⟩ := v
  obtain ⟨e1, e2, e3, e4, c, k, f, s, e5, V, hst⟩ := I
  subst e1 e2 e3 e4 e5
  exact h V hst
section
variable {c : Nat} {k f s : Nat → Nat} {st gr qd mo : Int32} {K F S R H E WB WA HN D Q M U Fa : Nat → Int32} {t : Nat}
theorem lc_mkR (V : lc_V c k f s K F S) (hst : st = 0 ∨ (st = 1 ∧ lc_Std c k f s R H E WB WA)) : i_Rel t (nI c, st, gr, qd, K, F, S, R, H, E, WB, WA, HN, D, Q) (nI c, mo, K, F, S, M, U, Fa) := ⟨rfl, rfl, rfl, rfl, c, k, f, s, rfl, V, hst⟩
/-! the text of a point -/
def lc_vp (a x y : Int32) : Prop := ∃ kk ff ss : Nat, a = nI kk ∧ kk ≤ 11 ∧ (kk ≤ 10 → x = nI ff ∧ ff ≤ 24) ∧ (kk ≤ 8 → ff < 4) ∧ (3 ≤ kk → kk ≤ 6 → y = nI ss ∧ ss < 4)
theorem lx_out {post : Int32 → Prop} {x : Int32} {m : Nat} (hm : m < 2 ^ 31) (h0 : ∀ j, j ≤ m → x = nI j → post 0) (h1 : (∀ j, j ≤ m → ¬ x = nI j) → post 1) : wpX_out post (nI c, st, gr, qd, K, F, S, R, H, E, WB, WA, HN, D, Q) x (nI m) := by
  unfold wpX_out
  dsimp only
  refine br_c (fun z => h1 (fun p hp e => ?_)) (fun z => ?_)
  · rw [e] at z; exact nI_pos (by omega) z
  · obtain ⟨j, hj, rfl⟩ := nI_of z
    exact pk_le j m (fun e => h0 j e rfl) (fun e => h1 (fun p hp z => by rw [nI_eq hj (by omega)] at z; omega))
theorem lx_badPart {a x y : Int32} {post : Int32 → Prop} (h0 : lc_vp a x y → post 0) (h1 : ¬ lc_vp a x y → post 1) : wpX_badPart post (nI c, st, gr, qd, K, F, S, R, H, E, WB, WA, HN, D, Q) a x y := by
  unfold wpX_badPart
  dsimp only
  refine lx_out (m := 11) (by decide) (fun kk hk e => br_t rfl ?_) (fun hn => br_f (by decide) (h1 ?_))
  · subst e
    have inv : ∀ {kk' : Nat}, kk' ≤ 11 → nI kk = nI kk' → kk' = kk := by
      intro kk' h e; rw [nI_eq (by omega) (by omega)] at e; exact e.symm
    have h24 : (kk = 9 ∨ kk = 10) → wX_badPart_24 post x (nI c) st gr qd K F S R H E WB WA HN D Q := by
      intro h9
      unfold wX_badPart_24
      refine lx_out (m := 24) (by decide) (fun j hj e => ⟨narrow_b0, h0 ⟨kk, j, 0, rfl, hk, fun _ => ⟨e, hj⟩, fun z => by omega, fun z1 z2 => by omega⟩⟩) (fun hn => ⟨narrow_b1, h1 ?_⟩)
      rintro ⟨kk', ff, ss, e1, e2, e3, -⟩
      have := inv e2 e1
      obtain ⟨e4, e5⟩ := e3 (by omega)
      exact hn ff e5 e4
    have h48 : ∀ z0, (z0 = 0 ∧ (kk < 3 ∨ 6 < kk)) ∨ (z0 = 1 ∧ 3 ≤ kk ∧ kk ≤ 6) → ¬ (kk = 9 ∨ kk = 10) → wX_badPart_48 post (nI kk) x y z0 (nI c) st gr qd K F S R H E WB WA HN D Q := by
      intro z0 hz h9
      have h65 : ∀ ff, (kk ≤ 10 → x = nI ff ∧ ff < 4) → wX_badPart_65 post y z0 (nI c) st gr qd K F S R H E WB WA HN D Q := by
        intro ff hf
        unfold wX_badPart_65
        rcases hz with ⟨z, hz⟩ | ⟨z, hz⟩ <;> subst z
        · exact br_t rfl (h0 ⟨kk, ff, 0, rfl, hk, fun w => ⟨(hf w).1, by have := (hf w).2; omega⟩, fun w => (hf (by omega)).2, fun w1 w2 => by omega⟩)
        · refine br_f (by decide) (lx_out (m := 3) (by decide) (fun j hj e => br_t rfl (h0 ⟨kk, ff, j, rfl, hk, fun w => ⟨(hf w).1, by have := (hf w).2; omega⟩, fun w => (hf (by omega)).2, fun w1 w2 => ⟨e, by omega⟩⟩)) (fun hn => br_f (by decide) (h1 ?_)))
          rintro ⟨kk', ff, ss, e1, e2, -, -, e5⟩
          have := inv e2 e1
          obtain ⟨e6, e7⟩ := e5 (by omega) (by omega)
          exact hn ss (by omega) e6
      unfold wX_badPart_48
      refine pk_eq kk 11 (fun e => h65 0 (fun w => by omega)) (fun e => ?_)
      refine lx_out (m := 3) (by decide) (fun j hj e => br_t rfl (h65 j (fun _ => ⟨e, by omega⟩))) (fun hn => br_f (by decide) (h1 ?_))
      rintro ⟨kk', ff, ss, e1, e2, e3, e4, -⟩
      have := inv e2 e1
      exact hn ff (by have := e4 (by omega); omega) (e3 (by omega)).1
    refine pk_eq kk 9 (fun e => h24 (Or.inl e)) (fun e9 => ?_)
    refine pk_eq kk 10 (fun e => h24 (Or.inr e)) (fun e10 => ?_)
    refine pk_lt kk 3 (fun e => ?_) (fun e3 => ?_)
    · unfold wX_badPart_47
      exact h48 0 (Or.inl ⟨rfl, Or.inl e⟩) (by omega)
    refine pk_lt 6 kk (fun e => ?_) (fun e6 => ?_)
    · unfold wX_badPart_47
      exact h48 0 (Or.inl ⟨rfl, Or.inr e⟩) (by omega)
    · exact h48 1 (Or.inr ⟨rfl, e3, e6⟩) (by omega)
  · rintro ⟨kk, ff, ss, e1, e2, -⟩
    exact hn kk e2 e1
theorem ly_isIn0 {post : Int32 → Prop} {x : Int32} {m : Nat} (hm : m < 2 ^ 31) (h1 : ∀ j, j ≤ m → x = nI j → post 1) (h0 : (∀ j, j ≤ m → ¬ x = nI j) → post 0) : wpY_isIn post (nI c, mo, K, F, S, M, U, Fa) x 0 (nI m) := by
  unfold wpY_isIn
  dsimp only
  refine br_c (fun z => h0 (fun p hp e => ?_)) (fun z => ?_)
  · rw [e] at z; exact nI_pos (by omega) z
  · obtain ⟨j, hj, rfl⟩ := nI_of z
    exact pk_lt m j (fun e => h0 (fun p hp z => by rw [nI_eq hj (by omega)] at z; omega)) (fun e => h1 j e rfl)
theorem ly_fits {a x y : Int32} {post : Int32 → Prop} (h1 : lc_vp a x y → post 1) (h0 : ¬ lc_vp a x y → post 0) : wpY_fits post (nI c, mo, K, F, S, M, U, Fa) a x y := by
  unfold wpY_fits
  dsimp only
  refine ly_isIn0 (m := 11) (by decide) (fun kk hk e => br_f (by decide) ?_) (fun hn => br_t rfl (h0 ?_))
  · subst e
    have inv : ∀ {kk' : Nat}, kk' ≤ 11 → nI kk = nI kk' → kk' = kk := by
      intro kk' h e; rw [nI_eq (by omega) (by omega)] at e; exact e.symm
    have h50 : ∀ m z0, (m = 24 ∧ (kk = 9 ∨ kk = 10)) ∨ (m = 3 ∧ ¬ (kk = 9 ∨ kk = 10) ∧ ¬ kk = 11) → (z0 = 0 ∧ ¬ (3 ≤ kk ∧ kk ≤ 6)) ∨ (z0 = 1 ∧ 3 ≤ kk ∧ kk ≤ 6) → wY_fits_50 post y z0 (nI m) 0 x (nI c) mo K F S M U Fa := by
      intro m z0 hm hz
      unfold wY_fits_50
      refine ly_isIn0 (m := m) (by omega) (fun ff hf e => br_f (by decide) ?_) (fun hn => br_t rfl (h0 ?_))
      · rcases hz with ⟨z, hz⟩ | ⟨z, hz⟩ <;> subst z
        · exact br_t rfl (h1 ⟨kk, ff, 0, rfl, hk, fun w => ⟨e, by omega⟩, fun w => by omega, fun w1 w2 => by omega⟩)
        · refine br_f (by decide) (ly_isIn0 (m := 3) (by decide) (fun j hj e2 => br_f (by decide) (h1 ⟨kk, ff, j, rfl, hk, fun w => ⟨e, by omega⟩, fun w => by omega, fun w1 w2 => ⟨e2, by omega⟩⟩)) (fun hn => br_t rfl (h0 ?_)))
          rintro ⟨kk', ff, ss, e1, e2, -, -, e5⟩
          have := inv e2 e1
          obtain ⟨e6, e7⟩ := e5 (by omega) (by omega)
          exact hn ss (by omega) e6
      · rintro ⟨kk', ff, ss, e1, e2, e3, e4, -⟩
        have := inv e2 e1
        obtain ⟨e5, e6⟩ := e3 (by omega)
        refine hn ff ?_ e5
        rcases hm with ⟨hm, _⟩ | ⟨hm, w1, w2⟩
        · omega
        · have := e4 (by omega); omega
    have rest : ∀ z0, (z0 = 0 ∧ ¬ (3 ≤ kk ∧ kk ≤ 6)) ∨ (z0 = 1 ∧ 3 ≤ kk ∧ kk ≤ 6) → ((nI kk = 11 → post 1) ∧ (¬ nI kk = 11 → ((nI kk = 9 → wY_fits_44 post y z0 0 x (nI c) mo K F S M U Fa) ∧ (¬ nI kk = 9 → ((nI kk = 10 → wY_fits_44 post y z0 0 x (nI c) mo K F S M U Fa) ∧ (¬ nI kk = 10 → wY_fits_50 post y z0 3 0 x (nI c) mo K F S M U Fa)))))) := by
      intro z0 hz
      refine pk_eq kk 11 (fun e => h1 ⟨kk, 0, 0, rfl, hk, fun w => by omega, fun w => by omega, fun w1 w2 => by omega⟩) (fun e11 => ?_)
      refine pk_eq kk 9 (fun e => ?_) (fun e9 => pk_eq kk 10 (fun e => ?_) (fun e10 => h50 3 z0 (Or.inr ⟨rfl, by omega, e11⟩) hz))
      · unfold wY_fits_44; exact h50 24 z0 (Or.inl ⟨rfl, Or.inl e⟩) hz
      · unfold wY_fits_44; exact h50 24 z0 (Or.inl ⟨rfl, Or.inr e⟩) hz
    exact ly_isIn (l := 3) (g := 6) (by omega) (by decide) (by decide) (fun w => rest 1 (Or.inr ⟨rfl, w.1, w.2⟩)) (fun w => rest 0 (Or.inl ⟨rfl, w⟩))
  · rintro ⟨kk, ff, ss, e1, e2, -⟩
    exact hn kk e2 e1
theorem lc_V_up (V : lc_V c k f s K F S) {c' p : Nat} (hc : c' ≤ 24) (hq : ∀ q, q < c' → q ≠ p → q < c) {a x y : Int32} (h : lc_vp a x y) : ∃ k' f' s', lc_V c' k' f' s' (upd K p a) (upd F p x) (upd S p y) := by
  obtain ⟨kk, ff, ss, h1, h2, h3, h4, h5⟩ := h
  refine ⟨fun n => if n = p then kk else k n, fun n => if n = p then ff else f n, fun n => if n = p then ss else s n, hc, fun q hqc => ?_⟩
  by_cases e : q = p
  · subst e
    simp only [pk_us, if_pos]
    exact ⟨h1, h2, h3, h4, h5⟩
  · simp only [pk_un e, if_neg e]
    exact V.2 q (hq q hqc e)
theorem lx_write {post : SX → Prop} {p : Nat} (hp : p < 24) {a x y : Int32} (h : post (nI c, 0, gr, qd, upd K p a, upd F p x, upd S p y, R, H, E, WB, WA, HN, D, Q)) : wpX_write post (nI c, st, gr, qd, K, F, S, R, H, E, WB, WA, HN, D, Q) (nI p) a x y := by
  have hin : vp_in (nI p) 24 := vp_in_nI hp (by decide)
  unfold wpX_write
  dsimp only
  rw [nI_clamp (show p < 2 ^ 31 by omega)]
  exact ⟨hin, nm_e ⟨hin, nm_e ⟨hin, nm_e h⟩⟩⟩
theorem lo_point (V : lc_V c k f s K F S) (hst : st = 0 ∨ (st = 1 ∧ lc_Std c k f s R H E WB WA)) (v1 v2 v3 : Int32) : wpX_point (fun r u' => wpY_point (fun r' v' => r' = r ∧ i_Rel t u' v') (nI c, mo, K, F, S, M, U, Fa) v1 v2 v3) (nI c, st, gr, qd, K, F, S, R, H, E, WB, WA, HN, D, Q) v1 v2 v3 := by
  have hc := V.1
  unfold wpX_point
  dsimp only
  refine lx_badPart (fun hv => br_t rfl ?_) (fun hv => br_f (by decide) ?_)
  · refine pk_eq c 24 (fun e => ?_) (fun e => ?_)
    · unfold wpY_point
      dsimp only
      exact ly_fits (fun _ => br_f (by decide) (br_t (by rw [e]; rfl) ⟨rfl, lc_mkR V hst⟩)) (fun w => absurd hv w)
    · refine lx_write (by omega) (nm_r (nI_1 c) ?_)
      unfold wpY_point
      dsimp only
      have hin : vp_in (nI c) 24 := vp_in_nI (by omega) (by decide)
      refine ly_fits (fun _ => br_f (by decide) (br_f (fun z => e ?_) ?_)) (fun w => absurd hv w)
      · have := (nI_eq (a := c) (b := 24) (by omega) (by decide)).mp z
        exact this
      · rw [nI_clamp (show c < 2 ^ 31 by omega)]
        refine ⟨hin, nm_e ⟨hin, nm_e ⟨hin, nm_e (nm_r (nI_1 c) ⟨rfl, ?_⟩)⟩⟩⟩
        obtain ⟨k', f', s', V'⟩ := lc_V_up V (c' := c + 1) (p := c) (by omega) (fun q h1 h2 => by omega) hv
        exact lc_mkR V' (Or.inl rfl)
  · unfold wpY_point
    dsimp only
    exact ly_fits (fun w => absurd w hv) (fun _ => br_t rfl ⟨rfl, lc_mkR V hst⟩)
theorem lo_change (V : lc_V c k f s K F S) (hst : st = 0 ∨ (st = 1 ∧ lc_Std c k f s R H E WB WA)) (v1 v2 v3 v4 : Int32) : wpX_change (fun r u' => wpY_change (fun r' v' => r' = r ∧ i_Rel t u' v') (nI c, mo, K, F, S, M, U, Fa) v1 v2 v3 v4) (nI c, st, gr, qd, K, F, S, R, H, E, WB, WA, HN, D, Q) v1 v2 v3 v4 := by
  have hc := V.1
  unfold wpX_change
  dsimp only
  refine lx_badPoint (by omega) (fun p hp e => br_t rfl ?_) (fun hn => br_f (by decide) ?_)
  · subst e
    have hin : vp_in (nI p) 24 := vp_in_nI (by omega) (by decide)
    refine lx_badPart (fun hv => br_t rfl ⟨hin, nm_e (lx_write (by omega) ?_)⟩) (fun hv => br_f (by decide) ?_)
    · unfold wpY_change
      dsimp only
      refine ly_isPoint (by omega) (fun p' hp' e => br_f (by decide) ?_) (fun hn => absurd rfl (hn p hp))
      refine ly_fits (fun _ => br_f (by decide) ⟨hin, ?_⟩) (fun w => absurd hv w)
      rw [nI_clamp (show p < 2 ^ 31 by omega)]
      refine nm_e ⟨hin, nm_e ⟨hin, nm_e ⟨hin, nm_e ⟨rfl, ?_⟩⟩⟩⟩
      obtain ⟨k', f', s', V'⟩ := lc_V_up V (c' := c) (p := p) hc (fun q h1 h2 => h1) hv
      exact lc_mkR V' (Or.inl rfl)
    · unfold wpY_change
      dsimp only
      refine ly_isPoint (by omega) (fun p' hp' e => br_f (by decide) ?_) (fun hn => absurd rfl (hn p hp))
      exact ly_fits (fun w => absurd w hv) (fun _ => br_t rfl ⟨rfl, lc_mkR V hst⟩)
  · unfold wpY_change
    dsimp only
    exact ly_isPoint (by omega) (fun p' hp' e => absurd e (hn p' hp')) (fun _ => br_t rfl ⟨rfl, lc_mkR V hst⟩)
theorem lo_drop (V : lc_V c k f s K F S) (hst : st = 0 ∨ (st = 1 ∧ lc_Std c k f s R H E WB WA)) : wpX_drop (fun r u' => wpY_drop (fun r' v' => r' = r ∧ i_Rel t u' v') (nI c, mo, K, F, S, M, U, Fa)) (nI c, st, gr, qd, K, F, S, R, H, E, WB, WA, HN, D, Q) := by
  have hc := V.1
  unfold wpX_drop wpY_drop
  dsimp only
  refine pk_eq c 0 (fun e => ?_) (fun e => ?_)
  · exact br_t (by rw [e]; rfl) ⟨rfl, lc_mkR V hst⟩
  · obtain ⟨n, rfl⟩ : ∃ n, c = n + 1 := ⟨c - 1, by omega⟩
    refine nm_r (nI_pred n) (br_f (nI_ne0 (by omega) (by omega)) (nm_r (nI_pred n) ⟨rfl, lc_mkR (k := k) (f := f) (s := s) ⟨by omega, fun p hp => V.2 p (by omega)⟩ (Or.inl rfl)⟩))
theorem lo_points (V : lc_V c k f s K F S) (hst : st = 0 ∨ (st = 1 ∧ lc_Std c k f s R H E WB WA)) : wpX_points (fun r => wpY_points (fun r' => r' = r ∧ i_Rel t (nI c, st, gr, qd, K, F, S, R, H, E, WB, WA, HN, D, Q) (nI c, mo, K, F, S, M, U, Fa)) (nI c, mo, K, F, S, M, U, Fa)) (nI c, st, gr, qd, K, F, S, R, H, E, WB, WA, HN, D, Q) := by
  unfold wpX_points wpY_points
  exact ⟨rfl, lc_mkR V hst⟩
theorem lo_reached (V : lc_V c k f s K F S) (hst : st = 0 ∨ (st = 1 ∧ lc_Std c k f s R H E WB WA)) (v1 : Int32) : wpX_reached (fun r u' => wpY_reached (fun r' v' => r' = r ∧ i_Rel t u' v') (nI c, mo, K, F, S, M, U, Fa) v1) (nI c, st, gr, qd, K, F, S, R, H, E, WB, WA, HN, D, Q) v1 := by
  have hc := V.1
  unfold wpX_reached
  dsimp only
  refine lx_badPoint (by omega) (fun p hp e => br_t rfl ?_) (fun hn => br_f (by decide) ?_)
  · subst e
    refine lx_study V hst (fun gr' R' H' E' WB' WA' HN' T => ⟨vp_in_nI (by omega) (by decide), ?_⟩)
    dsimp only
    rw [nI_clamp (show p < 2 ^ 31 by omega)]
    rcases T.1 p hp with ⟨e, hR⟩ | ⟨e, hR⟩
    · rw [e]
      exact ⟨narrow_b1, ly_reachedP V hp (fun _ mo' M' => ⟨rfl, lc_mkR V (Or.inr ⟨rfl, T⟩)⟩) (fun w => absurd hR w)⟩
    · rw [e]
      exact ⟨narrow_b0, ly_reachedP V hp (fun w => absurd w hR) (fun _ mo' M' => ⟨rfl, lc_mkR V (Or.inr ⟨rfl, T⟩)⟩)⟩
  · exact ly_reached V (fun p hp e => absurd e (hn p hp)) (fun _ mo' M' => ⟨rfl, lc_mkR V hst⟩)
theorem lo_holds (V : lc_V c k f s K F S) (hst : st = 0 ∨ (st = 1 ∧ lc_Std c k f s R H E WB WA)) (v1 v2 : Int32) : wpX_holds (fun r u' => wpY_holds (fun r' v' => r' = r ∧ i_Rel t u' v') (nI c, mo, K, F, S, M, U, Fa) v1 v2) (nI c, st, gr, qd, K, F, S, R, H, E, WB, WA, HN, D, Q) v1 v2 := by
  have hc := V.1
  unfold wpX_holds wpY_holds
  dsimp only
  refine lx_badPoint (by omega) (fun p hp e => br_t rfl ?_) (fun hn => br_f (by decide) ?_)
  · subst e
    refine lx_badRef (fun r hr e => br_t rfl ?_) (fun hn => br_f (by decide) ?_)
    · subst e
      refine lx_study V hst (fun gr' R' H' E' WB' WA' HN' T => ?_)
      dsimp only
      rw [lc_i4, nI_clamp (show 4 * p + r < 2 ^ 31 by omega)]
      refine ⟨vp_in_nI (by omega) (by decide), ?_⟩
      refine ly_isPoint (by omega) (fun _ _ _ => br_f (by decide) ?_) (fun hn => absurd rfl (hn p hp))
      refine ly_isIn3 (fun _ _ _ => br_f (by decide) ?_) (fun hn => absurd rfl (hn r hr))
      refine ly_holds25 V hp hr (fun w hw mo' M' => ⟨lc_W_eq hw (fun i hi => ?_), lc_mkR V (Or.inr ⟨rfl, T⟩)⟩)
      rw [b_and, lc_blo i hi, Bool.and_eq_true, T.2.1 p r i hp hr hi, decide_eq_true_iff]
      constructor
      · rintro ⟨z | z, y⟩
        · exact ⟨lc_RX_lt (lc_HX_mk z.2).2, z.2⟩
        · omega
      · rintro ⟨y, z⟩
        exact ⟨Or.inl ⟨by omega, z⟩, by omega⟩
    · refine ly_isPoint (by omega) (fun _ _ _ => br_f (by decide) ?_) (fun hn => absurd rfl (hn p hp))
      exact ly_isIn3 (fun r hr e => absurd e (hn r hr)) (fun _ => br_t rfl ⟨rfl, lc_mkR V hst⟩)
  · exact ly_isPoint (by omega) (fun p hp e => absurd e (hn p hp)) (fun _ => br_t rfl ⟨rfl, lc_mkR V hst⟩)
theorem lo_free (V : lc_V c k f s K F S) (hst : st = 0 ∨ (st = 1 ∧ lc_Std c k f s R H E WB WA)) (v1 v2 : Int32) : wpX_free (fun r u' => wpY_free (fun r' v' => r' = r ∧ i_Rel t u' v') (nI c, mo, K, F, S, M, U, Fa) v1 v2) (nI c, st, gr, qd, K, F, S, R, H, E, WB, WA, HN, D, Q) v1 v2 := by
  have hc := V.1
  unfold wpX_free wpY_free
  dsimp only
  refine lx_badPoint (by omega) (fun p hp e => br_t rfl ?_) (fun hn => br_f (by decide) ?_)
  · subst e
    refine lx_badRef (fun r hr e => br_t rfl ?_) (fun hn => br_f (by decide) ?_)
    · subst e
      refine lx_study V hst (fun gr' R' H' E' WB' WA' HN' T => ?_)
      dsimp only
      rw [lc_i4, nI_clamp (show 4 * p + r < 2 ^ 31 by omega), lc_and24]
      refine ⟨vp_in_nI (by omega) (by decide), ?_⟩
      have hT := T.2.1 p r 24 hp hr (by decide)
      have fin : ∀ r0, (r0 = 1 ∧ lc_FX c k f s (p, r)) ∨ (r0 = 0 ∧ ¬ lc_FX c k f s (p, r)) → wpY_isPoint (fun r_1 => (r_1 = 0 → (0 : Int32) = r0 ∧ i_Rel t (nI c, 1, gr', qd, K, F, S, R', H', E', WB', WA', HN', D, Q) (nI c, mo, K, F, S, M, U, Fa)) ∧ (¬ r_1 = 0 → wpY_isIn (fun r_11 => (r_11 = 0 → (0 : Int32) = r0 ∧ i_Rel t (nI c, 1, gr', qd, K, F, S, R', H', E', WB', WA', HN', D, Q) (nI c, mo, K, F, S, M, U, Fa)) ∧ (¬ r_11 = 0 → wpY_isFree (fun r_21 u => (r_21 = 0 → (0 : Int32) = r0 ∧ i_Rel t (nI c, 1, gr', qd, K, F, S, R', H', E', WB', WA', HN', D, Q) u) ∧ (¬ r_21 = 0 → (1 : Int32) = r0 ∧ i_Rel t (nI c, 1, gr', qd, K, F, S, R', H', E', WB', WA', HN', D, Q) u)) (nI c, mo, K, F, S, M, U, Fa) (nI p) (nI r))) (nI c, mo, K, F, S, M, U, Fa) (nI r) 0 3)) (nI c, mo, K, F, S, M, U, Fa) (nI p) := by
        intro r0 h0
        refine ly_isPoint (by omega) (fun _ _ _ => br_f (by decide) ?_) (fun hn => absurd rfl (hn p hp))
        refine ly_isIn3 (fun _ _ _ => br_f (by decide) ?_) (fun hn => absurd rfl (hn r hr))
        rcases h0 with ⟨e, h0⟩ | ⟨e, h0⟩ <;> subst e
        · exact ly_isFree V hp hr (fun _ mo' M' => br_f (by decide) ⟨rfl, lc_mkR V (Or.inr ⟨rfl, T⟩)⟩) (fun w => absurd h0 w)
        · exact ly_isFree V hp hr (fun w => absurd w h0) (fun _ mo' M' => br_t rfl ⟨rfl, lc_mkR V (Or.inr ⟨rfl, T⟩)⟩)
      refine br_c (fun z => fin 0 (Or.inr ⟨rfl, fun y => ?_⟩)) (fun z => fin 1 (Or.inl ⟨rfl, ?_⟩))
      · rw [hT.mpr (Or.inr ⟨rfl, y⟩)] at z; cases z
      · have zt : bt (H' (4 * p + r)) 24 = true := by
          cases hb : bt (H' (4 * p + r)) 24
          · exact absurd hb z
          · rfl
        rcases hT.mp zt with y | y
        · omega
        · exact y.2
    · refine ly_isPoint (by omega) (fun _ _ _ => br_f (by decide) ?_) (fun hn => absurd rfl (hn p hp))
      exact ly_isIn3 (fun r hr e => absurd e (hn r hr)) (fun _ => br_t rfl ⟨rfl, lc_mkR V hst⟩)
  · exact ly_isPoint (by omega) (fun p hp e => absurd e (hn p hp)) (fun _ => br_t rfl ⟨rfl, lc_mkR V hst⟩)
/-- the reference's 'wanted' at a point and a reference -/
theorem ly_wanted (V : lc_V c k f s K F S) {p r : Nat} (hp : p < c) (hr : r < 4) {post : Int32 → SY → Prop} (h1 : lc_RX c k f p ∧ lc_WX c k f s (p, r) → ∀ mo' M' U', post 1 (nI c, mo', K, F, S, M', U', Fa)) (h0 : ¬ (lc_RX c k f p ∧ lc_WX c k f s (p, r)) → ∀ mo' M' U', post 0 (nI c, mo', K, F, S, M', U', Fa)) : wpY_wanted post (nI c, mo, K, F, S, M, U, Fa) (nI p) (nI r) := by
  have hc := V.1
  have O := lc_V_OK V
  unfold wpY_wanted
  dsimp only
  refine ly_isPoint (by omega) (fun _ _ _ => br_f (by decide) ?_) (fun hn => absurd rfl (hn p hp))
  refine ly_isIn3 (fun _ _ _ => br_f (by decide) ?_) (fun hn => absurd rfl (hn r hr))
  refine ly_reachedP V hp (fun hR mo1 M1 => br_f (by decide) ?_) (fun hR mo1 M1 => br_t rfl (h0 (fun z => hR z.1) mo1 M1 U))
  refine ly_findUseful V (fun mo2 U2 hU => ?_)
  dsimp only
  rw [lc_sh1 r hr, lc_i16]
  have hw := lc_pw1 r hr
  rw [nI_clamp (show 16 * p + 2 ^ r < 2 ^ 31 by omega)]
  refine ⟨vp_in_nI (by omega) (by decide), ?_⟩
  have link : lc_UY c k f s (p, 2 ^ r) ↔ lc_WX c k f s (p, r) := by
    rw [lc_L5 O hw]
    constructor
    · rintro ⟨r', h1, h2, h3⟩
      rw [Nat.testBit_two_pow] at h2
      have e := of_decide_eq_true h2
      rw [e]; exact h3
    · intro z; exact ⟨r, hr, Nat.testBit_two_pow_self, z⟩
  rcases lc_ME_at hU (show p < 24 by omega) hw with ⟨e, z⟩ | ⟨e, z⟩
  · rw [e]; exact ⟨narrow_b1, h1 ⟨hR, link.mp z⟩ mo2 M1 U2⟩
  · rw [e]; exact ⟨narrow_b0, h0 (fun y => z (link.mpr y.2)) mo2 M1 U2⟩
theorem lo_wanted (V : lc_V c k f s K F S) (hst : st = 0 ∨ (st = 1 ∧ lc_Std c k f s R H E WB WA)) (v1 v2 : Int32) : wpX_wanted (fun r u' => wpY_wanted (fun r' v' => r' = r ∧ i_Rel t u' v') (nI c, mo, K, F, S, M, U, Fa) v1 v2) (nI c, st, gr, qd, K, F, S, R, H, E, WB, WA, HN, D, Q) v1 v2 := by
  have hc := V.1
  unfold wpX_wanted
  dsimp only
  refine lx_badPoint (by omega) (fun p hp e => br_t rfl ?_) (fun hn => br_f (by decide) ?_)
  · subst e
    refine lx_badRef (fun r hr e => br_t rfl ?_) (fun hn => br_f (by decide) ?_)
    · subst e
      have hin : vp_in (nI p) 24 := vp_in_nI (by omega) (by decide)
      refine lx_study V hst (fun gr' R' H' E' WB' WA' HN' T => ⟨hin, ?_⟩)
      dsimp only
      rw [nI_clamp (show p < 2 ^ 31 by omega), lc_bt1 (show r < 32 by omega), T.2.2.2.1 p r hp (by omega)]
      rcases T.1 p hp with ⟨e, hR⟩ | ⟨e, hR⟩
      · refine br_f (by rw [e]; decide) ⟨hin, br_c (fun z => ?_) (fun z => ?_)⟩
        · exact ly_wanted V hp hr (fun _ mo' M' U' => ⟨rfl, lc_mkR V (Or.inr ⟨rfl, T⟩)⟩) (fun w => absurd ⟨hR, z⟩ w)
        · exact ly_wanted V hp hr (fun w => absurd w.2 z) (fun _ mo' M' U' => ⟨rfl, lc_mkR V (Or.inr ⟨rfl, T⟩)⟩)
      · refine br_t e ?_
        exact ly_wanted V hp hr (fun w => absurd w.1 hR) (fun _ mo' M' U' => ⟨rfl, lc_mkR V (Or.inr ⟨rfl, T⟩)⟩)
    · unfold wpY_wanted
      dsimp only
      refine ly_isPoint (by omega) (fun _ _ _ => br_f (by decide) ?_) (fun hn => absurd rfl (hn p hp))
      exact ly_isIn3 (fun r hr e => absurd e (hn r hr)) (fun _ => br_t rfl ⟨rfl, lc_mkR V hst⟩)
  · unfold wpY_wanted
    dsimp only
    exact ly_isPoint (by omega) (fun p hp e => absurd e (hn p hp)) (fun _ => br_t rfl ⟨rfl, lc_mkR V hst⟩)
theorem lo_conflicts (V : lc_V c k f s K F S) (hst : st = 0 ∨ (st = 1 ∧ lc_Std c k f s R H E WB WA)) (v1 : Int32) : wpX_conflicts (fun r u' => wpY_conflicts (fun r' v' => r' = r ∧ i_Rel t u' v') (nI c, mo, K, F, S, M, U, Fa) v1) (nI c, st, gr, qd, K, F, S, R, H, E, WB, WA, HN, D, Q) v1 := by
  have hc := V.1
  unfold wpX_conflicts wpY_conflicts
  dsimp only
  refine lx_badPoint (by omega) (fun p hp e => br_t rfl ?_) (fun hn => br_f (by decide) ?_)
  · subst e
    refine lx_study V hst (fun gr' R' H' E' WB' WA' HN' T => ?_)
    refine lx_conflictsAt V T hp (fun w hw => ?_)
    refine ly_isPoint (by omega) (fun _ _ _ => br_f (by decide) ?_) (fun hn => absurd rfl (hn p hp))
    exact ly_conflictsAt V hp (fun w' hw' mo' M' U' => ⟨lc_W_eq hw' hw, lc_mkR V (Or.inr ⟨rfl, T⟩)⟩)
  · exact ly_isPoint (by omega) (fun p hp e => absurd e (hn p hp)) (fun _ => br_t rfl ⟨rfl, lc_mkR V hst⟩)
theorem lo_unset (V : lc_V c k f s K F S) (hst : st = 0 ∨ (st = 1 ∧ lc_Std c k f s R H E WB WA)) (v1 : Int32) : wpX_unset (fun r u' => wpY_unset (fun r' v' => r' = r ∧ i_Rel t u' v') (nI c, mo, K, F, S, M, U, Fa) v1) (nI c, st, gr, qd, K, F, S, R, H, E, WB, WA, HN, D, Q) v1 := by
  have hc := V.1
  unfold wpX_unset wpY_unset
  dsimp only
  refine lx_badPoint (by omega) (fun p hp e => br_t rfl ?_) (fun hn => br_f (by decide) ?_)
  · subst e
    refine lx_study V hst (fun gr' R' H' E' WB' WA' HN' T => ?_)
    refine lx_isUnset V T hp (fun a => ⟨narrow_b1, ?_⟩) (fun a => ⟨narrow_b0, ?_⟩)
    · refine ly_isPoint (by omega) (fun _ _ _ => br_f (by decide) ?_) (fun hn => absurd rfl (hn p hp))
      exact ly_isUnset V hp (fun _ mo' M' => br_f (by decide) ⟨rfl, lc_mkR V (Or.inr ⟨rfl, T⟩)⟩) (fun w => absurd a w)
    · refine ly_isPoint (by omega) (fun _ _ _ => br_f (by decide) ?_) (fun hn => absurd rfl (hn p hp))
      exact ly_isUnset V hp (fun w => absurd w a) (fun _ mo' M' => br_t rfl ⟨rfl, lc_mkR V (Or.inr ⟨rfl, T⟩)⟩)
  · exact ly_isPoint (by omega) (fun p hp e => absurd e (hn p hp)) (fun _ => br_t rfl ⟨rfl, lc_mkR V hst⟩)
theorem lo_idle (V : lc_V c k f s K F S) (hst : st = 0 ∨ (st = 1 ∧ lc_Std c k f s R H E WB WA)) (v1 : Int32) : wpX_idle (fun r u' => wpY_idle (fun r' v' => r' = r ∧ i_Rel t u' v') (nI c, mo, K, F, S, M, U, Fa) v1) (nI c, st, gr, qd, K, F, S, R, H, E, WB, WA, HN, D, Q) v1 := by
  have hc := V.1
  unfold wpX_idle wpY_idle
  dsimp only
  refine lx_badPoint (by omega) (fun p hp e => br_t rfl ?_) (fun hn => br_f (by decide) ?_)
  · subst e
    refine lx_study V hst (fun gr' R' H' E' WB' WA' HN' T => ?_)
    refine lx_isIdle V T hp (fun a => ⟨narrow_b1, ?_⟩) (fun a => ⟨narrow_b0, ?_⟩)
    · refine ly_isPoint (by omega) (fun _ _ _ => br_f (by decide) ?_) (fun hn => absurd rfl (hn p hp))
      exact ly_isIdle V hp (fun _ mo' M' => br_f (by decide) ⟨rfl, lc_mkR V (Or.inr ⟨rfl, T⟩)⟩) (fun w => absurd a w)
    · refine ly_isPoint (by omega) (fun _ _ _ => br_f (by decide) ?_) (fun hn => absurd rfl (hn p hp))
      exact ly_isIdle V hp (fun w => absurd w a) (fun _ mo' M' => br_t rfl ⟨rfl, lc_mkR V (Or.inr ⟨rfl, T⟩)⟩)
  · exact ly_isPoint (by omega) (fun p hp e => absurd e (hn p hp)) (fun _ => br_t rfl ⟨rfl, lc_mkR V hst⟩)
theorem lo_faults (V : lc_V c k f s K F S) (hst : st = 0 ∨ (st = 1 ∧ lc_Std c k f s R H E WB WA)) : wpX_faults (fun r u' => wpY_faults (fun r' v' => r' = r ∧ i_Rel t u' v') (nI c, mo, K, F, S, M, U, Fa)) (nI c, st, gr, qd, K, F, S, R, H, E, WB, WA, HN, D, Q) :=
  lx_faults V hst (fun gr' R' H' E' WB' WA' HN' T => ly_faults V (fun mo' M' U' => ⟨rfl, lc_mkR V (Or.inr ⟨rfl, T⟩)⟩))
theorem lo_firstFault (V : lc_V c k f s K F S) (hst : st = 0 ∨ (st = 1 ∧ lc_Std c k f s R H E WB WA)) : wpX_firstFault (fun r u' => wpY_firstFault (fun r' v' => r' = r ∧ i_Rel t u' v') (nI c, mo, K, F, S, M, U, Fa)) (nI c, st, gr, qd, K, F, S, R, H, E, WB, WA, HN, D, Q) := by
  refine lx_firstFault V hst (fun gr' R' H' E' WB' WA' HN' T => ⟨fun p hp ha hn => ?_, fun hn => ?_⟩)
  · refine ly_firstFault V (fun q hq hb hm mo' M' U' => ⟨congrArg nI ?_, lc_mkR V (Or.inr ⟨rfl, T⟩)⟩) (fun hm => absurd ha (hm p hp))
    rcases Nat.lt_trichotomy p q with z | z | z
    · exact absurd ha (hm p z)
    · exact z.symm
    · exact absurd hb (hn q z)
  · exact ly_firstFault V (fun q hq hb => absurd hb (hn q hq)) (fun _ mo' M' U' => ⟨rfl, lc_mkR V (Or.inr ⟨rfl, T⟩)⟩)
theorem lo_span (V : lc_V c k f s K F S) (hst : st = 0 ∨ (st = 1 ∧ lc_Std c k f s R H E WB WA)) (v1 : Int32) : wpX_span (fun r u' => wpY_span (fun r' v' => r' = r ∧ i_Rel t u' v') (nI c, mo, K, F, S, M, U, Fa) v1) (nI c, st, gr, qd, K, F, S, R, H, E, WB, WA, HN, D, Q) v1 := by
  have hc := V.1
  unfold wpX_span wpY_span
  dsimp only
  refine lx_badPoint (by omega) (fun b hb e => br_t rfl ?_) (fun hn => br_f (by decide) ?_)
  · subst e
    refine lx_study V hst (fun gr' R' H' E' WB' WA' HN' T => ?_)
    refine lx_span18 V T hb (fun w hw => ?_)
    refine ly_isPoint (by omega) (fun _ _ _ => br_f (by decide) ?_) (fun hn => absurd rfl (hn b hb))
    refine ly_follow V hb (fun hm hR mo1 M1 hM => br_f (by decide) ?_) (fun hn mo1 M1 => br_t rfl ⟨?_, lc_mkR V (Or.inr ⟨rfl, T⟩)⟩)
    · refine ly_findUseful V (fun mo2 U2 hU => ?_)
      exact ly_span28 V hb hm hR hM hU (fun w' hw' => ⟨lc_W_eq hw' hw, lc_mkR V (Or.inr ⟨rfl, T⟩)⟩)
    · refine ((lc_W_0 hw).mpr (fun i hi z => ?_)).symm
      obtain ⟨_, r, _, _, hh⟩ := z
      exact hn (lc_HX_mk hh)
  · exact ly_isPoint (by omega) (fun p hp e => absurd e (hn p hp)) (fun _ => br_t rfl ⟨rfl, lc_mkR V hst⟩)
theorem lo_broken (V : lc_V c k f s K F S) (hst : st = 0 ∨ (st = 1 ∧ lc_Std c k f s R H E WB WA)) : wpX_broken (fun r u' => wpY_broken (fun r' v' => r' = r ∧ i_Rel t u' v') (nI c, mo, K, F, S, M, U, Fa)) (nI c, st, gr, qd, K, F, S, R, H, E, WB, WA, HN, D, Q) := by
  unfold wpX_broken
  dsimp only
  refine lx_study V hst (fun gr' R' H' E' WB' WA' HN' T => ?_)
  refine lx_broken8 V T ?_
  exact ly_broken V (fun mo' M' U' => ⟨rfl, lc_mkR V (Or.inr ⟨rfl, T⟩)⟩)
end
end
section
section
variable {c : Nat} {k f s : Nat → Nat} {st gr qd mo : Int32} {K F S R H E WB WA HN D Q M U Fa : Nat → Int32} {t : Nat}
theorem lo_shown (V : lc_V c k f s K F S) (hst : st = 0 ∨ (st = 1 ∧ lc_Std c k f s R H E WB WA)) (v1 v2 : Int32) : wpX_shown (fun r u' => wpY_shown (fun r' v' => r' = r ∧ i_Rel t u' v') (nI c, mo, K, F, S, M, U, Fa) v1 v2) (nI c, st, gr, qd, K, F, S, R, H, E, WB, WA, HN, D, Q) v1 v2 := by
  have hc := V.1
  unfold wpX_shown wpY_shown
  dsimp only
  refine lx_badPoint (by omega) (fun b hb e => br_t rfl ?_) (fun hn => br_f (by decide) ?_)
  · subst e
    refine lx_badPoint (by omega) (fun g hg e => br_t rfl ?_) (fun hn => br_f (by decide) ?_)
    · subst e
      refine lx_disturbs V hg hb (fun ha => br_f (by decide) ?_) (fun ha => br_t rfl ?_)
      · refine lx_shown32 V hb hg ha.1 (fun n hn hT hmin qd' D' Q' => ?_) (fun hno qd' D' Q' => ?_)
        · refine ly_isPoint (by omega) (fun _ _ _ => br_f (by decide) ?_) (fun hn => absurd rfl (hn b hb))
          refine ly_isPoint (by omega) (fun _ _ _ => br_f (by decide) ?_) (fun hn => absurd rfl (hn g hg))
          refine ly_makes V hb (fun hm => br_f (by decide) ?_) (fun hm => absurd ha.1 hm)
          refine ly_isAgainst V hg hb hm (fun _ => br_f (by decide) ?_) (fun w => absurd ha w)
          refine ly_sh40 V hb hm hg (fun n' hn' hT' hmin' mo' Fa' => ⟨congrArg nI ?_, lc_mkR V hst⟩) (fun hno => absurd hT (hno n (by omega)))
          rcases Nat.lt_trichotomy n' n with z | z | z
          · exact absurd hT' (hmin n' z)
          · rw [z]
          · exact absurd hT (hmin' n z)
        · refine ly_isPoint (by omega) (fun _ _ _ => br_f (by decide) ?_) (fun hn => absurd rfl (hn b hb))
          refine ly_isPoint (by omega) (fun _ _ _ => br_f (by decide) ?_) (fun hn => absurd rfl (hn g hg))
          refine ly_makes V hb (fun hm => br_f (by decide) ?_) (fun hm => absurd ha.1 hm)
          refine ly_isAgainst V hg hb hm (fun _ => br_f (by decide) ?_) (fun w => absurd ha w)
          exact ly_sh40 V hb hm hg (fun n' hn' hT' => absurd hT' (hno n')) (fun _ mo' Fa' => ⟨rfl, lc_mkR V hst⟩)
      · refine ly_isPoint (by omega) (fun _ _ _ => br_f (by decide) ?_) (fun hn => absurd rfl (hn b hb))
        refine ly_isPoint (by omega) (fun _ _ _ => br_f (by decide) ?_) (fun hn => absurd rfl (hn g hg))
        refine ly_makes V hb (fun hm => br_f (by decide) ?_) (fun hm => br_t rfl ⟨rfl, lc_mkR V hst⟩)
        exact ly_isAgainst V hg hb hm (fun w => absurd w ha) (fun _ => br_t rfl ⟨rfl, lc_mkR V hst⟩)
    · refine ly_isPoint (by omega) (fun _ _ _ => br_f (by decide) ?_) (fun hn => absurd rfl (hn b hb))
      exact ly_isPoint (by omega) (fun p hp e => absurd e (hn p hp)) (fun _ => br_t rfl ⟨rfl, lc_mkR V hst⟩)
  · exact ly_isPoint (by omega) (fun p hp e => absurd e (hn p hp)) (fun _ => br_t rfl ⟨rfl, lc_mkR V hst⟩)
end
end
section
/-! ===== what is owed ===== -/
theorem i_up {k : Nat} {u : SX} {v : SY} (h : i_Rel k u v) : i_Rel (k + 5) u v := h
theorem i_vc0 : wpX_init (fun u => wpY_init (fun v => i_Rel 0 u v)) := by
  unfold wpX_init wpY_init
  exact ⟨rfl, rfl, rfl, rfl, 0, fun _ => 0, fun _ => 0, fun _ => 0, rfl, ⟨by decide, fun p hp => absurd hp (Nat.not_lt_zero p)⟩, Or.inl rfl⟩
theorem i_vc_point {k : Nat} {u : SX} {v : SY} (I : i_Rel k u v) (hk : k + 5 ≤ 2560) (v1 : Int32) (v2 : Int32) (v3 : Int32) : wpX_point (fun r u' => wpY_point (fun r' v' => r' = r ∧ i_Rel (k + 5) u' v') v v1 v2 v3) u v1 v2 v3 :=
  lc_el (P := fun u v => wpX_point (fun r u' => wpY_point (fun r' v' => r' = r ∧ i_Rel (k + 5) u' v') v v1 v2 v3) u v1 v2 v3) I (fun V hst => lo_point V hst v1 v2 v3)
theorem i_vc_change {k : Nat} {u : SX} {v : SY} (I : i_Rel k u v) (hk : k + 5 ≤ 2560) (v1 : Int32) (v2 : Int32) (v3 : Int32) (v4 : Int32) : wpX_change (fun r u' => wpY_change (fun r' v' => r' = r ∧ i_Rel (k + 5) u' v') v v1 v2 v3 v4) u v1 v2 v3 v4 :=
  lc_el (P := fun u v => wpX_change (fun r u' => wpY_change (fun r' v' => r' = r ∧ i_Rel (k + 5) u' v') v v1 v2 v3 v4) u v1 v2 v3 v4) I (fun V hst => lo_change V hst v1 v2 v3 v4)
theorem i_vc_drop {k : Nat} {u : SX} {v : SY} (I : i_Rel k u v) (hk : k + 5 ≤ 2560) : wpX_drop (fun r u' => wpY_drop (fun r' v' => r' = r ∧ i_Rel (k + 5) u' v') v) u :=
  lc_el (P := fun u v => wpX_drop (fun r u' => wpY_drop (fun r' v' => r' = r ∧ i_Rel (k + 5) u' v') v) u) I (fun V hst => lo_drop V hst)
theorem i_vc_points {k : Nat} {u : SX} {v : SY} (I : i_Rel k u v) (hk : k + 5 ≤ 2560) : wpX_points (fun r => wpY_points (fun r' => r' = r ∧ i_Rel (k + 5) u v) v) u :=
  lc_el (P := fun u v => wpX_points (fun r => wpY_points (fun r' => r' = r ∧ i_Rel (k + 5) u v) v) u) I (fun V hst => lo_points V hst)
theorem i_vc_reached {k : Nat} {u : SX} {v : SY} (I : i_Rel k u v) (hk : k + 5 ≤ 2560) (v1 : Int32) : wpX_reached (fun r u' => wpY_reached (fun r' v' => r' = r ∧ i_Rel (k + 5) u' v') v v1) u v1 :=
  lc_el (P := fun u v => wpX_reached (fun r u' => wpY_reached (fun r' v' => r' = r ∧ i_Rel (k + 5) u' v') v v1) u v1) I (fun V hst => lo_reached V hst v1)
theorem i_vc_holds {k : Nat} {u : SX} {v : SY} (I : i_Rel k u v) (hk : k + 5 ≤ 2560) (v1 : Int32) (v2 : Int32) : wpX_holds (fun r u' => wpY_holds (fun r' v' => r' = r ∧ i_Rel (k + 5) u' v') v v1 v2) u v1 v2 :=
  lc_el (P := fun u v => wpX_holds (fun r u' => wpY_holds (fun r' v' => r' = r ∧ i_Rel (k + 5) u' v') v v1 v2) u v1 v2) I (fun V hst => lo_holds V hst v1 v2)
theorem i_vc_free {k : Nat} {u : SX} {v : SY} (I : i_Rel k u v) (hk : k + 5 ≤ 2560) (v1 : Int32) (v2 : Int32) : wpX_free (fun r u' => wpY_free (fun r' v' => r' = r ∧ i_Rel (k + 5) u' v') v v1 v2) u v1 v2 :=
  lc_el (P := fun u v => wpX_free (fun r u' => wpY_free (fun r' v' => r' = r ∧ i_Rel (k + 5) u' v') v v1 v2) u v1 v2) I (fun V hst => lo_free V hst v1 v2)
theorem i_vc_wanted {k : Nat} {u : SX} {v : SY} (I : i_Rel k u v) (hk : k + 5 ≤ 2560) (v1 : Int32) (v2 : Int32) : wpX_wanted (fun r u' => wpY_wanted (fun r' v' => r' = r ∧ i_Rel (k + 5) u' v') v v1 v2) u v1 v2 :=
  lc_el (P := fun u v => wpX_wanted (fun r u' => wpY_wanted (fun r' v' => r' = r ∧ i_Rel (k + 5) u' v') v v1 v2) u v1 v2) I (fun V hst => lo_wanted V hst v1 v2)
theorem i_vc_conflicts {k : Nat} {u : SX} {v : SY} (I : i_Rel k u v) (hk : k + 5 ≤ 2560) (v1 : Int32) : wpX_conflicts (fun r u' => wpY_conflicts (fun r' v' => r' = r ∧ i_Rel (k + 5) u' v') v v1) u v1 :=
  lc_el (P := fun u v => wpX_conflicts (fun r u' => wpY_conflicts (fun r' v' => r' = r ∧ i_Rel (k + 5) u' v') v v1) u v1) I (fun V hst => lo_conflicts V hst v1)
theorem i_vc_unset {k : Nat} {u : SX} {v : SY} (I : i_Rel k u v) (hk : k + 5 ≤ 2560) (v1 : Int32) : wpX_unset (fun r u' => wpY_unset (fun r' v' => r' = r ∧ i_Rel (k + 5) u' v') v v1) u v1 :=
  lc_el (P := fun u v => wpX_unset (fun r u' => wpY_unset (fun r' v' => r' = r ∧ i_Rel (k + 5) u' v') v v1) u v1) I (fun V hst => lo_unset V hst v1)
theorem i_vc_idle {k : Nat} {u : SX} {v : SY} (I : i_Rel k u v) (hk : k + 5 ≤ 2560) (v1 : Int32) : wpX_idle (fun r u' => wpY_idle (fun r' v' => r' = r ∧ i_Rel (k + 5) u' v') v v1) u v1 :=
  lc_el (P := fun u v => wpX_idle (fun r u' => wpY_idle (fun r' v' => r' = r ∧ i_Rel (k + 5) u' v') v v1) u v1) I (fun V hst => lo_idle V hst v1)
theorem i_vc_faults {k : Nat} {u : SX} {v : SY} (I : i_Rel k u v) (hk : k + 5 ≤ 2560) : wpX_faults (fun r u' => wpY_faults (fun r' v' => r' = r ∧ i_Rel (k + 5) u' v') v) u :=
  lc_el (P := fun u v => wpX_faults (fun r u' => wpY_faults (fun r' v' => r' = r ∧ i_Rel (k + 5) u' v') v) u) I (fun V hst => lo_faults V hst)
theorem i_vc_firstFault {k : Nat} {u : SX} {v : SY} (I : i_Rel k u v) (hk : k + 5 ≤ 2560) : wpX_firstFault (fun r u' => wpY_firstFault (fun r' v' => r' = r ∧ i_Rel (k + 5) u' v') v) u :=
  lc_el (P := fun u v => wpX_firstFault (fun r u' => wpY_firstFault (fun r' v' => r' = r ∧ i_Rel (k + 5) u' v') v) u) I (fun V hst => lo_firstFault V hst)
theorem i_vc_span {k : Nat} {u : SX} {v : SY} (I : i_Rel k u v) (hk : k + 5 ≤ 2560) (v1 : Int32) : wpX_span (fun r u' => wpY_span (fun r' v' => r' = r ∧ i_Rel (k + 5) u' v') v v1) u v1 :=
  lc_el (P := fun u v => wpX_span (fun r u' => wpY_span (fun r' v' => r' = r ∧ i_Rel (k + 5) u' v') v v1) u v1) I (fun V hst => lo_span V hst v1)
theorem i_vc_broken {k : Nat} {u : SX} {v : SY} (I : i_Rel k u v) (hk : k + 5 ≤ 2560) : wpX_broken (fun r u' => wpY_broken (fun r' v' => r' = r ∧ i_Rel (k + 5) u' v') v) u :=
  lc_el (P := fun u v => wpX_broken (fun r u' => wpY_broken (fun r' v' => r' = r ∧ i_Rel (k + 5) u' v') v) u) I (fun V hst => lo_broken V hst)
theorem i_vc_shown {k : Nat} {u : SX} {v : SY} (I : i_Rel k u v) (hk : k + 5 ≤ 2560) (v1 : Int32) (v2 : Int32) : wpX_shown (fun r u' => wpY_shown (fun r' v' => r' = r ∧ i_Rel (k + 5) u' v') v v1 v2) u v1 v2 :=
  lc_el (P := fun u v => wpX_shown (fun r u' => wpY_shown (fun r' v' => r' = r ∧ i_Rel (k + 5) u' v') v v1 v2) u v1 v2) I (fun V hst => lo_shown V hst v1 v2)
end
