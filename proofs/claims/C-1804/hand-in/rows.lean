section
theorem pk_us {f : Nat → Int32} {k : Nat} {x : Int32} : upd f k x k = x := if_pos rfl
theorem pk_un {f : Nat → Int32} {k j : Nat} {x : Int32} (h : j ≠ k) : upd f k x j = f j := if_neg h
theorem pk_uLs {f : Nat → Int64} {k : Nat} {x : Int64} : vp_updL f k x k = x := if_pos rfl
theorem pk_uLn {f : Nat → Int64} {k j : Nat} {x : Int64} (h : j ≠ k) : vp_updL f k x j = f j := if_neg h
theorem pk_sub {a b : Nat} (h : b ≤ a) : nI a - nI b = nI (a - b) := by
  obtain ⟨c, rfl⟩ : ∃ c, a = c + b := ⟨a - b, by omega⟩
  rw [← nI_add, Int32.add_sub_cancel, Nat.add_sub_cancel]
theorem pk_m1 (n : Nat) : nI (n + 1) + (-1) = nI n := by
  rw [← nI_1, Int32.add_assoc, show (1 : Int32) + (-1) = 0 from rfl, Int32.add_zero]
theorem pk_mul (a b : Nat) : nI a * nI b = nI (a * b) := (Int32.ofNat_mul a b).symm
theorem pk_div {a d : Nat} (ha : a < 2 ^ 31) (h0 : 0 < d) (hd : d < 2 ^ 31) : nI a / nI d = nI (a / d) := by
  apply Int32.toInt_inj.mp
  rw [lg_idiv_nonneg (by rw [nI_toInt ha]; omega) (by rw [nI_toInt hd]; omega), nI_toInt ha, nI_toInt hd, nI_toInt (Nat.lt_of_le_of_lt (Nat.div_le_self a d) ha)]
  first | rfl | exact (Int.natCast_ediv _ _).symm
theorem pk_rem {a d : Nat} (ha : a < 2 ^ 31) (h0 : 0 < d) (hd : d < 2 ^ 31) : nI a - nI a / nI d * nI d = nI (a % d) := by
  rw [pk_div ha h0 hd, pk_mul, pk_sub (Nat.div_mul_le_self a d)]
  exact congrArg nI (by have := Nat.div_add_mod' a d; omega)
theorem pk_sub_toInt {a b : Nat} (ha : a < 2 ^ 30) (hb : b < 2 ^ 30) : (nI a - nI b).toInt = (a : Int) - b := by
  rw [Int32.toInt_sub, nI_toInt (by omega), nI_toInt (by omega)]
  exact Int.bmod_eq_of_le (by omega) (by omega)
theorem pk_sneg {a b : Nat} (hb : b < 2 ^ 30) (h : a < b) : nI a - nI b < 0 := by
  rw [Int32.lt_iff_toInt_lt, pk_sub_toInt (by omega) hb, show (0 : Int32).toInt = 0 from by decide]
  omega
theorem pk_ix (x : Int32) {n : Nat} (hn : n < 2 ^ 31) : x < 0 ∨ nI n ≤ x ∨ ∃ j : Nat, j < n ∧ x = nI j := by
  by_cases h : x < 0
  · exact Or.inl h
  · obtain ⟨j, hj, rfl⟩ := nI_of h
    by_cases h2 : j < n
    · exact Or.inr (Or.inr ⟨j, h2, rfl⟩)
    · exact Or.inr (Or.inl (nI_le (by omega) hj))
theorem pk_le {x y : Int32} {A B : Prop} (a b : Nat) (f : a ≤ b → A) (g : b < a → B) (hx : x = nI a := by rfl) (hy : y = nI b := by rfl) (ha : a < 2 ^ 31 := by omega) (hb : b < 2 ^ 31 := by omega) : (x ≤ y → A) ∧ (¬ x ≤ y → B) := by
  subst hx hy
  rw [nI_leI ha hb]
  exact ⟨f, fun z => g (by omega)⟩
theorem pk_lt {x y : Int32} {A B : Prop} (a b : Nat) (f : a < b → A) (g : b ≤ a → B) (hx : x = nI a := by rfl) (hy : y = nI b := by rfl) (ha : a < 2 ^ 31 := by omega) (hb : b < 2 ^ 31 := by omega) : (x < y → A) ∧ (¬ x < y → B) := by
  subst hx hy
  rw [nI_ltI ha hb]
  exact ⟨f, fun z => g (by omega)⟩
theorem pk_eq {x y : Int32} {A B : Prop} (a b : Nat) (f : a = b → A) (g : a ≠ b → B) (hx : x = nI a := by rfl) (hy : y = nI b := by rfl) (ha : a < 2 ^ 31 := by omega) (hb : b < 2 ^ 31 := by omega) : (x = y → A) ∧ (¬ x = y → B) := by
  subst hx hy
  rw [nI_eq ha hb]
  exact ⟨f, g⟩
theorem pk_in {x : Int32} (n N : Nat) (h : n < N) (hx : x = nI n := by rfl) (hN : N < 2 ^ 31 := by omega) : vp_in x N := by
  subst hx
  exact vp_in_nI h hN
theorem pk_cl {x : Int32} (n : Nat) (hx : x = nI n := by rfl) (h : n < 2 ^ 31 := by omega) : x.toNatClampNeg = n := by
  subst hx
  exact nI_clamp h
theorem pk_tn {n : Nat} (h : n < 2 ^ 32) : (nI n).toBitVec.toNat = n := Nat.mod_eq_of_lt h
theorem pk_and (x : Int32) {m : Int32} (k : Nat) (hm : m.toBitVec.toNat = 2 ^ k - 1) : x &&& m = nI (x.toBitVec.toNat % 2 ^ k) := by
  apply Int32.toBitVec_inj.mp
  apply BitVec.eq_of_toNat_eq
  rw [Int32.toBitVec_and, BitVec.toNat_and, hm, Nat.and_two_pow_sub_one_eq_mod]
  show _ = (BitVec.ofNat 32 _).toNat
  rw [BitVec.toNat_ofNat]
  exact (Nat.mod_eq_of_lt (Nat.lt_of_le_of_lt (Nat.mod_le _ _) x.toBitVec.isLt)).symm
theorem pk_andN {n : Nat} (h : n < 2 ^ 32) {m : Int32} (k : Nat) (hm : m.toBitVec.toNat = 2 ^ k - 1) : nI n &&& m = nI (n % 2 ^ k) := by
  rw [pk_and _ k hm, pk_tn h]
theorem pk_andE (x : Int32) {m : Int32} (k : Nat) (hm : m.toBitVec.toNat = 2 ^ k - 1) : ∃ j : Nat, j < 2 ^ k ∧ x &&& m = nI j := ⟨_, Nat.mod_lt _ (Nat.two_pow_pos k), pk_and x k hm⟩
theorem pk_andIn (x : Int32) {m : Int32} (k : Nat) (hm : m.toBitVec.toNat = 2 ^ k - 1) (hk : k ≤ 30) : vp_in (x &&& m) (2 ^ k) := by
  obtain ⟨j, hj, e⟩ := pk_andE x k hm
  rw [e]
  exact vp_in_nI hj (Nat.lt_of_le_of_lt (Nat.pow_le_pow_right (by decide) hk) (by decide))
theorem pk_shl (a s : Int32) (k : Nat) (hs : (s.toBitVec.smod 32).toNat = k) : (a <<< s).toBitVec.toNat = a.toBitVec.toNat * 2 ^ k % 2 ^ 32 := by
  show (a.toBitVec <<< (s.toBitVec.smod 32).toNat).toNat = _
  rw [hs, BitVec.toNat_shiftLeft, Nat.shiftLeft_eq]
theorem pk_shlN {n : Nat} (s : Int32) (k : Nat) (hs : (s.toBitVec.smod 32).toNat = k) (h : n * 2 ^ k < 2 ^ 32) : nI n <<< s = nI (n * 2 ^ k) := by
  apply Int32.toBitVec_inj.mp
  apply BitVec.eq_of_toNat_eq
  have hn : n < 2 ^ 32 := Nat.lt_of_le_of_lt (Nat.le_mul_of_pos_right n (Nat.two_pow_pos k)) h
  rw [pk_shl _ _ k hs, pk_tn hn, pk_tn h, Nat.mod_eq_of_lt h]
theorem pk_shr (a s : Int32) (k : Nat) (hs : (s.toBitVec.smod 32).toNat = k) : (a >>> s).toInt = a.toInt >>> k := by
  show (a.toBitVec.sshiftRight (s.toBitVec.smod 32).toNat).toInt = _
  rw [hs, BitVec.toInt_sshiftRight]
  rfl
theorem pk_shrN {n : Nat} (h : n < 2 ^ 31) (s : Int32) (k : Nat) (hs : (s.toBitVec.smod 32).toNat = k) : nI n >>> s = nI (n / 2 ^ k) := by
  apply Int32.toInt_inj.mp
  have h2 : n / 2 ^ k ≤ n := Nat.div_le_self _ _
  rw [pk_shr _ _ k hs, nI_toInt h, nI_toInt (by omega), Int.shiftRight_eq_div_pow]
  rfl
theorem pk_ushr (x s : Int32) (k : Nat) (hs : ((s.toUInt32 &&& Int32.toUInt32 31).toBitVec % 32).toNat = k) : (x.toUInt32 >>> (s.toUInt32 &&& Int32.toUInt32 31)).toInt32.toBitVec.toNat = x.toBitVec.toNat / 2 ^ k := by
  have e : (x.toUInt32 >>> (s.toUInt32 &&& Int32.toUInt32 31)).toInt32.toBitVec = x.toBitVec >>> k := by
    rw [← hs]
    exact UInt32.toBitVec_shiftRight _ _
  rw [e, BitVec.toNat_ushiftRight, Nat.shiftRight_eq_div_pow]
theorem pk_ushrN {n : Nat} (hn : n < 2 ^ 32) (s : Int32) (k : Nat) (hs : ((s.toUInt32 &&& Int32.toUInt32 31).toBitVec % 32).toNat = k) : ((nI n).toUInt32 >>> (s.toUInt32 &&& Int32.toUInt32 31)).toInt32 = nI (n / 2 ^ k) := by
  apply Int32.toBitVec_inj.mp
  apply BitVec.eq_of_toNat_eq
  rw [pk_ushr _ s k hs, pk_tn hn, pk_tn (Nat.lt_of_le_of_lt (Nat.div_le_self _ _) hn)]
theorem pk_nb (z : Int32) : narrow .byte (.int z.toInt8.toInt32) = .int z.toInt8.toInt32 := congrArg Value.int (by simp)
theorem pk_ns (z : Int32) : narrow .short (.int z.toInt16.toInt32) = .int z.toInt16.toInt32 := congrArg Value.int (by simp)
theorem pk_fb (r : Int32) : fits .byte (.int r.toInt8.toInt32) = true := by
  have ⟨a, b⟩ := lg_i2b_range r
  have h1 : (-128 : Int32).toInt = -128 := by decide
  have h2 : (127 : Int32).toInt = 127 := by decide
  simp only [fits, Bool.and_eq_true, decide_eq_true_eq, Int32.le_iff_toInt_le, h1, h2]
  omega
theorem pk_fs (r : Int32) : fits .short (.int r.toInt16.toInt32) = true := by
  have ⟨a, b⟩ := lg_i2s_range r
  have h1 : (-32768 : Int32).toInt = -32768 := by decide
  have h2 : (32767 : Int32).toInt = 32767 := by decide
  simp only [fits, Bool.and_eq_true, decide_eq_true_eq, Int32.le_iff_toInt_le, h1, h2]
  omega
theorem pk_charN {q : Nat} (hq : q < 65536) : narrow .char (.int (nI q)) = .int (nI q) ∧ fits .char (.int (nI q)) = true := by
  constructor
  · have e : (nI q).toUInt32.toUInt16.toUInt32.toInt32 = nI q := by
      apply Int32.toBitVec_inj.mp
      apply BitVec.eq_of_toNat_eq
      show (nI q).toUInt32.toUInt16.toUInt32.toNat = q % 2 ^ 32
      rw [UInt16.toNat_toUInt32, UInt32.toNat_toUInt16, show (nI q).toUInt32.toNat = q % 2 ^ 32 from rfl]
      omega
    exact congrArg Value.int e
  · have a : (0 : Int32) ≤ nI q := nI_pos' (by omega)
    have b : nI q ≤ 65535 := nI_le (b := 65535) (by omega) (by decide)
    show (decide ((0 : Int32) ≤ nI q) && decide (nI q ≤ 65535)) = true
    rw [decide_eq_true a, decide_eq_true b]
    rfl
theorem pk_char (x : Int32) : (x.toUInt32 % 65536).toInt32 = nI (x.toBitVec.toNat % 65536) := by
  apply Int32.toBitVec_inj.mp
  apply BitVec.eq_of_toNat_eq
  rw [pk_tn (by omega)]
  show (x.toUInt32 % 65536).toNat = _
  rw [UInt32.toNat_mod]
  rfl
theorem pk_nc (x : Int32) : narrow .char (.int (x.toUInt32 % 65536).toInt32) = .int (x.toUInt32 % 65536).toInt32 := by
  rw [pk_char]
  exact (pk_charN (Nat.mod_lt _ (by decide))).1
theorem pk_fc (x : Int32) : fits .char (.int (x.toUInt32 % 65536).toInt32) = true := by
  rw [pk_char]
  exact (pk_charN (Nat.mod_lt _ (by decide))).2
theorem pk_vb (z : Int32) : vp_nar .byte z.toInt8.toInt32 = z.toInt8.toInt32 := by rw [vp_nar_byte]; simp
theorem pk_vs (z : Int32) : vp_nar .short z.toInt16.toInt32 = z.toInt16.toInt32 := by rw [vp_nar_short]; simp
theorem pk_vc (z : Int32) : vp_nar .char (z.toUInt32 % 65536).toInt32 = (z.toUInt32 % 65536).toInt32 := Value.int.inj (pk_nc z)
theorem pk_lT {n : Nat} (h : n < 2 ^ 63) : (lN n).toInt = (n : Int) := lg_ofNat_toInt h
theorem pk_lLT {a b : Nat} (ha : a < 2 ^ 63) (hb : b < 2 ^ 63) : lN a < lN b ↔ a < b := by
  rw [Int64.lt_iff_toInt_lt, pk_lT ha, pk_lT hb]; omega
theorem pk_lLE {a b : Nat} (ha : a < 2 ^ 63) (hb : b < 2 ^ 63) : lN a ≤ lN b ↔ a ≤ b := by
  rw [Int64.le_iff_toInt_le, pk_lT ha, pk_lT hb]; omega
theorem pk_lEQ {a b : Nat} (ha : a < 2 ^ 63) (hb : b < 2 ^ 63) : lN a = lN b ↔ a = b := by
  rw [← Int64.toInt_inj, pk_lT ha, pk_lT hb]; omega
theorem pk_lOf {x : Int64} (h : ¬ x < 0) : ∃ k : Nat, k < 2 ^ 63 ∧ x = lN k := by
  rw [Int64.lt_iff_toInt_lt] at h
  have h0 : (0 : Int64).toInt = 0 := by decide
  have hx := Int64.toInt_lt x
  refine ⟨x.toInt.toNat, by omega, Int64.toInt_inj.mp ?_⟩
  rw [pk_lT (by omega)]
  omega
theorem pk_lDiv {a b : Nat} (ha : a < 2 ^ 63) (h0 : 0 < b) (hb : b < 2 ^ 63) : lN a / lN b = lN (a / b) := by
  apply Int64.toInt_inj.mp
  rw [lg_ldiv_nonneg (by rw [pk_lT ha]; omega) (by rw [pk_lT hb]; omega), pk_lT ha, pk_lT hb, pk_lT (Nat.lt_of_le_of_lt (Nat.div_le_self a b) ha)]
  rfl
theorem pk_lRem {a b : Nat} (ha : a < 2 ^ 63) (h0 : 0 < b) (hb : b < 2 ^ 63) : lN a - lN a / lN b * lN b = lN (a % b) := by
  rw [pk_lDiv ha h0 hb, lN_mul, lN_sub (Nat.div_mul_le_self a b)]
  exact congrArg lN (by have := Nat.div_add_mod' a b; omega)
theorem pk_loop {σ : Type} (W : Nat → Nat → σ → Prop) (I : Nat → σ → Prop) (e i0 : Nat) (s : σ) (hi : i0 ≤ e) (h0 : I i0 s) (hx : ∀ n s, I e s → W (n + 1) e s)
    (hs : ∀ n i s, i < e → I i s → (∀ s', I (i + 1) s' → W n (i + 1) s') → W (n + 1) i s) : ∃ n, W n i0 s :=
  ⟨e + 1, loop_i W I e hx hs (e + 1) i0 s hi (by omega) h0⟩
theorem pk_loopD {σ : Type} (W : Nat → Nat → σ → Prop) (I : Nat → σ → Prop) (hx : ∀ n s, I 0 s → W (n + 1) 0 s)
    (hs : ∀ n i s, I (i + 1) s → (∀ s', I i s' → W n i s') → W (n + 1) (i + 1) s) : ∀ (e : Nat) (s : σ), I e s → W (e + 1) e s := by
  intro e
  induction e with
  | zero => exact fun s h => hx 0 s h
  | succ e ih => exact fun s h => hs (e + 1) e s h (fun s' h' => ih s' h')
def bt (x : Int32) (i : Nat) : Bool := x.toBitVec.getLsbD i
theorem b_ext {x y : Int32} (h : ∀ i, i < 32 → bt x i = bt y i) : x = y := Int32.toBitVec_inj.mp (BitVec.eq_of_getLsbD_eq (fun i hi => h i hi))
theorem b_or (x y : Int32) (i : Nat) : bt (x ||| y) i = (bt x i || bt y i) := by unfold bt; rw [Int32.toBitVec_or, BitVec.getLsbD_or]
theorem b_and (x y : Int32) (i : Nat) : bt (x &&& y) i = (bt x i && bt y i) := by unfold bt; rw [Int32.toBitVec_and, BitVec.getLsbD_and]
theorem b_xor (x y : Int32) (i : Nat) : bt (x ^^^ y) i = (bt x i ^^ bt y i) := by unfold bt; rw [Int32.toBitVec_xor, BitVec.getLsbD_xor]
theorem b_big {x : Int32} {i : Nat} (h : 32 ≤ i) : bt x i = false := BitVec.getLsbD_of_ge _ _ h
theorem b_255 (i : Nat) : bt 255 i = decide (i < 8) := by
  rcases Nat.lt_or_ge i 32 with h | h
  · exact (by decide +kernel : ∀ i, i < 32 → bt 255 i = decide (i < 8)) i h
  · rw [b_big h, decide_eq_false (by omega)]
theorem b_65535 (i : Nat) : bt 65535 i = decide (i < 16) := by
  rcases Nat.lt_or_ge i 32 with h | h
  · exact (by decide +kernel : ∀ i, i < 32 → bt 65535 i = decide (i < 16)) i h
  · rw [b_big h, decide_eq_false (by omega)]
theorem b_m1 : ∀ i, i < 32 → bt (-1) i = true := by decide +kernel
theorem b_0 (i : Nat) : bt 0 i = false := BitVec.getLsbD_zero
theorem s_l : ∀ n, n < 32 → ((nI n &&& 31).toBitVec.smod 32).toNat = n := by decide +kernel
theorem s_u : ∀ n, n < 32 → (((nI n).toUInt32 &&& Int32.toUInt32 31).toBitVec % 32).toNat = n := by decide +kernel
theorem b_shl (n : Nat) (hn : n < 32) (x : Int32) {i : Nat} (hi : i < 32) : bt (x <<< (nI n &&& 31)) i = (decide (n ≤ i) && bt x (i - n)) := by
  unfold bt
  rw [Int32.toBitVec_shiftLeft]
  show (x.toBitVec <<< ((nI n &&& 31).toBitVec.smod 32).toNat).getLsbD i = _
  rw [s_l n hn, BitVec.getLsbD_shiftLeft]
  rcases Nat.lt_or_ge i n with h | h
  · simp [h, Nat.not_le.mpr h]
  · simp [hi, h, Nat.not_lt.mpr h]
theorem b_ushr (n : Nat) (hn : n < 32) (x : Int32) (i : Nat) : bt ((x.toUInt32 >>> ((nI n).toUInt32 &&& Int32.toUInt32 31)).toInt32) i = bt x (n + i) := by
  show (x.toUInt32 >>> ((nI n).toUInt32 &&& Int32.toUInt32 31)).toBitVec.getLsbD i = x.toUInt32.toBitVec.getLsbD (n + i)
  rw [UInt32.toBitVec_shiftRight]
  show (x.toUInt32.toBitVec >>> (((nI n).toUInt32 &&& Int32.toUInt32 31).toBitVec % 32).toNat).getLsbD i = _
  rw [s_u n hn, BitVec.getLsbD_ushiftRight]
theorem b_sshr (n : Nat) (hn : n < 32) (x : Int32) {i : Nat} (hi : i < 32) : bt (x >>> (nI n &&& 31)) i = if n + i < 32 then bt x (n + i) else bt x 31 := by
  unfold bt
  rw [Int32.toBitVec_shiftRight]
  show (x.toBitVec.sshiftRight ((nI n &&& 31).toBitVec.smod 32).toNat).getLsbD i = _
  rw [s_l n hn, BitVec.getLsbD_sshiftRight, BitVec.msb_eq_getLsbD_last]
  simp [hi]
theorem b_shl8 (x : Int32) {i : Nat} (hi : i < 32) : bt (x <<< ((8 : Int32) &&& 31)) i = (decide (8 ≤ i) && bt x (i - 8)) := b_shl 8 (by omega) x hi
theorem b_shl16 (x : Int32) {i : Nat} (hi : i < 32) : bt (x <<< ((16 : Int32) &&& 31)) i = (decide (16 ≤ i) && bt x (i - 16)) := b_shl 16 (by omega) x hi
theorem b_shl24 (x : Int32) {i : Nat} (hi : i < 32) : bt (x <<< ((24 : Int32) &&& 31)) i = (decide (24 ≤ i) && bt x (i - 24)) := b_shl 24 (by omega) x hi
theorem b_sshr8 (x : Int32) {i : Nat} (hi : i < 32) : bt (x >>> ((8 : Int32) &&& 31)) i = if 8 + i < 32 then bt x (8 + i) else bt x 31 := b_sshr 8 (by omega) x hi
theorem nx_and (a b : Nat) : nI a &&& nI b = nI (a &&& b) := by
  apply Int32.toBitVec_inj.1
  show BitVec.ofNat 32 a &&& BitVec.ofNat 32 b = BitVec.ofNat 32 (a &&& b)
  apply BitVec.eq_of_getLsbD_eq
  intro i hi
  simp [hi]
theorem nx_xor (a b : Nat) : nI a ^^^ nI b = nI (a ^^^ b) := by
  apply Int32.toBitVec_inj.1
  show BitVec.ofNat 32 a ^^^ BitVec.ofNat 32 b = BitVec.ofNat 32 (a ^^^ b)
  apply BitVec.eq_of_getLsbD_eq
  intro i hi
  simp [hi]
end
section
def sv_sl (a : Nat → Int32) (o : Nat) : Nat → Int32 := fun j => if j < 16 then a (o + j) else 0
def sv_fl (a : Nat → Int32) (o n : Nat) (g : Nat → Int32) : Nat → Int32 := fun j => if o ≤ j ∧ j < o + n then g (j - o) else a j
theorem sv_sl_lt {a : Nat → Int32} {o j : Nat} (h : j < 16) : sv_sl a o j = a (o + j) := if_pos h
theorem sv_sl_ge {a : Nat → Int32} {o j : Nat} (h : ¬ j < 16) : sv_sl a o j = 0 := if_neg h
theorem sv_fl_0 (a : Nat → Int32) (o : Nat) (g : Nat → Int32) : sv_fl a o 0 g = a := funext fun j => if_neg (by omega)
theorem sv_fl_s (a : Nat → Int32) (o i : Nat) (g : Nat → Int32) : upd (sv_fl a o i g) (o + i) (g i) = sv_fl a o (i + 1) g := by
  funext j
  unfold upd sv_fl
  by_cases h : j = o + i
  · subst h
    rw [if_pos rfl, if_pos (by omega), Nat.add_sub_cancel_left]
  · rw [if_neg h]
    by_cases h2 : o ≤ j ∧ j < o + i
    · rw [if_pos h2, if_pos (by omega)]
    · rw [if_neg h2, if_neg (by omega)]
theorem sv_fl_in {a : Nat → Int32} {o n : Nat} {g : Nat → Int32} {j : Nat} (h : j < n) : sv_fl a o n g (o + j) = g j := by
  unfold sv_fl
  rw [if_pos (by omega), Nat.add_sub_cancel_left]
theorem sv_fl_out {a : Nat → Int32} {o n : Nat} {g : Nat → Int32} {j : Nat} (h : j < o ∨ o + n ≤ j) : sv_fl a o n g j = a j := if_neg (by omega)
theorem sv_fl_at {a : Nat → Int32} {o i : Nat} {g : Nat → Int32} : sv_fl a o i g (o + i) = a (o + i) := sv_fl_out (by omega)
theorem sv_sl_fl {a : Nat → Int32} {o : Nat} {g B : Nat → Int32} (h : ∀ j, j < 16 → g j = B j) (h0 : ∀ j, ¬ j < 16 → B j = 0) : sv_sl (sv_fl a o 16 g) o = B := by
  funext j
  by_cases hj : j < 16
  · rw [sv_sl_lt hj, sv_fl_in hj, h j hj]
  · rw [sv_sl_ge hj, h0 j hj]
theorem sv_sl_out {a : Nat → Int32} {o n p : Nat} {g : Nat → Int32} (h : p + 16 ≤ o ∨ o + n ≤ p) : sv_sl (sv_fl a o n g) p = sv_sl a p := by
  funext j
  by_cases hj : j < 16
  · rw [sv_sl_lt hj, sv_sl_lt hj, sv_fl_out (by omega)]
  · rw [sv_sl_ge hj, sv_sl_ge hj]
theorem sv_sl_eq {a b : Nat → Int32} {o p : Nat} (h : ∀ j, j < 16 → a (o + j) = b (p + j)) : sv_sl a o = sv_sl b p := by
  funext j
  by_cases hj : j < 16
  · rw [sv_sl_lt hj, sv_sl_lt hj, h j hj]
  · rw [sv_sl_ge hj, sv_sl_ge hj]
theorem sv_sl_B {a B : Nat → Int32} {o : Nat} (h : ∀ j, j < 16 → a (o + j) = B j) (h0 : ∀ j, ¬ j < 16 → B j = 0) : sv_sl a o = B := by
  funext j
  by_cases hj : j < 16
  · rw [sv_sl_lt hj, h j hj]
  · rw [sv_sl_ge hj, h0 j hj]
theorem sv_sl_g {a : Nat → Int32} {o j : Nat} (h : j < 16) : a (o + j) = sv_sl a o j := (sv_sl_lt h).symm
theorem sv_sl_0 {a : Nat → Int32} {j : Nat} (h : j < 16) : a j = sv_sl a 0 j := by rw [sv_sl_lt h, Nat.zero_add]
theorem sv_fl_cat {a G : Nat → Int32} {m n : Nat} : sv_fl (sv_fl a 0 m G) m n (fun k => G (m + k)) = sv_fl a 0 (m + n) G := by
  funext j
  unfold sv_fl
  by_cases h : m ≤ j ∧ j < m + n
  · rw [if_pos h, if_pos (by omega)]
    exact congrArg G (by omega)
  · rw [if_neg h]
    by_cases h2 : 0 ≤ j ∧ j < 0 + m
    · rw [if_pos h2, if_pos (by omega)]
    · rw [if_neg h2, if_neg (by omega)]
theorem sv_fl_ext {a g h : Nat → Int32} {o n : Nat} (e : ∀ i, i < n → g i = h i) : sv_fl a o n g = sv_fl a o n h := by
  funext j
  unfold sv_fl
  by_cases c : o ≤ j ∧ j < o + n
  · rw [if_pos c, if_pos c, e _ (by omega)]
  · rw [if_neg c, if_neg c]
theorem sv_st {x v : Int32} {a g : Nat → Int32} {o i : Nat} (hx : x = nI (o + i)) (hb : o + i < 2 ^ 31) (hv : v = g i) : upd (sv_fl a o i g) x.toNatClampNeg v = sv_fl a o (i + 1) g := by
  rw [hx, nI_clamp hb, hv, sv_fl_s]
theorem sv_st0 {v : Int32} {a g : Nat → Int32} {i : Nat} (hb : i < 2 ^ 31) (hv : v = g i) : upd (sv_fl a 0 i g) (nI i).toNatClampNeg v = sv_fl a 0 (i + 1) g :=
  sv_st (by rw [Nat.zero_add]) (by omega) hv
theorem sv_loop (W : Nat → Int32 → (Nat → Int32) → Prop) (N o : Nat) (a g : Nat → Int32)
    (hx : ∀ n, W (n + 1) (nI N) (sv_fl a o N g))
    (hs : ∀ n i, i < N → W n (nI (i + 1)) (sv_fl a o (i + 1) g) → W (n + 1) (nI i) (sv_fl a o i g)) : ∃ n, W n 0 a := by
  have key : ∀ d i, i + d = N → W (d + 1) (nI i) (sv_fl a o i g) := by
    intro d
    induction d with
    | zero => intro i hi; have : i = N := by omega
              subst this; exact hx 0
    | succ d ih => intro i hi; exact hs (d + 1) i (by omega) (ih (i + 1) (by omega))
  have h := key N 0 (by omega)
  rw [sv_fl_0, nI_0] at h
  exact ⟨_, h⟩
/-- a counting loop over any state -/
theorem sv_loopS {σ : Type} (W : Nat → Int32 → σ → Prop) (I : Nat → σ → Prop) (N : Nat) (s : σ) (h0 : I 0 s)
    (hx : ∀ n s, I N s → W (n + 1) (nI N) s)
    (hs : ∀ n i s, i < N → I i s → (∀ s', I (i + 1) s' → W n (nI (i + 1)) s') → W (n + 1) (nI i) s) : ∃ n, W n 0 s := by
  have key : ∀ d i s, i + d = N → I i s → W (d + 1) (nI i) s := by
    intro d
    induction d with
    | zero => intro i s hi hI; have : i = N := by omega
              subst this; exact hx 0 s hI
    | succ d ih => intro i s hi hI; exact hs (d + 1) i s (by omega) hI (fun s' h' => ih (i + 1) s' (by omega) h')
  have h := key N 0 s (by omega) h0
  rw [nI_0] at h
  exact ⟨_, h⟩
theorem sv_ix (c r i : Nat) : nI c * nI r + nI i = nI (c * r + i) := by rw [pk_mul, nI_add]
theorem sv_ix3 (c r b i : Nat) : nI c * nI r + nI b + nI i = nI (c * r + b + i) := by rw [pk_mul, nI_add, nI_add]
theorem sv_nb0 : vp_nar .boolean 0 = 0 := rfl
theorem sv_nb1 : vp_nar .boolean 1 = 1 := rfl
theorem sv_nb {x : Int32} (h : x = 0 ∨ x = 1) : vp_nar .boolean x = x := by
  rcases h with h | h <;> rw [h] <;> rfl
theorem sv_le {i N : Nat} (h : N ≤ i) (hi : i < 2 ^ 31) : nI N ≤ nI i := nI_le h hi
theorem sv_m1 : ((-1 : Int32) = nI 0) → False := by decide
end
section
/-! bytes and blocks -/
def sv_b (x : Int32) : Prop := ∃ n : Nat, n < 256 ∧ x = nI n
theorem sv_b_in {x : Int32} (h : sv_b x) : vp_in x 256 := by
  obtain ⟨n, hn, rfl⟩ := h
  exact vp_in_nI hn (by decide)
theorem sv_b_0 : sv_b 0 := ⟨0, by decide, rfl⟩
theorem sv_b_n {n : Nat} (h : n < 256) : sv_b (nI n) := ⟨n, h, rfl⟩
theorem sv_b_cl {x : Int32} (h : sv_b x) : x.toNatClampNeg < 256 ∧ x = nI x.toNatClampNeg := by
  obtain ⟨n, hn, rfl⟩ := h
  rw [nI_clamp (by omega)]
  exact ⟨hn, rfl⟩
theorem sv_b_xor {x y : Int32} (hx : sv_b x) (hy : sv_b y) : sv_b (x ^^^ y) := by
  obtain ⟨n, hn, rfl⟩ := hx
  obtain ⟨m, hm, rfl⟩ := hy
  exact ⟨n ^^^ m, Nat.xor_lt_two_pow (n := 8) hn hm, nx_xor n m⟩
theorem sv_b_and (x : Int32) : sv_b (x &&& 255) := by
  obtain ⟨j, hj, e⟩ := pk_andE x (m := 255) 8 (by decide)
  exact ⟨j, hj, e⟩
def sv_V (B : Nat → Int32) : Prop := ∀ j, sv_b (B j) ∧ (¬ j < 16 → B j = 0)
theorem sv_V0 {B : Nat → Int32} (h : sv_V B) : ∀ j, ¬ j < 16 → B j = 0 := fun j => (h j).2
theorem sv_Vb {B : Nat → Int32} (h : sv_V B) (j : Nat) : sv_b (B j) := (h j).1
theorem sv_V_sl {a : Nat → Int32} {o : Nat} (h : ∀ j, j < 16 → sv_b (a (o + j))) : sv_V (sv_sl a o) := by
  intro j
  by_cases hj : j < 16
  · rw [sv_sl_lt hj]
    exact ⟨h j hj, fun z => absurd hj z⟩
  · rw [sv_sl_ge hj]
    exact ⟨sv_b_0, fun _ => rfl⟩
theorem sv_V_of {B : Nat → Int32} (h : ∀ j, j < 16 → sv_b (B j)) (h0 : ∀ j, ¬ j < 16 → B j = 0) : sv_V B := by
  intro j
  by_cases hj : j < 16
  · exact ⟨h j hj, fun z => absurd hj z⟩
  · rw [h0 j hj]
    exact ⟨sv_b_0, fun _ => rfl⟩
def sv_xor (A B : Nat → Int32) : Nat → Int32 := fun j => A j ^^^ B j
theorem sv_xor_V {A B : Nat → Int32} (hA : sv_V A) (hB : sv_V B) : sv_V (sv_xor A B) := fun j =>
  ⟨sv_b_xor (hA j).1 (hB j).1, fun z => by show A j ^^^ B j = 0; rw [(hA j).2 z, (hB j).2 z]; rfl⟩
theorem sv_x_can (x y : Int32) : x ^^^ y ^^^ y = x := by rw [Int32.xor_assoc, Int32.xor_self, Int32.xor_zero]
theorem sv_x_can' (x y : Int32) : x ^^^ (x ^^^ y) = y := by rw [← Int32.xor_assoc, Int32.xor_self, Int32.zero_xor]
theorem sv_x_lc (x y z : Int32) : x ^^^ (y ^^^ z) = y ^^^ (x ^^^ z) := by rw [← Int32.xor_assoc, Int32.xor_comm x y, Int32.xor_assoc]
theorem sv_x_inj {x y z : Int32} (h : x ^^^ z = y ^^^ z) : x = y := by
  rw [← sv_x_can x z, h, sv_x_can]
theorem sv_xor_can (A B : Nat → Int32) : sv_xor (sv_xor A B) B = A := funext fun j => sv_x_can _ _
theorem sv_xor_inj {A A' B : Nat → Int32} (h : sv_xor A B = sv_xor A' B) : A = A' := by
  rw [← sv_xor_can A B, h, sv_xor_can]
theorem sv_xor_inj' {A B B' : Nat → Int32} (h : sv_xor A B = sv_xor A B') : B = B' := by
  funext j
  have e : A j ^^^ B j = A j ^^^ B' j := congrFun h j
  rw [← sv_x_can' (A j) (B j), e, sv_x_can']
/-! twice -/
def sv_tw (x : Int32) : Int32 := ((x <<< ((1 : Int32) &&& 31)) ^^^ ((x >>> ((7 : Int32) &&& 31)) * 27)) &&& 255
theorem sv_tw_b (x : Int32) : sv_b (sv_tw x) := sv_b_and _
theorem sv_tw_27 : ∀ n, n < 256 → (nI n >>> ((7 : Int32) &&& 31)) * 27 = if bt (nI n) 7 then 27 else 0 := by decide +kernel
theorem sv_tw_bt {x : Int32} (hx : sv_b x) {i : Nat} (hi : i < 32) : bt (sv_tw x) i = (((decide (1 ≤ i) && bt x (i - 1)) ^^ (bt x 7 && bt 27 i)) && decide (i < 8)) := by
  obtain ⟨n, hn, rfl⟩ := hx
  have e : bt ((nI n >>> ((7 : Int32) &&& 31)) * 27) i = (bt (nI n) 7 && bt 27 i) := by
    rw [sv_tw_27 n hn]
    cases bt (nI n) 7
    · rw [if_neg (by decide), b_0, Bool.false_and]
    · rw [if_pos rfl, Bool.true_and]
  have e2 : bt (nI n <<< ((1 : Int32) &&& 31)) i = (decide (1 ≤ i) && bt (nI n) (i - 1)) := b_shl 1 (by omega) (nI n) hi
  unfold sv_tw
  rw [b_and, b_xor, e, e2, b_255]
theorem sv_tw_xor {x y : Int32} (hx : sv_b x) (hy : sv_b y) : sv_tw (x ^^^ y) = sv_tw x ^^^ sv_tw y := by
  apply b_ext
  intro i hi
  rw [b_xor, sv_tw_bt (sv_b_xor hx hy) hi, sv_tw_bt hx hi, sv_tw_bt hy hi, b_xor, b_xor]
  generalize decide (1 ≤ i) = p
  generalize decide (i < 8) = q
  generalize bt x (i - 1) = a
  generalize bt y (i - 1) = b
  generalize bt x 7 = c
  generalize bt y 7 = d
  generalize bt 27 i = e
  revert p q a b c d e
  decide
/-! the mixing of columns -/
def sv_mx (B : Nat → Int32) : Nat → Int32 := fun j => if j < 16 then B j ^^^ ((((B (j / 4 * 4) ^^^ B (j / 4 * 4 + 1)) ^^^ B (j / 4 * 4 + 2)) ^^^ B (j / 4 * 4 + 3)) ^^^ sv_tw (B j ^^^ B (j / 4 * 4 + (j + 1) % 4))) else 0
theorem sv_mx_lt {B : Nat → Int32} {j : Nat} (h : j < 16) : sv_mx B j = B j ^^^ ((((B (j / 4 * 4) ^^^ B (j / 4 * 4 + 1)) ^^^ B (j / 4 * 4 + 2)) ^^^ B (j / 4 * 4 + 3)) ^^^ sv_tw (B j ^^^ B (j / 4 * 4 + (j + 1) % 4))) := if_pos h
theorem sv_mx_V {B : Nat → Int32} (h : sv_V B) : sv_V (sv_mx B) := sv_V_of (fun j hj => by
  rw [sv_mx_lt hj]
  exact sv_b_xor (h _).1 (sv_b_xor (sv_b_xor (sv_b_xor (sv_b_xor (h _).1 (h _).1) (h _).1) (h _).1) (sv_tw_b _))) (fun j hj => if_neg hj)
theorem sv_mx_at (B : Nat → Int32) {q : Nat} (hq : q < 4) (k k' : Nat) (hk : k < 4) (hk' : k' = (k + 1) % 4) : sv_mx B (4 * q + k) = B (4 * q + k) ^^^ ((((B (4 * q + 0) ^^^ B (4 * q + 1)) ^^^ B (4 * q + 2)) ^^^ B (4 * q + 3)) ^^^ sv_tw (B (4 * q + k) ^^^ B (4 * q + k'))) := by
  have e1 : (4 * q + k) / 4 * 4 = 4 * q := by omega
  have e2 : (4 * q + k + 1) % 4 = k' := by omega
  rw [sv_mx_lt (by omega), e1, e2]
  rfl
theorem sv_L1 (f0 f1 f2 f3 A t0 t1 t2 t3 : Int32) : (((f0 ^^^ (A ^^^ (t0 ^^^ t1))) ^^^ (f1 ^^^ (A ^^^ (t1 ^^^ t2)))) ^^^ (f2 ^^^ (A ^^^ (t2 ^^^ t3)))) ^^^ (f3 ^^^ (A ^^^ (t3 ^^^ t0))) = ((f0 ^^^ f1) ^^^ f2) ^^^ f3 := by
  apply b_ext
  intro i _
  simp only [b_xor]
  generalize bt f0 i = x0
  generalize bt f1 i = x1
  generalize bt f2 i = x2
  generalize bt f3 i = x3
  generalize bt A i = x4
  generalize bt t0 i = x5
  generalize bt t1 i = x6
  generalize bt t2 i = x7
  generalize bt t3 i = x8
  revert x0 x1 x2 x3 x4 x5 x6 x7 x8
  decide +kernel
theorem sv_L2 (f t t' s s' s'' A a : Int32) : (f ^^^ (A ^^^ (t ^^^ t'))) ^^^ (A ^^^ ((t ^^^ (a ^^^ (s ^^^ s'))) ^^^ (t' ^^^ (a ^^^ (s' ^^^ s''))))) = f ^^^ s ^^^ s'' := by
  apply b_ext
  intro i _
  simp only [b_xor]
  generalize bt f i = x0
  generalize bt t i = x1
  generalize bt t' i = x2
  generalize bt s i = x3
  generalize bt s' i = x4
  generalize bt s'' i = x5
  generalize bt A i = x6
  generalize bt a i = x7
  revert x0 x1 x2 x3 x4 x5 x6 x7
  decide +kernel
theorem sv_L3 (x a b c d : Int32) : (x ^^^ a ^^^ b) ^^^ (a ^^^ c ^^^ d) ^^^ (b ^^^ d ^^^ c) = x := by
  apply b_ext
  intro i _
  simp only [b_xor]
  generalize bt x i = x0
  generalize bt a i = x1
  generalize bt b i = x2
  generalize bt c i = x3
  generalize bt d i = x4
  revert x0 x1 x2 x3 x4
  decide +kernel
theorem sv_tw_4 {f A t t' : Int32} (hf : sv_b f) (hA : sv_b A) (ht : sv_b t) (ht' : sv_b t') : sv_tw (f ^^^ (A ^^^ (t ^^^ t'))) = sv_tw f ^^^ (sv_tw A ^^^ (sv_tw t ^^^ sv_tw t')) := by
  rw [sv_tw_xor hf (sv_b_xor hA (sv_b_xor ht ht')), sv_tw_xor hA (sv_b_xor ht ht'), sv_tw_xor ht ht']
theorem sv_mx2_at {B : Nat → Int32} (hB : sv_V B) {q : Nat} (hq : q < 4) (k : Nat) (hk : k < 4) : sv_mx (sv_mx B) (4 * q + k) = B (4 * q + k) ^^^ sv_tw (sv_tw (B (4 * q + k))) ^^^ sv_tw (sv_tw (B (4 * q + (k + 2) % 4))) := by
  have m : ∀ j j', j < 4 → j' = (j + 1) % 4 → sv_mx B (4 * q + j) = B (4 * q + j) ^^^ ((((B (4 * q + 0) ^^^ B (4 * q + 1)) ^^^ B (4 * q + 2)) ^^^ B (4 * q + 3)) ^^^ (sv_tw (B (4 * q + j)) ^^^ sv_tw (B (4 * q + j')))) := by
    intro j j' hj hj'
    rw [sv_mx_at B hq j j' hj hj', sv_tw_xor (sv_Vb hB _) (sv_Vb hB _)]
  have V := sv_mx_V hB
  have eA : ((sv_mx B (4 * q + 0) ^^^ sv_mx B (4 * q + 1)) ^^^ sv_mx B (4 * q + 2)) ^^^ sv_mx B (4 * q + 3) = ((B (4 * q + 0) ^^^ B (4 * q + 1)) ^^^ B (4 * q + 2)) ^^^ B (4 * q + 3) := by
    rw [m 0 1 (by omega) rfl, m 1 2 (by omega) rfl, m 2 3 (by omega) rfl, m 3 0 (by omega) rfl]
    exact sv_L1 _ _ _ _ _ _ _ _ _
  have hA : sv_b (((B (4 * q + 0) ^^^ B (4 * q + 1)) ^^^ B (4 * q + 2)) ^^^ B (4 * q + 3)) := sv_b_xor (sv_b_xor (sv_b_xor (sv_Vb hB _) (sv_Vb hB _)) (sv_Vb hB _)) (sv_Vb hB _)
  rw [sv_mx_at (sv_mx B) hq k ((k + 1) % 4) hk rfl, eA, sv_tw_xor (sv_Vb V _) (sv_Vb V _), m k ((k + 1) % 4) hk rfl, m ((k + 1) % 4) ((k + 2) % 4) (by omega) (by omega), sv_tw_4 (sv_Vb hB _) hA (sv_tw_b _) (sv_tw_b _), sv_tw_4 (sv_Vb hB _) hA (sv_tw_b _) (sv_tw_b _)]
  exact sv_L2 _ _ _ _ _ _ _ _
theorem sv_tt_3 {x y z : Int32} (hx : sv_b x) (hy : sv_b y) (hz : sv_b z) : sv_tw (sv_tw (x ^^^ y ^^^ z)) = sv_tw (sv_tw x) ^^^ sv_tw (sv_tw y) ^^^ sv_tw (sv_tw z) := by
  have t := sv_tw_b
  rw [sv_tw_xor (sv_b_xor hx hy) hz, sv_tw_xor hx hy, sv_tw_xor (sv_b_xor (t _) (t _)) (t _), sv_tw_xor (t _) (t _)]
theorem sv_mx4 {B : Nat → Int32} (hB : sv_V B) : sv_mx (sv_mx (sv_mx (sv_mx B))) = B := by
  funext j
  by_cases hj : j < 16
  · obtain ⟨q, k, hq, hk, rfl⟩ : ∃ q k, q < 4 ∧ k < 4 ∧ j = 4 * q + k := ⟨j / 4, j % 4, by omega, by omega, by omega⟩
    have V2 := sv_mx_V (sv_mx_V hB)
    have hk2 : (k + 2) % 4 < 4 := by omega
    have e4 : ((k + 2) % 4 + 2) % 4 = k := by omega
    rw [sv_mx2_at V2 hq k hk, sv_mx2_at hB hq k hk, sv_mx2_at hB hq _ hk2, e4, sv_tt_3 (sv_Vb hB _) (sv_tw_b _) (sv_tw_b _), sv_tt_3 (sv_Vb hB _) (sv_tw_b _) (sv_tw_b _)]
    exact sv_L3 _ _ _ _ _
  · rw [sv_V0 hB j hj]
    exact if_neg hj
/-! substitution and turning of rows -/
def sv_BX (bx ub : Nat → Int32) : Prop := ∀ n, n < 256 → sv_b (bx n) ∧ sv_b (ub n) ∧ ub (bx n).toNatClampNeg = nI n
def sv_sr (bx B : Nat → Int32) : Nat → Int32 := fun j => if j < 16 then bx (B ((j + 4 * (j % 4)) % 16)).toNatClampNeg else 0
def sv_us (ub B : Nat → Int32) : Nat → Int32 := fun j => if j < 16 then ub (B ((j + 12 * (j % 4)) % 16)).toNatClampNeg else 0
theorem sv_sr_V {bx ub B : Nat → Int32} (hb : sv_BX bx ub) (hB : sv_V B) : sv_V (sv_sr bx B) := sv_V_of (fun j hj => by
  unfold sv_sr
  rw [if_pos hj]
  exact (hb _ (sv_b_cl (hB _).1).1).1) (fun j hj => if_neg hj)
theorem sv_us_V {bx ub B : Nat → Int32} (hb : sv_BX bx ub) (hB : sv_V B) : sv_V (sv_us ub B) := sv_V_of (fun j hj => by
  unfold sv_us
  rw [if_pos hj]
  exact (hb _ (sv_b_cl (hB _).1).1).2.1) (fun j hj => if_neg hj)
theorem sv_rot_inv : ∀ j, j < 16 → ((j + 12 * (j % 4)) % 16 + 4 * (((j + 12 * (j % 4)) % 16) % 4)) % 16 = j := by decide
theorem sv_us_sr {bx ub B : Nat → Int32} (hb : sv_BX bx ub) (hB : sv_V B) : sv_us ub (sv_sr bx B) = B := by
  funext j
  by_cases hj : j < 16
  · unfold sv_us sv_sr
    rw [if_pos hj, if_pos (Nat.mod_lt _ (by decide)), sv_rot_inv j hj]
    obtain ⟨h1, h2⟩ := sv_b_cl (hB j).1
    rw [(hb _ h1).2.2, ← h2]
  · rw [sv_V0 hB j hj]
    exact if_neg hj
/-! the cipher over round keys -/
def sv_er (bx : Nat → Int32) (rk : Nat → Nat → Int32) (B : Nat → Int32) : Nat → Nat → Int32
  | 0 => sv_xor B (rk 0)
  | r + 1 => sv_xor (sv_mx (sv_sr bx (sv_er bx rk B r))) (rk (r + 1))
def sv_enc (bx : Nat → Int32) (rk : Nat → Nat → Int32) (B : Nat → Int32) : Nat → Int32 := sv_xor (sv_sr bx (sv_er bx rk B 9)) (rk 10)
def sv_dd (ub : Nat → Int32) (rk : Nat → Nat → Int32) : Nat → (Nat → Int32) → Nat → Int32
  | 0 => fun S => sv_xor S (rk 0)
  | r + 1 => fun S => sv_dd ub rk r (sv_us ub (sv_mx (sv_mx (sv_mx (sv_xor S (rk (r + 1)))))))
def sv_dec (ub : Nat → Int32) (rk : Nat → Nat → Int32) (C : Nat → Int32) : Nat → Int32 := sv_dd ub rk 9 (sv_us ub (sv_xor C (rk 10)))
theorem sv_er_V {bx ub : Nat → Int32} {rk : Nat → Nat → Int32} {B : Nat → Int32} (hb : sv_BX bx ub) (hr : ∀ r, sv_V (rk r)) (hB : sv_V B) : ∀ r, sv_V (sv_er bx rk B r) := by
  intro r
  induction r with
  | zero => exact sv_xor_V hB (hr 0)
  | succ r ih => exact sv_xor_V (sv_mx_V (sv_sr_V hb ih)) (hr (r + 1))
theorem sv_enc_V {bx ub : Nat → Int32} {rk : Nat → Nat → Int32} {B : Nat → Int32} (hb : sv_BX bx ub) (hr : ∀ r, sv_V (rk r)) (hB : sv_V B) : sv_V (sv_enc bx rk B) :=
  sv_xor_V (sv_sr_V hb (sv_er_V hb hr hB 9)) (hr 10)
theorem sv_dd_V {bx ub : Nat → Int32} {rk : Nat → Nat → Int32} (hb : sv_BX bx ub) (hr : ∀ r, sv_V (rk r)) : ∀ r B, sv_V B → sv_V (sv_dd ub rk r B) := by
  intro r
  induction r with
  | zero => intro B hB; exact sv_xor_V hB (hr 0)
  | succ r ih => intro B hB; exact ih _ (sv_us_V hb (sv_mx_V (sv_mx_V (sv_mx_V (sv_xor_V hB (hr (r + 1)))))))
theorem sv_dec_V {bx ub : Nat → Int32} {rk : Nat → Nat → Int32} {B : Nat → Int32} (hb : sv_BX bx ub) (hr : ∀ r, sv_V (rk r)) (hB : sv_V B) : sv_V (sv_dec ub rk B) :=
  sv_dd_V hb hr 9 _ (sv_us_V hb (sv_xor_V hB (hr 10)))
theorem sv_dd_er {bx ub : Nat → Int32} {rk : Nat → Nat → Int32} {B : Nat → Int32} (hb : sv_BX bx ub) (hr : ∀ r, sv_V (rk r)) (hB : sv_V B) : ∀ r, sv_dd ub rk r (sv_er bx rk B r) = B := by
  intro r
  induction r with
  | zero => exact sv_xor_can B (rk 0)
  | succ r ih =>
    have V := sv_er_V hb hr hB r
    show sv_dd ub rk r (sv_us ub (sv_mx (sv_mx (sv_mx (sv_xor (sv_xor (sv_mx (sv_sr bx (sv_er bx rk B r))) (rk (r + 1))) (rk (r + 1))))))) = B
    rw [sv_xor_can, sv_mx4 (sv_sr_V hb V), sv_us_sr hb V, ih]
theorem sv_dec_enc {bx ub : Nat → Int32} {rk : Nat → Nat → Int32} {B : Nat → Int32} (hb : sv_BX bx ub) (hr : ∀ r, sv_V (rk r)) (hB : sv_V B) : sv_dec ub rk (sv_enc bx rk B) = B := by
  unfold sv_dec sv_enc
  rw [sv_xor_can, sv_us_sr hb (sv_er_V hb hr hB 9), sv_dd_er hb hr hB 9]
/-! the round keys -/
def sv_cn : Nat → Int32
  | 0 => 1
  | r + 1 => sv_tw (sv_cn r)
theorem sv_cn_b : ∀ r, sv_b (sv_cn r)
  | 0 => ⟨1, by decide, rfl⟩
  | r + 1 => sv_tw_b _
def sv_nw (bx : Nat → Int32) (w : Nat) (W : Nat → Int32) (k : Nat) : Int32 :=
  if w % 4 = 0 then (if k = 0 then (W k ^^^ bx (W (12 + (k + 1) % 4)).toNatClampNeg) ^^^ sv_cn (w / 4) else W k ^^^ bx (W (12 + (k + 1) % 4)).toNatClampNeg) else W k ^^^ W (12 + k)
def sv_win (bx K : Nat → Int32) : Nat → Nat → Int32
  | 0 => K
  | w + 1 => fun j => if j < 12 then sv_win bx K w (j + 4) else if j < 16 then sv_nw bx w (sv_win bx K w) (j - 12) else 0
theorem sv_win_V {bx ub K : Nat → Int32} (hb : sv_BX bx ub) (hK : sv_V K) : ∀ w, sv_V (sv_win bx K w) := by
  intro w
  induction w with
  | zero => exact hK
  | succ w ih =>
    refine sv_V_of (fun j hj => ?_) (fun j hj => ?_)
    · show sv_b (if j < 12 then sv_win bx K w (j + 4) else if j < 16 then sv_nw bx w (sv_win bx K w) (j - 12) else 0)
      by_cases h : j < 12
      · rw [if_pos h]; exact (ih _).1
      · rw [if_neg h, if_pos hj]
        have hx : ∀ i, sv_b (bx (sv_win bx K w i).toNatClampNeg) := fun i => (hb _ (sv_b_cl (ih i).1).1).1
        unfold sv_nw
        by_cases c : w % 4 = 0
        · rw [if_pos c]
          by_cases c2 : j - 12 = 0
          · rw [if_pos c2]; exact sv_b_xor (sv_b_xor (ih _).1 (hx _)) (sv_cn_b _)
          · rw [if_neg c2]; exact sv_b_xor (ih _).1 (hx _)
        · rw [if_neg c]; exact sv_b_xor (ih _).1 (ih _).1
    · show (if j < 12 then sv_win bx K w (j + 4) else if j < 16 then sv_nw bx w (sv_win bx K w) (j - 12) else 0) = 0
      rw [if_neg (by omega), if_neg hj]
def sv_rk (bx K : Nat → Int32) : Nat → Nat → Int32 := fun r => sv_win bx K (4 * r)
theorem sv_rk_V {bx ub K : Nat → Int32} (hb : sv_BX bx ub) (hK : sv_V K) (r : Nat) : sv_V (sv_rk bx K r) := sv_win_V hb hK (4 * r)
def sv_E (bx K B : Nat → Int32) : Nat → Int32 := sv_enc bx (sv_rk bx K) B
def sv_D (bx ub K B : Nat → Int32) : Nat → Int32 := sv_dec ub (sv_rk bx K) B
theorem sv_E_V {bx ub K B : Nat → Int32} (hb : sv_BX bx ub) (hK : sv_V K) (hB : sv_V B) : sv_V (sv_E bx K B) := sv_enc_V hb (sv_rk_V hb hK) hB
theorem sv_D_V {bx ub K B : Nat → Int32} (hb : sv_BX bx ub) (hK : sv_V K) (hB : sv_V B) : sv_V (sv_D bx ub K B) := sv_dec_V hb (sv_rk_V hb hK) hB
theorem sv_D_E {bx ub K B : Nat → Int32} (hb : sv_BX bx ub) (hK : sv_V K) (hB : sv_V B) : sv_D bx ub K (sv_E bx K B) = B := sv_dec_enc hb (sv_rk_V hb hK) hB
theorem sv_E_inj {bx ub K B B' : Nat → Int32} (hb : sv_BX bx ub) (hK : sv_V K) (hB : sv_V B) (hB' : sv_V B') (h : sv_E bx K B = sv_E bx K B') : B = B' := by
  rw [← sv_D_E hb hK hB, h, sv_D_E hb hK hB']
end
section
/-! bytes of an int -/
def sv_by (v : Int32) (i : Nat) : Int32 := ((v.toUInt32 >>> ((nI (8 * i)).toUInt32 &&& Int32.toUInt32 31)).toInt32) &&& 255
theorem sv_by_b (v : Int32) (i : Nat) : sv_b (sv_by v i) := sv_b_and _
theorem sv_by_bt (v : Int32) {i : Nat} (hi : i < 4) (m : Nat) : bt (sv_by v i) m = (bt v (8 * i + m) && decide (m < 8)) := by
  unfold sv_by
  rw [b_and, b_ushr (8 * i) (by omega), b_255]
def sv_j8 (x y : Int32) : Int32 := (x <<< ((8 : Int32) &&& 31)) ||| y
theorem sv_j8_bt (x y : Int32) {m : Nat} (hm : m < 32) : bt (sv_j8 x y) m = ((decide (8 ≤ m) && bt x (m - 8)) || bt y m) := by
  unfold sv_j8
  rw [b_or, b_shl8 x hm]
def sv_jn (b : Nat → Int32) : Int32 := sv_j8 (sv_j8 (sv_j8 (sv_j8 0 (b 3)) (b 2)) (b 1)) (b 0)
theorem sv_jn_by (v : Int32) : sv_jn (sv_by v) = v := by
  apply b_ext
  intro m hm
  unfold sv_jn
  rw [sv_j8_bt _ _ hm, sv_by_bt v (by omega)]
  by_cases h1 : m < 8
  · have h2 : ¬ 8 ≤ m := by omega
    simp [h1, h2]
  · rw [sv_j8_bt _ _ (by omega), sv_by_bt v (by omega)]
    by_cases h2 : m < 16
    · have a1 : 8 ≤ m := by omega
      have a2 : ¬ 8 ≤ m - 8 := by omega
      have a3 : m - 8 < 8 := by omega
      have e : 8 * 1 + (m - 8) = m := by omega
      simp only [h1, a1, a2, a3, e, decide_true, decide_false, Bool.true_and, Bool.and_true, Bool.false_and, Bool.and_false, Bool.false_or, Bool.or_false]
    · rw [sv_j8_bt _ _ (by omega), sv_by_bt v (by omega)]
      by_cases h3 : m < 24
      · have a1 : 8 ≤ m := by omega
        have a2 : 8 ≤ m - 8 := by omega
        have a3 : ¬ m - 8 < 8 := by omega
        have a4 : ¬ 8 ≤ m - 8 - 8 := by omega
        have a5 : m - 8 - 8 < 8 := by omega
        have e : 8 * 2 + (m - 8 - 8) = m := by omega
        simp only [h1, a1, a2, a3, a4, a5, e, decide_true, decide_false, Bool.true_and, Bool.and_true, Bool.false_and, Bool.and_false, Bool.false_or, Bool.or_false]
      · rw [sv_j8_bt _ _ (by omega), sv_by_bt v (by omega), b_0]
        have a1 : 8 ≤ m := by omega
        have a2 : 8 ≤ m - 8 := by omega
        have a3 : ¬ m - 8 < 8 := by omega
        have a4 : 8 ≤ m - 8 - 8 := by omega
        have a5 : ¬ m - 8 - 8 < 8 := by omega
        have a6 : m - 8 - 8 - 8 < 8 := by omega
        have e : 8 * 3 + (m - 8 - 8 - 8) = m := by omega
        simp only [h1, a1, a2, a3, a4, a5, a6, e, decide_true, decide_false, Bool.true_and, Bool.and_true, Bool.false_and, Bool.and_false, Bool.false_or, Bool.or_false]
theorem sv_jn_ext {b c : Nat → Int32} (h : ∀ i, i < 4 → b i = c i) : sv_jn b = sv_jn c := by
  unfold sv_jn
  rw [h 0 (by omega), h 1 (by omega), h 2 (by omega), h 3 (by omega)]
theorem sv_by_inj {v w : Int32} (h : ∀ i, i < 4 → sv_by v i = sv_by w i) : v = w := by
  rw [← sv_jn_by v, ← sv_jn_by w]
  exact sv_jn_ext h
/-! the block of a number -/
def sv_dv (num vol pur : Int32) : Nat → Int32 := fun j => if j < 4 then sv_by num j else if j < 8 then sv_by vol (j - 4) else if j < 12 then sv_by pur (j - 8) else 0
theorem sv_dv_V (num vol pur : Int32) : sv_V (sv_dv num vol pur) := by
  refine sv_V_of (fun j _ => ?_) (fun j hj => ?_)
  · unfold sv_dv
    by_cases h1 : j < 4
    · rw [if_pos h1]; exact sv_by_b _ _
    · rw [if_neg h1]
      by_cases h2 : j < 8
      · rw [if_pos h2]; exact sv_by_b _ _
      · rw [if_neg h2]
        by_cases h3 : j < 12
        · rw [if_pos h3]; exact sv_by_b _ _
        · rw [if_neg h3]; exact sv_b_0
  · unfold sv_dv
    rw [if_neg (by omega), if_neg (by omega), if_neg (by omega)]
theorem sv_dv_inj {a b vol pur : Int32} (h : sv_dv a vol pur = sv_dv b vol pur) : a = b := sv_by_inj (fun i hi => by
  have e := congrFun h i
  unfold sv_dv at e
  rw [if_pos hi, if_pos hi] at e
  exact e)
/-! the public key, keys made, telling blocks -/
def sv_pub : Nat → Int32 := fun j => if j < 16 then ((17 * nI j) + 3) &&& 255 else 0
theorem sv_pub_V : sv_V sv_pub := sv_V_of (fun j hj => by unfold sv_pub; rw [if_pos hj]; exact sv_b_and _) (fun j hj => if_neg hj)
def sv_dq (bx : Nat → Int32) (num vol pur : Int32) : Nat → Int32 := sv_E bx sv_pub (sv_dv num vol pur)
theorem sv_dq_V {bx ub : Nat → Int32} (hb : sv_BX bx ub) (num vol pur : Int32) : sv_V (sv_dq bx num vol pur) := sv_E_V hb sv_pub_V (sv_dv_V _ _ _)
theorem sv_dq_inj {bx ub : Nat → Int32} (hb : sv_BX bx ub) {a b vol pur : Int32} (h : sv_dq bx a vol pur = sv_dq bx b vol pur) : a = b :=
  sv_dv_inj (sv_E_inj hb sv_pub_V (sv_dv_V _ _ _) (sv_dv_V _ _ _) h)
def sv_mi (bx : Nat → Int32) (p vol : Int32) : Nat → Nat → Int32
  | 0 => sv_dq bx p vol 1
  | n + 1 => sv_E bx sv_pub (upd (sv_mi bx p vol n) 0 (sv_mi bx p vol n 0 ^^^ nI (n + 1)))
theorem sv_upd_V {B : Nat → Int32} {k : Nat} {x : Int32} (hB : sv_V B) (hk : k < 16) (hx : sv_b x) : sv_V (upd B k x) := by
  intro j
  unfold upd
  by_cases h : j = k
  · rw [if_pos h]; exact ⟨hx, fun z => absurd (h ▸ hk) z⟩
  · rw [if_neg h]; exact hB j
theorem sv_mi_V {bx ub : Nat → Int32} (hb : sv_BX bx ub) (p vol : Int32) : ∀ n, n ≤ 4 → sv_V (sv_mi bx p vol n) := by
  intro n
  induction n with
  | zero => intro _; exact sv_dq_V hb _ _ _
  | succ n ih => intro hn; exact sv_E_V hb sv_pub_V (sv_upd_V (ih (by omega)) (by decide) (sv_b_xor (ih (by omega) 0).1 (sv_b_n (by omega))))
def sv_mk (bx : Nat → Int32) (p vol : Int32) : Nat → Int32 := sv_mi bx p vol 4
theorem sv_mk_V {bx ub : Nat → Int32} (hb : sv_BX bx ub) (p vol : Int32) : sv_V (sv_mk bx p vol) := sv_mi_V hb p vol 4 (by omega)
/-! sectors: tweaks, enciphered blocks, tags -/
def sv_hd (x : Int32) : Nat → Int32 := fun j => if j = 0 then x else 0
theorem sv_hd_V {x : Int32} (h : sv_b x) : sv_V (sv_hd x) := by
  intro j
  unfold sv_hd
  by_cases c : j = 0
  · rw [if_pos c]; exact ⟨h, fun z => absurd (by omega) z⟩
  · rw [if_neg c]; exact ⟨sv_b_0, fun _ => rfl⟩
def sv_tk (bx K : Nat → Int32) : Nat → Int32 := sv_E bx sv_pub (upd K 0 (K 0 ^^^ 165))
theorem sv_tk_V {bx ub K : Nat → Int32} (hb : sv_BX bx ub) (hK : sv_V K) : sv_V (sv_tk bx K) :=
  sv_E_V hb sv_pub_V (sv_upd_V hK (by decide) (sv_b_xor (hK 0).1 ⟨165, by decide, rfl⟩))
def sv_t0 (bx : Nat → Int32) (s : Nat) (K : Nat → Int32) : Nat → Int32 := sv_E bx (sv_tk bx K) (sv_hd (nI s))
theorem sv_t0_V {bx ub K : Nat → Int32} (hb : sv_BX bx ub) (hK : sv_V K) {s : Nat} (hs : s < 12) : sv_V (sv_t0 bx s K) := sv_E_V hb (sv_tk_V hb hK) (sv_hd_V (sv_b_n (by omega)))
/-- the carry of the doubling, and the doubling -/
def sv_cy (T : Nat → Int32) : Nat → Int32
  | 0 => 0
  | i + 1 => ((T i <<< ((1 : Int32) &&& 31)) ||| sv_cy T i) >>> ((8 : Int32) &&& 31)
def sv_db (T : Nat → Int32) : Nat → Int32 := fun j => if j = 0 then (((T 0 <<< ((1 : Int32) &&& 31)) ||| 0) &&& 255) ^^^ (sv_cy T 16 * 135) else if j < 16 then ((T j <<< ((1 : Int32) &&& 31)) ||| sv_cy T j) &&& 255 else 0
theorem sv_cy1 : ∀ c, c < 2 → ∀ n, n < 256 → ((nI n <<< ((1 : Int32) &&& 31)) ||| nI c) >>> ((8 : Int32) &&& 31) = nI (n / 128) := by decide +kernel
theorem sv_cy_01 {T : Nat → Int32} (hT : sv_V T) : ∀ i, ∃ c, c < 2 ∧ sv_cy T i = nI c := by
  intro i
  induction i with
  | zero => exact ⟨0, by decide, rfl⟩
  | succ i ih =>
    obtain ⟨c, hc, e⟩ := ih
    obtain ⟨n, hn, e2⟩ := (hT i).1
    refine ⟨n / 128, by omega, ?_⟩
    show ((T i <<< ((1 : Int32) &&& 31)) ||| sv_cy T i) >>> ((8 : Int32) &&& 31) = _
    rw [e, e2, sv_cy1 c hc n hn]
theorem sv_135 : ∀ c, c < 2 → sv_b (nI c * 135) := fun c hc => by
  rcases (by omega : c = 0 ∨ c = 1) with rfl | rfl
  · exact ⟨0, by decide, by decide⟩
  · exact ⟨135, by decide, by decide⟩
theorem sv_db_V {T : Nat → Int32} (hT : sv_V T) : sv_V (sv_db T) := by
  refine sv_V_of (fun j hj => ?_) (fun j hj => ?_)
  · unfold sv_db
    by_cases c : j = 0
    · rw [if_pos c]
      obtain ⟨d, hd, e⟩ := sv_cy_01 hT 16
      rw [e]
      exact sv_b_xor (sv_b_and _) (sv_135 d hd)
    · rw [if_neg c, if_pos hj]
      exact sv_b_and _
  · unfold sv_db
    rw [if_neg (by omega), if_neg hj]
/-- the tweak of half h of sector s under K -/
def sv_tt (bx : Nat → Int32) (s : Nat) (K : Nat → Int32) (h : Nat) : Nat → Int32 := if h = 0 then sv_t0 bx s K else sv_db (sv_t0 bx s K)
theorem sv_tt_V {bx ub K : Nat → Int32} (hb : sv_BX bx ub) (hK : sv_V K) {s : Nat} (hs : s < 12) (h : Nat) : sv_V (sv_tt bx s K h) := by
  unfold sv_tt
  by_cases c : h = 0
  · rw [if_pos c]; exact sv_t0_V hb hK hs
  · rw [if_neg c]; exact sv_db_V (sv_t0_V hb hK hs)
def sv_ct (bx : Nat → Int32) (s : Nat) (K : Nat → Int32) (h : Nat) (P : Nat → Int32) : Nat → Int32 := sv_xor (sv_E bx K (sv_xor P (sv_tt bx s K h))) (sv_tt bx s K h)
def sv_pt (bx ub : Nat → Int32) (s : Nat) (K : Nat → Int32) (h : Nat) (C : Nat → Int32) : Nat → Int32 := sv_xor (sv_D bx ub K (sv_xor C (sv_tt bx s K h))) (sv_tt bx s K h)
theorem sv_ct_V {bx ub K P : Nat → Int32} (hb : sv_BX bx ub) (hK : sv_V K) {s : Nat} (hs : s < 12) (h : Nat) (hP : sv_V P) : sv_V (sv_ct bx s K h P) :=
  sv_xor_V (sv_E_V hb hK (sv_xor_V hP (sv_tt_V hb hK hs h))) (sv_tt_V hb hK hs h)
theorem sv_pt_V {bx ub K P : Nat → Int32} (hb : sv_BX bx ub) (hK : sv_V K) {s : Nat} (hs : s < 12) (h : Nat) (hP : sv_V P) : sv_V (sv_pt bx ub s K h P) :=
  sv_xor_V (sv_D_V hb hK (sv_xor_V hP (sv_tt_V hb hK hs h))) (sv_tt_V hb hK hs h)
theorem sv_pt_ct {bx ub K P : Nat → Int32} (hb : sv_BX bx ub) (hK : sv_V K) {s : Nat} (hs : s < 12) (h : Nat) (hP : sv_V P) : sv_pt bx ub s K h (sv_ct bx s K h P) = P := by
  unfold sv_pt sv_ct
  rw [sv_xor_can, sv_D_E hb hK (sv_xor_V hP (sv_tt_V hb hK hs h)), sv_xor_can]
def sv_tg (bx : Nat → Int32) (s : Nat) (A B : Nat → Int32) : Nat → Int32 := sv_E bx sv_pub (sv_xor (sv_E bx sv_pub (sv_xor (sv_hd (nI (s + 1))) A)) B)
theorem sv_tg_V1 {bx ub A : Nat → Int32} (hb : sv_BX bx ub) {s : Nat} (hs : s < 12) (hA : sv_V A) : sv_V (sv_E bx sv_pub (sv_xor (sv_hd (nI (s + 1))) A)) :=
  sv_E_V hb sv_pub_V (sv_xor_V (sv_hd_V (sv_b_n (by omega))) hA)
theorem sv_tg_V {bx ub A B : Nat → Int32} (hb : sv_BX bx ub) {s : Nat} (hs : s < 12) (hA : sv_V A) (hB : sv_V B) : sv_V (sv_tg bx s A B) :=
  sv_E_V hb sv_pub_V (sv_xor_V (sv_tg_V1 hb hs hA) hB)
theorem sv_tg_iA {bx ub A A' B : Nat → Int32} (hb : sv_BX bx ub) {s : Nat} (hs : s < 12) (hA : sv_V A) (hA' : sv_V A') (hB : sv_V B) (h : sv_tg bx s A B = sv_tg bx s A' B) : A = A' := by
  have e1 := sv_E_inj hb sv_pub_V (sv_xor_V (sv_tg_V1 hb hs hA) hB) (sv_xor_V (sv_tg_V1 hb hs hA') hB) h
  have e2 := sv_E_inj hb sv_pub_V (sv_xor_V (sv_hd_V (sv_b_n (by omega))) hA) (sv_xor_V (sv_hd_V (sv_b_n (by omega))) hA') (sv_xor_inj e1)
  exact sv_xor_inj' e2
theorem sv_tg_iB {bx ub A B B' : Nat → Int32} (hb : sv_BX bx ub) {s : Nat} (hs : s < 12) (hA : sv_V A) (hB : sv_V B) (hB' : sv_V B') (h : sv_tg bx s A B = sv_tg bx s A B') : B = B' :=
  sv_xor_inj' (sv_E_inj hb sv_pub_V (sv_xor_V (sv_tg_V1 hb hs hA) hB) (sv_xor_V (sv_tg_V1 hb hs hA) hB') h)
/-- half h of the plain text of sector s, out of the cells -/
def sv_pl (cells : Nat → Int32) (s h : Nat) : Nat → Int32 := fun j => if j < 16 then sv_by (cells (8 * s + 4 * h + j / 4)) (j % 4) else 0
theorem sv_pl_V (cells : Nat → Int32) (s h : Nat) : sv_V (sv_pl cells s h) := sv_V_of (fun j hj => by unfold sv_pl; rw [if_pos hj]; exact sv_by_b _ _) (fun j hj => if_neg hj)
/-- one cell out of plain bytes -/
theorem sv_pl_cell {cells : Nat → Int32} {s : Nat} {P : Nat → Int32} (h0 : sv_sl P 0 = sv_pl cells s 0) (h1 : sv_sl P 16 = sv_pl cells s 1) {c : Nat} (hc : c < 8) : sv_jn (fun i => P (4 * c + i)) = cells (8 * s + c) := by
  rw [← sv_jn_by (cells (8 * s + c))]
  apply sv_jn_ext
  intro i hi
  by_cases h : c < 4
  · have e := congrFun h0 (4 * c + i)
    rw [sv_sl_lt (by omega), Nat.zero_add] at e
    rw [e]
    unfold sv_pl
    rw [if_pos (by omega), show 8 * s + 4 * 0 + (4 * c + i) / 4 = 8 * s + c by omega, show (4 * c + i) % 4 = i by omega]
  · have e := congrFun h1 (4 * c + i - 16)
    rw [sv_sl_lt (by omega), show 16 + (4 * c + i - 16) = 4 * c + i by omega] at e
    rw [e]
    unfold sv_pl
    rw [if_pos (by omega), show 8 * s + 4 * 1 + (4 * c + i - 16) / 4 = 8 * s + c by omega, show (4 * c + i - 16) % 4 = i by omega]
end
section
section
variable {f_isThere f_volumes f_generation f_renewed f_asideFor f_copyOf f_copyGeneration f_isOpen f_roundsOf f_writesLeft : Int32} {a_sectors a_tags a_used a_telling a_wrapped a_wrappedData a_aside a_copyUsed a_copyTelling a_copyWrapped a_keys a_box a_unbox a_round a_block a_moved a_tweak a_plain a_tag a_difference : Nat → Int32}
theorem sv_rot : ∀ i, i < 16 → (nI i + (4 * (nI i &&& 3))) &&& 15 = nI ((i + 4 * (i % 4)) % 16) := by decide +kernel
theorem sv_addRound {post : SX → Prop} {r : Nat} (hr : r ≤ 10) (h : ∀ b, sv_sl b 0 = sv_xor (sv_sl a_block 0) (sv_sl a_round (16 * r)) → post (f_isThere, f_volumes, f_generation, f_renewed, f_asideFor, f_copyOf, f_copyGeneration, f_isOpen, f_roundsOf, f_writesLeft, a_sectors, a_tags, a_used, a_telling, a_wrapped, a_wrappedData, a_aside, a_copyUsed, a_copyTelling, a_copyWrapped, a_keys, a_box, a_unbox, a_round, b, a_moved, a_tweak, a_plain, a_tag, a_difference)) : wpX_addRound post (f_isThere, f_volumes, f_generation, f_renewed, f_asideFor, f_copyOf, f_copyGeneration, f_isOpen, f_roundsOf, f_writesLeft, a_sectors, a_tags, a_used, a_telling, a_wrapped, a_wrappedData, a_aside, a_copyUsed, a_copyTelling, a_copyWrapped, a_keys, a_box, a_unbox, a_round, a_block, a_moved, a_tweak, a_plain, a_tag, a_difference) (nI r) := by
  refine sv_loop (fun n i b => wX_addRound_2 post (nI r) f_isThere f_volumes f_generation f_renewed f_asideFor f_copyOf f_copyGeneration f_isOpen f_roundsOf f_writesLeft n i a_sectors a_tags a_used a_telling a_wrapped a_wrappedData a_aside a_copyUsed a_copyTelling a_copyWrapped a_keys a_box a_unbox a_round b a_moved a_tweak a_plain a_tag a_difference) 16 0 a_block (fun j => a_block j ^^^ a_round (16 * r + j)) (fun n => br_t (nI_le (Nat.le_refl 16) (by decide)) (h _ ?_)) (fun n i hi hw => ?_)
  · refine sv_sl_fl (fun j hj => ?_) (fun j hj => ?_)
    · show _ = sv_sl a_block 0 j ^^^ sv_sl a_round (16 * r) j
      rw [sv_sl_lt hj, sv_sl_lt hj, Nat.zero_add]
    · show sv_sl a_block 0 j ^^^ sv_sl a_round (16 * r) j = 0
      rw [sv_sl_ge hj, sv_sl_ge hj]; rfl
  · have e : (16 : Int32) * nI r + nI i = nI (16 * r + i) := sv_ix 16 r i
    refine br_f (nI_ge (b := 16) hi (by decide)) ⟨vp_in_nI hi (by decide), pk_in (16 * r + i) 176 (by omega) e, vp_in_nI hi (by decide), nm_r (e' := sv_fl a_block 0 (i + 1) (fun j => a_block j ^^^ a_round (16 * r + j))) ?_ (nm_r (nI_1 i) hw)⟩
    rw [e, nI_clamp (n := 16 * r + i) (by omega)]
    refine sv_st0 (by omega) ?_
    rw [nI_clamp (by omega), sv_fl_out (by omega)]
theorem sv_stir {post : SX → Prop} (hbx : sv_BX a_box a_unbox) (hB : sv_V (sv_sl a_block 0)) (h : ∀ b m, sv_sl b 0 = sv_sr a_box (sv_sl a_block 0) → post (f_isThere, f_volumes, f_generation, f_renewed, f_asideFor, f_copyOf, f_copyGeneration, f_isOpen, f_roundsOf, f_writesLeft, a_sectors, a_tags, a_used, a_telling, a_wrapped, a_wrappedData, a_aside, a_copyUsed, a_copyTelling, a_copyWrapped, a_keys, a_box, a_unbox, a_round, b, m, a_tweak, a_plain, a_tag, a_difference)) : wpX_stir post (f_isThere, f_volumes, f_generation, f_renewed, f_asideFor, f_copyOf, f_copyGeneration, f_isOpen, f_roundsOf, f_writesLeft, a_sectors, a_tags, a_used, a_telling, a_wrapped, a_wrappedData, a_aside, a_copyUsed, a_copyTelling, a_copyWrapped, a_keys, a_box, a_unbox, a_round, a_block, a_moved, a_tweak, a_plain, a_tag, a_difference) := by
  refine sv_loop (fun n i m => wX_stir_2 post f_isThere f_volumes f_generation f_renewed f_asideFor f_copyOf f_copyGeneration f_isOpen f_roundsOf f_writesLeft n i a_sectors a_tags a_used a_telling a_wrapped a_wrappedData a_aside a_copyUsed a_copyTelling a_copyWrapped a_keys a_box a_unbox a_round a_block m a_tweak a_plain a_tag a_difference) 16 0 a_moved (fun j => a_box (a_block ((j + 4 * (j % 4)) % 16)).toNatClampNeg) (fun n => br_t (nI_le (Nat.le_refl 16) (by decide)) ?_) (fun n i hi hw => ?_)
  · refine sv_loop (fun n i b => wX_stir_42 post f_isThere f_volumes f_generation f_renewed f_asideFor f_copyOf f_copyGeneration f_isOpen f_roundsOf f_writesLeft n i a_sectors a_tags a_used a_telling a_wrapped a_wrappedData a_aside a_copyUsed a_copyTelling a_copyWrapped a_keys a_box a_unbox a_round b (sv_fl a_moved 0 16 (fun j => a_box (a_block ((j + 4 * (j % 4)) % 16)).toNatClampNeg)) a_tweak a_plain a_tag a_difference) 16 0 a_block (fun j => a_box (a_block ((j + 4 * (j % 4)) % 16)).toNatClampNeg) (fun n => br_t (nI_le (Nat.le_refl 16) (by decide)) (h _ _ ?_)) (fun n i hi hw => ?_)
    · refine sv_sl_fl (fun j hj => ?_) (fun j hj => if_neg hj)
      unfold sv_sr
      rw [if_pos hj, sv_sl_lt (Nat.mod_lt _ (by decide)), Nat.zero_add]
    · refine br_f (nI_ge (b := 16) hi (by decide)) ⟨vp_in_nI hi (by decide), vp_in_nI hi (by decide), nm_r (e' := sv_fl a_block 0 (i + 1) (fun j => a_box (a_block ((j + 4 * (j % 4)) % 16)).toNatClampNeg)) ?_ (nm_r (nI_1 i) hw)⟩
      refine sv_st0 (by omega) ?_
      rw [nI_clamp (by omega)]
      have e := sv_fl_in (a := a_moved) (o := 0) (g := fun j => a_box (a_block ((j + 4 * (j % 4)) % 16)).toNatClampNeg) hi
      rw [Nat.zero_add] at e
      exact e
  · have e := sv_rot i hi
    have hm : (i + 4 * (i % 4)) % 16 < 16 := Nat.mod_lt _ (by decide)
    have hb : vp_in (a_block ((i + 4 * (i % 4)) % 16)) 256 := by
      rw [sv_sl_0 (a := a_block) hm]
      exact sv_b_in (hB _).1
    refine br_f (nI_ge (b := 16) hi (by decide)) ⟨pk_in _ 16 hm e, ?_⟩
    rw [e, nI_clamp (n := (i + 4 * (i % 4)) % 16) (by omega)]
    exact ⟨hb, vp_in_nI hi (by decide), nm_r (e' := sv_fl a_moved 0 (i + 1) (fun j => a_box (a_block ((j + 4 * (j % 4)) % 16)).toNatClampNeg)) (sv_st0 (by omega) rfl) (nm_r (nI_1 i) hw)⟩
theorem sv_rot_inj : ∀ i, i < 16 → ∀ j, j < 16 → (i + 4 * (i % 4)) % 16 = (j + 4 * (j % 4)) % 16 → i = j := by decide +kernel
theorem sv_unstir {post : SX → Prop} (hbx : sv_BX a_box a_unbox) (hB : sv_V (sv_sl a_block 0)) (h : ∀ b m, sv_sl b 0 = sv_us a_unbox (sv_sl a_block 0) → post (f_isThere, f_volumes, f_generation, f_renewed, f_asideFor, f_copyOf, f_copyGeneration, f_isOpen, f_roundsOf, f_writesLeft, a_sectors, a_tags, a_used, a_telling, a_wrapped, a_wrappedData, a_aside, a_copyUsed, a_copyTelling, a_copyWrapped, a_keys, a_box, a_unbox, a_round, b, m, a_tweak, a_plain, a_tag, a_difference)) : wpX_unstir post (f_isThere, f_volumes, f_generation, f_renewed, f_asideFor, f_copyOf, f_copyGeneration, f_isOpen, f_roundsOf, f_writesLeft, a_sectors, a_tags, a_used, a_telling, a_wrapped, a_wrappedData, a_aside, a_copyUsed, a_copyTelling, a_copyWrapped, a_keys, a_box, a_unbox, a_round, a_block, a_moved, a_tweak, a_plain, a_tag, a_difference) := by
  refine sv_loopS (fun n i m => wX_unstir_2 post f_isThere f_volumes f_generation f_renewed f_asideFor f_copyOf f_copyGeneration f_isOpen f_roundsOf f_writesLeft n i a_sectors a_tags a_used a_telling a_wrapped a_wrappedData a_aside a_copyUsed a_copyTelling a_copyWrapped a_keys a_box a_unbox a_round a_block m a_tweak a_plain a_tag a_difference) (fun i m => ∀ k, k < i → m ((k + 4 * (k % 4)) % 16) = a_unbox (a_block k).toNatClampNeg) 16 a_moved (fun k hk => absurd hk (Nat.not_lt_zero k)) (fun n m hm => br_t (nI_le (Nat.le_refl 16) (by decide)) ?_) (fun n i m hi hI hw => ?_)
  · refine sv_loop (fun n i b => wX_unstir_42 post f_isThere f_volumes f_generation f_renewed f_asideFor f_copyOf f_copyGeneration f_isOpen f_roundsOf f_writesLeft n i a_sectors a_tags a_used a_telling a_wrapped a_wrappedData a_aside a_copyUsed a_copyTelling a_copyWrapped a_keys a_box a_unbox a_round b m a_tweak a_plain a_tag a_difference) 16 0 a_block m (fun n => br_t (nI_le (Nat.le_refl 16) (by decide)) (h _ _ ?_)) (fun n i hi hw => ?_)
    · refine sv_sl_fl (fun j hj => ?_) (fun j hj => if_neg hj)
      unfold sv_us
      have hlt : (j + 12 * (j % 4)) % 16 < 16 := Nat.mod_lt _ (by decide)
      have e := hm ((j + 12 * (j % 4)) % 16) hlt
      rw [sv_rot_inv j hj] at e
      rw [if_pos hj, sv_sl_lt hlt, Nat.zero_add, e]
    · refine br_f (nI_ge (b := 16) hi (by decide)) ⟨vp_in_nI hi (by decide), vp_in_nI hi (by decide), nm_r (e' := sv_fl a_block 0 (i + 1) m) (sv_st0 (by omega) ?_) (nm_r (nI_1 i) hw)⟩
      rw [nI_clamp (by omega)]
  · have e := sv_rot i hi
    have hm : (i + 4 * (i % 4)) % 16 < 16 := Nat.mod_lt _ (by decide)
    have hb : vp_in (a_block i) 256 := by
      rw [sv_sl_0 (a := a_block) hi]
      exact sv_b_in (hB _).1
    refine br_f (nI_ge (b := 16) hi (by decide)) ⟨vp_in_nI hi (by decide), ?_⟩
    rw [e, nI_clamp (n := (i + 4 * (i % 4)) % 16) (by omega), nI_clamp (n := i) (by omega)]
    refine ⟨hb, vp_in_nI hm (by decide), nm_e (nm_r (nI_1 i) (hw _ (fun k hk => ?_)))⟩
    by_cases c : k = i
    · subst c; exact pk_us
    · rw [pk_un (fun z => c (sv_rot_inj k (by omega) i hi z))]
      exact hI k (by omega)
theorem sv_mc_in {post : SX → Prop} {J : Int32 → (Nat → Int32) → (Nat → Int32) → (Nat → Int32) → (Nat → Int32) → (Nat → Int32) → (Nat → Int32) → (Nat → Int32) → (Nat → Int32) → (Nat → Int32) → (Nat → Int32) → (Nat → Int32) → (Nat → Int32) → (Nat → Int32) → (Nat → Int32) → (Nat → Int32) → (Nat → Int32) → (Nat → Int32) → (Nat → Int32) → (Nat → Int32) → (Nat → Int32) → Prop} {q : Nat} (hq : q < 4) {all : Int32} {g : Nat → Int32}
    (hg : ∀ k, k < 4 → g k = a_block (4 * q + k) ^^^ (all ^^^ sv_tw (a_block (4 * q + k) ^^^ a_block (4 * q + (k + 1) % 4))))
    (h : J (nI (4 * q + 4)) a_sectors a_tags a_used a_telling a_wrapped a_wrappedData a_aside a_copyUsed a_copyTelling a_copyWrapped a_keys a_box a_unbox a_round (sv_fl a_block (4 * q) 4 g) a_moved a_tweak a_plain a_tag a_difference) : ∃ n, wX_mixColumns_52 post J (nI (4 * q)) all (a_block (4 * q)) f_isThere f_volumes f_generation f_renewed f_asideFor f_copyOf f_copyGeneration f_isOpen f_roundsOf f_writesLeft n 0 a_sectors a_tags a_used a_telling a_wrapped a_wrappedData a_aside a_copyUsed a_copyTelling a_copyWrapped a_keys a_box a_unbox a_round a_block a_moved a_tweak a_plain a_tag a_difference := by
  refine sv_loop (fun n i b => wX_mixColumns_52 post J (nI (4 * q)) all (a_block (4 * q)) f_isThere f_volumes f_generation f_renewed f_asideFor f_copyOf f_copyGeneration f_isOpen f_roundsOf f_writesLeft n i a_sectors a_tags a_used a_telling a_wrapped a_wrappedData a_aside a_copyUsed a_copyTelling a_copyWrapped a_keys a_box a_unbox a_round b a_moved a_tweak a_plain a_tag a_difference) 4 (4 * q) a_block g (fun n => br_t (nI_le (Nat.le_refl 4) (by decide)) (nm_r (nI_add (4 * q) 4) h)) (fun n i hi hw => ?_)
  have e : nI (4 * q) + nI i = nI (4 * q + i) := nI_add _ _
  have er : sv_fl a_block (4 * q) i g (4 * q + i) = a_block (4 * q + i) := sv_fl_at
  have hin : vp_in (nI (4 * q) + nI i) 16 := pk_in (4 * q + i) 16 (by omega) e
  refine br_f (nI_ge (b := 4) hi (by decide)) (pk_le 3 i (fun h3 => ?_) (fun h3 => ?_))
  · have i3 : i = 3 := by omega
    refine And.intro hin (And.intro hin (And.intro hin (nm_r (e' := sv_fl a_block (4 * q) (i + 1) g) (sv_st e (by omega) ?_) (nm_r (nI_1 i) hw))))
    rw [e, nI_clamp (by omega), er, hg i hi]
    subst i3
    rfl
  · have e1 : nI (4 * q) + nI i + 1 = nI (4 * q + i + 1) := by rw [e, nI_1]
    have er1 : sv_fl a_block (4 * q) i g (4 * q + i + 1) = a_block (4 * q + i + 1) := sv_fl_out (by omega)
    refine And.intro (pk_in (4 * q + i + 1) 16 (by omega) e1) (And.intro hin (And.intro hin (And.intro hin (nm_r (e' := sv_fl a_block (4 * q) (i + 1) g) (sv_st e (by omega) ?_) (nm_r (nI_1 i) hw)))))
    rw [e1, e, nI_clamp (n := 4 * q + i) (by omega), nI_clamp (n := 4 * q + i + 1) (by omega), er, er1, hg i hi, show (i + 1) % 4 = i + 1 by omega]
    rfl
theorem sv_mixC {post : SX → Prop} (h : ∀ b, sv_sl b 0 = sv_mx (sv_sl a_block 0) → post (f_isThere, f_volumes, f_generation, f_renewed, f_asideFor, f_copyOf, f_copyGeneration, f_isOpen, f_roundsOf, f_writesLeft, a_sectors, a_tags, a_used, a_telling, a_wrapped, a_wrappedData, a_aside, a_copyUsed, a_copyTelling, a_copyWrapped, a_keys, a_box, a_unbox, a_round, b, a_moved, a_tweak, a_plain, a_tag, a_difference)) : wpX_mixColumns post (f_isThere, f_volumes, f_generation, f_renewed, f_asideFor, f_copyOf, f_copyGeneration, f_isOpen, f_roundsOf, f_writesLeft, a_sectors, a_tags, a_used, a_telling, a_wrapped, a_wrappedData, a_aside, a_copyUsed, a_copyTelling, a_copyWrapped, a_keys, a_box, a_unbox, a_round, a_block, a_moved, a_tweak, a_plain, a_tag, a_difference) := by
  have key : ∀ d q, q + d = 4 → wX_mixColumns_2 post f_isThere f_volumes f_generation f_renewed f_asideFor f_copyOf f_copyGeneration f_isOpen f_roundsOf f_writesLeft (d + 1) (nI (4 * q)) a_sectors a_tags a_used a_telling a_wrapped a_wrappedData a_aside a_copyUsed a_copyTelling a_copyWrapped a_keys a_box a_unbox a_round (sv_fl a_block 0 (4 * q) (sv_mx (sv_sl a_block 0))) a_moved a_tweak a_plain a_tag a_difference := by
    intro d
    induction d with
    | zero =>
      intro q hq
      have q4 : q = 4 := by omega
      subst q4
      exact br_t (nI_le (Nat.le_refl 16) (by decide)) (h _ (sv_sl_fl (fun j hj => rfl) (fun j hj => if_neg hj)))
    | succ d ih =>
      intro q hq
      have hq4 : q < 4 := by omega
      have r : ∀ k, k < 4 → sv_fl a_block 0 (4 * q) (sv_mx (sv_sl a_block 0)) (4 * q + k) = a_block (4 * q + k) := fun k hk => sv_fl_out (by omega)
      have s : ∀ k, k < 4 → sv_sl a_block 0 (4 * q + k) = a_block (4 * q + k) := fun k hk => by rw [sv_sl_lt (by omega), Nat.zero_add]
      have e1 : nI (4 * q) + 1 = nI (4 * q + 1) := nI_add _ 1
      have e2 : nI (4 * q) + 2 = nI (4 * q + 2) := nI_add _ 2
      have e3 : nI (4 * q) + 3 = nI (4 * q + 3) := nI_add _ 3
      have n0 : sv_fl a_block 0 (4 * q) (sv_mx (sv_sl a_block 0)) (nI (4 * q)).toNatClampNeg = a_block (4 * q + 0) := by rw [nI_clamp (by omega)]; exact r 0 (by omega)
      have n1 : sv_fl a_block 0 (4 * q) (sv_mx (sv_sl a_block 0)) (nI (4 * q) + 1).toNatClampNeg = a_block (4 * q + 1) := by rw [e1, nI_clamp (by omega)]; exact r 1 (by omega)
      have n2 : sv_fl a_block 0 (4 * q) (sv_mx (sv_sl a_block 0)) (nI (4 * q) + 2).toNatClampNeg = a_block (4 * q + 2) := by rw [e2, nI_clamp (by omega)]; exact r 2 (by omega)
      have n3 : sv_fl a_block 0 (4 * q) (sv_mx (sv_sl a_block 0)) (nI (4 * q) + 3).toNatClampNeg = a_block (4 * q + 3) := by rw [e3, nI_clamp (by omega)]; exact r 3 (by omega)
      have i0 : vp_in (nI (4 * q)) 16 := vp_in_nI (by omega) (by decide)
      refine br_f (nI_ge (a := 4 * q) (b := 16) (by omega) (by decide)) ⟨i0, pk_in (4 * q + 1) 16 (by omega) e1, pk_in (4 * q + 2) 16 (by omega) e2, pk_in (4 * q + 3) 16 (by omega) e3, ?_⟩
      rw [n0, n1, n2, n3]
      refine nm_e ⟨i0, nm_r (e' := sv_fl a_block 0 (4 * q) (sv_mx (sv_sl a_block 0)) (4 * q)) (r 0 (by omega)).symm ?_⟩
      refine sv_mc_in (g := fun k => sv_mx (sv_sl a_block 0) (4 * q + k)) hq4 (fun k hk => ?_) ?_
      · rw [r k hk, r _ (by omega), sv_mx_at _ hq4 k _ hk rfl, s k hk, s 0 (by omega), s 1 (by omega), s 2 (by omega), s 3 (by omega), s _ (by omega)]
      · rw [sv_fl_cat]
        exact ih (q + 1) (by omega)
  have k0 := key 4 0 rfl
  rw [show 4 * 0 = 0 from rfl, sv_fl_0, nI_0] at k0
  exact ⟨5, k0⟩
theorem sv_unmixC {post : SX → Prop} (h : ∀ b, sv_sl b 0 = sv_mx (sv_mx (sv_mx (sv_sl a_block 0))) → post (f_isThere, f_volumes, f_generation, f_renewed, f_asideFor, f_copyOf, f_copyGeneration, f_isOpen, f_roundsOf, f_writesLeft, a_sectors, a_tags, a_used, a_telling, a_wrapped, a_wrappedData, a_aside, a_copyUsed, a_copyTelling, a_copyWrapped, a_keys, a_box, a_unbox, a_round, b, a_moved, a_tweak, a_plain, a_tag, a_difference)) : wpX_unmixColumns post (f_isThere, f_volumes, f_generation, f_renewed, f_asideFor, f_copyOf, f_copyGeneration, f_isOpen, f_roundsOf, f_writesLeft, a_sectors, a_tags, a_used, a_telling, a_wrapped, a_wrappedData, a_aside, a_copyUsed, a_copyTelling, a_copyWrapped, a_keys, a_box, a_unbox, a_round, a_block, a_moved, a_tweak, a_plain, a_tag, a_difference) := by
  unfold wpX_unmixColumns
  exact sv_mixC (fun b hb => sv_mixC (fun c hc => sv_mixC (fun d hd => h d (by rw [hd, hc, hb]))))
theorem sv_enc_l {post : SX → Prop} {rk : Nat → Nat → Int32} (hbx : sv_BX a_box a_unbox) (hrk : ∀ r, sv_V (rk r)) (hR : ∀ r, r ≤ 10 → sv_sl a_round (16 * r) = rk r) {B : Nat → Int32} (hB : sv_V B) (h : ∀ b m, sv_sl b 0 = sv_enc a_box rk B → post (f_isThere, f_volumes, f_generation, f_renewed, f_asideFor, f_copyOf, f_copyGeneration, f_isOpen, f_roundsOf, f_writesLeft, a_sectors, a_tags, a_used, a_telling, a_wrapped, a_wrappedData, a_aside, a_copyUsed, a_copyTelling, a_copyWrapped, a_keys, a_box, a_unbox, a_round, b, m, a_tweak, a_plain, a_tag, a_difference)) :
    ∀ d r, r + d = 9 → ∀ b m, sv_sl b 0 = sv_er a_box rk B r → wX_encipher_7 post (d + 1) (nI (r + 1)) f_isThere f_volumes f_generation f_renewed f_asideFor f_copyOf f_copyGeneration f_isOpen f_roundsOf f_writesLeft a_sectors a_tags a_used a_telling a_wrapped a_wrappedData a_aside a_copyUsed a_copyTelling a_copyWrapped a_keys a_box a_unbox a_round b m a_tweak a_plain a_tag a_difference := by
  intro d
  induction d with
  | zero =>
    intro r hr b m hb
    have r9 : r = 9 := by omega
    subst r9
    have V := sv_er_V hbx hrk hB 9
    exact br_t (nI_le (Nat.le_refl 10) (by decide)) (sv_stir hbx (by rw [hb]; exact V) (fun b1 m1 h1 => sv_addRound (r := 10) (by omega) (fun b2 h2 => h b2 m1 (by rw [h2, h1, hb, hR 10 (by omega)]; rfl))))
  | succ d ih =>
    intro r hr b m hb
    have V := sv_er_V hbx hrk hB r
    exact br_f (nI_ge (a := r + 1) (b := 10) (by omega) (by decide)) (sv_stir hbx (by rw [hb]; exact V) (fun b1 m1 h1 => sv_mixC (fun b2 h2 => sv_addRound (r := r + 1) (by omega) (fun b3 h3 => nm_r (nI_1 (r + 1)) (ih (r + 1) (by omega) b3 m1 (by rw [h3, h2, h1, hb, hR (r + 1) (by omega)]; rfl))))))
theorem sv_encR {post : SX → Prop} {rk : Nat → Nat → Int32} (hbx : sv_BX a_box a_unbox) (hrk : ∀ r, sv_V (rk r)) (hR : ∀ r, r ≤ 10 → sv_sl a_round (16 * r) = rk r) (hB : sv_V (sv_sl a_block 0)) (h : ∀ b m, sv_sl b 0 = sv_enc a_box rk (sv_sl a_block 0) → post (f_isThere, f_volumes, f_generation, f_renewed, f_asideFor, f_copyOf, f_copyGeneration, f_isOpen, f_roundsOf, f_writesLeft, a_sectors, a_tags, a_used, a_telling, a_wrapped, a_wrappedData, a_aside, a_copyUsed, a_copyTelling, a_copyWrapped, a_keys, a_box, a_unbox, a_round, b, m, a_tweak, a_plain, a_tag, a_difference)) : wpX_encipher post (f_isThere, f_volumes, f_generation, f_renewed, f_asideFor, f_copyOf, f_copyGeneration, f_isOpen, f_roundsOf, f_writesLeft, a_sectors, a_tags, a_used, a_telling, a_wrapped, a_wrappedData, a_aside, a_copyUsed, a_copyTelling, a_copyWrapped, a_keys, a_box, a_unbox, a_round, a_block, a_moved, a_tweak, a_plain, a_tag, a_difference) := by
  unfold wpX_encipher
  refine sv_addRound (r := 0) (by omega) (fun b hb => ?_)
  exact ⟨10, sv_enc_l hbx hrk hR hB h 9 0 rfl b _ (by rw [hb, hR 0 (by omega)]; rfl)⟩
theorem sv_dec_l {post : SX → Prop} {rk : Nat → Nat → Int32} (hbx : sv_BX a_box a_unbox) (hrk : ∀ r, sv_V (rk r)) (hR : ∀ r, r ≤ 10 → sv_sl a_round (16 * r) = rk r) :
    ∀ r, r ≤ 9 → ∀ C, sv_V C → (∀ b m, sv_sl b 0 = sv_dd a_unbox rk r C → post (f_isThere, f_volumes, f_generation, f_renewed, f_asideFor, f_copyOf, f_copyGeneration, f_isOpen, f_roundsOf, f_writesLeft, a_sectors, a_tags, a_used, a_telling, a_wrapped, a_wrappedData, a_aside, a_copyUsed, a_copyTelling, a_copyWrapped, a_keys, a_box, a_unbox, a_round, b, m, a_tweak, a_plain, a_tag, a_difference)) → ∀ b m, sv_sl b 0 = C → wX_decipher_13 post (r + 1) (nI r) f_isThere f_volumes f_generation f_renewed f_asideFor f_copyOf f_copyGeneration f_isOpen f_roundsOf f_writesLeft a_sectors a_tags a_used a_telling a_wrapped a_wrappedData a_aside a_copyUsed a_copyTelling a_copyWrapped a_keys a_box a_unbox a_round b m a_tweak a_plain a_tag a_difference := by
  intro r
  induction r with
  | zero =>
    intro _ C hC h b m hb
    exact br_t (by decide) (sv_addRound (r := 0) (by omega) (fun b1 h1 => h b1 m (by rw [h1, hb, hR 0 (by omega)]; rfl)))
  | succ r ih =>
    intro hr C hC h b m hb
    have V1 := sv_xor_V hC (hrk (r + 1))
    have V2 := sv_mx_V (sv_mx_V (sv_mx_V V1))
    refine br_f (nI_nle (by omega) (by omega)) (sv_addRound (r := r + 1) (by omega) (fun b1 h1 => sv_unmixC (fun b2 h2 => sv_unstir hbx ?_ (fun b3 m3 h3 => nm_r (pk_m1 r) (ih (by omega) _ (sv_us_V hbx V2) (fun b4 m4 h4 => h b4 m4 h4) b3 m3 ?_)))))
    · rw [h2, h1, hb, hR (r + 1) (by omega)]; exact V2
    · rw [h3, h2, h1, hb, hR (r + 1) (by omega)]
theorem sv_decR {post : SX → Prop} {rk : Nat → Nat → Int32} (hbx : sv_BX a_box a_unbox) (hrk : ∀ r, sv_V (rk r)) (hR : ∀ r, r ≤ 10 → sv_sl a_round (16 * r) = rk r) (hB : sv_V (sv_sl a_block 0)) (h : ∀ b m, sv_sl b 0 = sv_dec a_unbox rk (sv_sl a_block 0) → post (f_isThere, f_volumes, f_generation, f_renewed, f_asideFor, f_copyOf, f_copyGeneration, f_isOpen, f_roundsOf, f_writesLeft, a_sectors, a_tags, a_used, a_telling, a_wrapped, a_wrappedData, a_aside, a_copyUsed, a_copyTelling, a_copyWrapped, a_keys, a_box, a_unbox, a_round, b, m, a_tweak, a_plain, a_tag, a_difference)) : wpX_decipher post (f_isThere, f_volumes, f_generation, f_renewed, f_asideFor, f_copyOf, f_copyGeneration, f_isOpen, f_roundsOf, f_writesLeft, a_sectors, a_tags, a_used, a_telling, a_wrapped, a_wrappedData, a_aside, a_copyUsed, a_copyTelling, a_copyWrapped, a_keys, a_box, a_unbox, a_round, a_block, a_moved, a_tweak, a_plain, a_tag, a_difference) := by
  unfold wpX_decipher
  have V1 := sv_xor_V hB (hrk 10)
  refine sv_addRound (r := 10) (by omega) (fun b hb => sv_unstir hbx ?_ (fun b1 m1 h1 => ?_))
  · rw [hb, hR 10 (by omega)]; exact V1
  · exact ⟨10, sv_dec_l hbx hrk hR 9 (by omega) _ (sv_us_V hbx V1) (fun b2 m2 h2 => h b2 m2 h2) b1 m1 (by rw [h1, hb, hR 10 (by omega)])⟩
end
end
section
def sv_nx (bx : Nat → Int32) (w : Nat) (W : Nat → Int32) : Nat → Int32 := fun j => if j < 12 then W (j + 4) else if j < 16 then sv_nw bx w W (j - 12) else 0
theorem sv_win_s (bx K : Nat → Int32) (w : Nat) : sv_win bx K (w + 1) = sv_nx bx w (sv_win bx K w) := rfl
theorem sv_nx_of {bx rnd rnd' W : Nat → Int32} {w : Nat} (hW : sv_sl rnd (4 * w) = W) (ho : ∀ j, j < 16 + 4 * w → rnd' j = rnd j) (hn : ∀ k, k < 4 → rnd' (16 + 4 * w + k) = sv_nw bx w W k) : sv_sl rnd' (4 * (w + 1)) = sv_nx bx w W := by
  refine sv_sl_B (fun j hj => ?_) (fun j hj => ?_)
  · unfold sv_nx
    by_cases c : j < 12
    · rw [if_pos c, ho _ (by omega), ← hW, sv_sl_lt (by omega)]
      exact congrArg rnd (by omega)
    · rw [if_neg c, if_pos hj, ← hn (j - 12) (by omega)]
      exact congrArg rnd' (by omega)
  · unfold sv_nx
    rw [if_neg (by omega), if_neg hj]
theorem sv_sl_lo {rnd rnd' : Nat → Int32} {w p : Nat} (ho : ∀ j, j < 16 + 4 * w → rnd' j = rnd j) (hp : p ≤ 4 * w) : sv_sl rnd' p = sv_sl rnd p := sv_sl_eq (fun j hj => ho _ (by omega))
theorem sv_k3 : ∀ k, k < 4 → (nI k + 1) &&& 3 = nI ((k + 1) % 4) := by decide +kernel
section
variable {f_isThere f_volumes f_generation f_renewed f_asideFor f_copyOf f_copyGeneration f_isOpen f_roundsOf f_writesLeft : Int32} {a_sectors a_tags a_used a_telling a_wrapped a_wrappedData a_aside a_copyUsed a_copyTelling a_copyWrapped a_keys a_box a_unbox a_round a_block a_moved a_tweak a_plain a_tag a_difference : Nat → Int32}
theorem sv_mixW {post : SX → Prop} {ub : Nat → Int32} {w : Nat} (hw : w < 40) (hw4 : w % 4 = 0) {W : Nat → Int32} (hW : sv_sl a_round (4 * w) = W) (hV : sv_V W)
    (h : ∀ rnd, (∀ j, j < 16 + 4 * w → rnd j = a_round j) → (∀ k, k < 4 → rnd (16 + 4 * w + k) = sv_nw a_box w W k) → post (f_isThere, f_volumes, f_generation, f_renewed, f_asideFor, f_copyOf, f_copyGeneration, f_isOpen, f_roundsOf, f_writesLeft, a_sectors, a_tags, a_used, a_telling, a_wrapped, a_wrappedData, a_aside, a_copyUsed, a_copyTelling, a_copyWrapped, a_keys, a_box, a_unbox, rnd, a_block, a_moved, a_tweak, a_plain, a_tag, a_difference)) : wpX_mixWord post (f_isThere, f_volumes, f_generation, f_renewed, f_asideFor, f_copyOf, f_copyGeneration, f_isOpen, f_roundsOf, f_writesLeft, a_sectors, a_tags, a_used, a_telling, a_wrapped, a_wrappedData, a_aside, a_copyUsed, a_copyTelling, a_copyWrapped, a_keys, a_box, a_unbox, a_round, a_block, a_moved, a_tweak, a_plain, a_tag, a_difference) (nI (16 + 4 * w)) (sv_cn (w / 4)) := by
  have g0 : ∀ i, i < 16 → a_round (4 * w + i) = W i := fun i hi => by rw [← hW, sv_sl_lt hi]
  refine sv_loop (fun n i b => wX_mixWord_2 post (nI (16 + 4 * w)) (sv_cn (w / 4)) f_isThere f_volumes f_generation f_renewed f_asideFor f_copyOf f_copyGeneration f_isOpen f_roundsOf f_writesLeft n i a_sectors a_tags a_used a_telling a_wrapped a_wrappedData a_aside a_copyUsed a_copyTelling a_copyWrapped a_keys a_box a_unbox b a_block a_moved a_tweak a_plain a_tag a_difference) 4 (16 + 4 * w) a_round (fun k => W k ^^^ a_box (W (12 + (k + 1) % 4)).toNatClampNeg) (fun n => br_t (nI_le (Nat.le_refl 4) (by decide)) ⟨vp_in_nI (by omega) (by decide), vp_in_nI (by omega) (by decide), nm_e (h _ (fun j hj => ?_) (fun k hk => ?_))⟩) (fun n i hi hw => ?_)
  · rw [nI_clamp (by omega), pk_un (by omega), sv_fl_out (by omega)]
  · rw [nI_clamp (by omega)]
    unfold sv_nw
    rw [if_pos hw4]
    have e0 := sv_fl_in (a := a_round) (o := 16 + 4 * w) (n := 4) (g := fun k => W k ^^^ a_box (W (12 + (k + 1) % 4)).toNatClampNeg) hk
    by_cases c : k = 0
    · subst c
      rw [if_pos rfl]
      show upd _ (16 + 4 * w) _ (16 + 4 * w) = _
      rw [pk_us]
      exact congrArg (fun z => z ^^^ sv_cn (w / 4)) e0
    · rw [if_neg c, pk_un (by omega)]
      exact e0
  · have e1 : nI (16 + 4 * w) + nI i - 16 = nI (4 * w + i) := by
      rw [nI_add]
      have := pk_sub (a := 16 + 4 * w + i) (b := 16) (by omega)
      rw [show 16 + 4 * w + i - 16 = 4 * w + i by omega] at this
      exact this
    have e2 : nI (16 + 4 * w) - 4 + ((nI i + 1) &&& 3) = nI (4 * w + (12 + (i + 1) % 4)) := by
      have h4 : nI (16 + 4 * w) - 4 = nI (12 + 4 * w) := by
        have := pk_sub (a := 16 + 4 * w) (b := 4) (by omega)
        rw [show 16 + 4 * w - 4 = 12 + 4 * w by omega] at this
        exact this
      rw [h4, sv_k3 i hi, nI_add]
      exact congrArg nI (by omega)
    have e3 : nI (16 + 4 * w) + nI i = nI (16 + 4 * w + i) := nI_add _ _
    have r1 : sv_fl a_round (16 + 4 * w) i (fun k => W k ^^^ a_box (W (12 + (k + 1) % 4)).toNatClampNeg) (4 * w + i) = W i := by rw [sv_fl_out (by omega), g0 i (by omega)]
    have r2 : sv_fl a_round (16 + 4 * w) i (fun k => W k ^^^ a_box (W (12 + (k + 1) % 4)).toNatClampNeg) (4 * w + (12 + (i + 1) % 4)) = W (12 + (i + 1) % 4) := by rw [sv_fl_out (by omega), g0 _ (by omega)]
    refine br_f (nI_ge (b := 4) hi (by decide)) ⟨pk_in (4 * w + i) 176 (by omega) e1, pk_in (4 * w + (12 + (i + 1) % 4)) 176 (by omega) e2, ?_⟩
    rw [e1, e2, nI_clamp (n := 4 * w + i) (by omega), nI_clamp (n := 4 * w + (12 + (i + 1) % 4)) (by omega), r1, r2]
    exact ⟨sv_b_in (hV _).1, pk_in (16 + 4 * w + i) 176 (by omega) e3, nm_r (e' := sv_fl a_round (16 + 4 * w) (i + 1) (fun k => W k ^^^ a_box (W (12 + (k + 1) % 4)).toNatClampNeg)) (sv_st e3 (by omega) rfl) (nm_r (nI_1 i) hw)⟩
theorem sv_uk_l {post : SX → Prop} {K : Nat → Int32} (hbx : sv_BX a_box a_unbox) (hK : sv_V K) (h : ∀ rnd, (∀ r, r ≤ 10 → sv_sl rnd (16 * r) = sv_rk a_box K r) → post (f_isThere, f_volumes, f_generation, f_renewed, f_asideFor, f_copyOf, f_copyGeneration, f_isOpen, f_roundsOf, f_writesLeft, a_sectors, a_tags, a_used, a_telling, a_wrapped, a_wrappedData, a_aside, a_copyUsed, a_copyTelling, a_copyWrapped, a_keys, a_box, a_unbox, rnd, a_block, a_moved, a_tweak, a_plain, a_tag, a_difference)) :
    ∀ d w, w + d = 40 → ∀ rnd, (∀ v, v ≤ w → sv_sl rnd (4 * v) = sv_win a_box K v) → wX_useKey_47 post (d + 1) (sv_cn ((w + 3) / 4)) (nI (16 + 4 * w)) f_isThere f_volumes f_generation f_renewed f_asideFor f_copyOf f_copyGeneration f_isOpen f_roundsOf f_writesLeft a_sectors a_tags a_used a_telling a_wrapped a_wrappedData a_aside a_copyUsed a_copyTelling a_copyWrapped a_keys a_box a_unbox rnd a_block a_moved a_tweak a_plain a_tag a_difference := by
  intro d
  induction d with
  | zero =>
    intro w hw rnd hI
    have w40 : w = 40 := by omega
    subst w40
    refine br_t (nI_le (Nat.le_refl 176) (by decide)) (h rnd (fun r hr => ?_))
    have e := hI (4 * r) (by omega)
    rw [show 4 * (4 * r) = 16 * r by omega] at e
    exact e
  | succ d ih =>
    intro w hw rnd hI
    have hV := sv_win_V hbx hK w
    have er : nI (16 + 4 * w) - nI (16 + 4 * w) / 16 * 16 = nI ((16 + 4 * w) % 16) := pk_rem (d := 16) (by omega) (by decide) (by decide)
    have e4 : nI (16 + 4 * w) + 4 = nI (16 + 4 * (w + 1)) := by
      have := nI_add (16 + 4 * w) 4
      rw [show 16 + 4 * w + 4 = 16 + 4 * (w + 1) by omega] at this
      exact this
    have go : ∀ rnd', (∀ j, j < 16 + 4 * w → rnd' j = rnd j) → (∀ k, k < 4 → rnd' (16 + 4 * w + k) = sv_nw a_box w (sv_win a_box K w) k) → ∀ v, v ≤ w + 1 → sv_sl rnd' (4 * v) = sv_win a_box K v := by
      intro rnd' ho hn v hv
      by_cases c : v ≤ w
      · rw [sv_sl_lo ho (by omega), hI v c]
      · have : v = w + 1 := by omega
        subst this
        rw [sv_win_s]
        exact sv_nx_of (hI w (Nat.le_refl w)) ho hn
    refine br_f (nI_ge (a := 16 + 4 * w) (b := 176) (by omega) (by decide)) ⟨by decide, pk_eq ((16 + 4 * w) % 16) 0 (fun c => ?_) (fun c => ?_) er rfl⟩
    · have c4 : w % 4 = 0 := by omega
      rw [show (w + 3) / 4 = w / 4 by omega]
      refine sv_mixW (ub := a_unbox) (by omega) c4 (hI w (Nat.le_refl w)) hV (fun rnd' ho hn => ?_)
      have := ih (w + 1) (by omega) rnd' (go rnd' ho hn)
      rw [show (w + 1 + 3) / 4 = w / 4 + 1 by omega] at this
      exact nm_r e4 this
    · have c4 : ¬ w % 4 = 0 := by omega
      have g0 : ∀ i, i < 16 → rnd (4 * w + i) = sv_win a_box K w i := fun i hi => by rw [← hI w (Nat.le_refl w), sv_sl_lt hi]
      refine sv_loop (fun n i b => wX_useKey_78 post (wX_useKey_47 post (d + 1)) (sv_cn ((w + 3) / 4)) (nI (16 + 4 * w)) f_isThere f_volumes f_generation f_renewed f_asideFor f_copyOf f_copyGeneration f_isOpen f_roundsOf f_writesLeft n i a_sectors a_tags a_used a_telling a_wrapped a_wrappedData a_aside a_copyUsed a_copyTelling a_copyWrapped a_keys a_box a_unbox b a_block a_moved a_tweak a_plain a_tag a_difference) 4 (16 + 4 * w) rnd (fun k => sv_nw a_box w (sv_win a_box K w) k) (fun n => br_t (nI_le (Nat.le_refl 4) (by decide)) (nm_r e4 ?_)) (fun n i hi hw => ?_)
      · have := ih (w + 1) (by omega) _ (go (sv_fl rnd (16 + 4 * w) 4 (fun k => sv_nw a_box w (sv_win a_box K w) k)) (fun j hj => sv_fl_out (by omega)) (fun k hk => sv_fl_in hk))
        rw [show (w + 1 + 3) / 4 = (w + 3) / 4 by omega] at this
        exact this
      · have e3 : nI (16 + 4 * w) + nI i = nI (16 + 4 * w + i) := nI_add _ _
        have e1 : nI (16 + 4 * w) + nI i - 16 = nI (4 * w + i) := by
          rw [e3]
          have := pk_sub (a := 16 + 4 * w + i) (b := 16) (by omega)
          rw [show 16 + 4 * w + i - 16 = 4 * w + i by omega] at this
          exact this
        have e2 : nI (16 + 4 * w) + nI i - 4 = nI (4 * w + (12 + i)) := by
          rw [e3]
          have := pk_sub (a := 16 + 4 * w + i) (b := 4) (by omega)
          rw [show 16 + 4 * w + i - 4 = 4 * w + (12 + i) by omega] at this
          exact this
        refine br_f (nI_ge (b := 4) hi (by decide)) ⟨pk_in (4 * w + i) 176 (by omega) e1, pk_in (4 * w + (12 + i)) 176 (by omega) e2, pk_in (16 + 4 * w + i) 176 (by omega) e3, nm_r (e' := sv_fl rnd (16 + 4 * w) (i + 1) (fun k => sv_nw a_box w (sv_win a_box K w) k)) (sv_st e3 (by omega) ?_) (nm_r (nI_1 i) hw)⟩
        rw [e1, e2, nI_clamp (by omega), nI_clamp (by omega), sv_fl_out (by omega), sv_fl_out (by omega), g0 i (by omega), g0 (12 + i) (by omega)]
        unfold sv_nw
        rw [if_neg c4]
/-- the health of cipher, key store and cached round keys: κ q is the key at 16 q -/
def sv_H (bx ub keys rnd : Nat → Int32) (ro : Int32) (κ : Nat → Nat → Int32) : Prop :=
  sv_BX bx ub ∧ (∀ q, q < 6 → sv_sl keys (16 * q) = κ q) ∧ (∀ q, q < 6 → sv_V (κ q)) ∧ κ 0 = sv_pub ∧ (ro = -1 ∨ ∃ q, q < 6 ∧ ro = nI (16 * q) ∧ ∀ r, r ≤ 10 → sv_sl rnd (16 * r) = sv_rk bx (κ q) r)
theorem sv_H_L {bx ub keys rnd : Nat → Int32} {κ : Nat → Nat → Int32} {q : Nat} (hq : q < 6) (H : sv_H bx ub keys rnd (nI (16 * q)) κ) : ∀ r, r ≤ 10 → sv_sl rnd (16 * r) = sv_rk bx (κ q) r := by
  rcases H.2.2.2.2 with c | ⟨p, hp, e, hr⟩
  · have : (nI (16 * q)).toInt = (-1 : Int32).toInt := by rw [c]
    rw [nI_toInt (by omega), show (-1 : Int32).toInt = -1 from by decide] at this
    omega
  · have := (nI_eq (by omega) (by omega)).mp e
    have : q = p := by omega
    subst this
    exact hr
theorem sv_useKey {post : SX → Prop} {κ : Nat → Nat → Int32} {q : Nat} (hq : q < 6) (H : sv_H a_box a_unbox a_keys a_round f_roundsOf κ)
    (h : ∀ rnd, sv_H a_box a_unbox a_keys rnd (nI (16 * q)) κ → post (f_isThere, f_volumes, f_generation, f_renewed, f_asideFor, f_copyOf, f_copyGeneration, f_isOpen, nI (16 * q), f_writesLeft, a_sectors, a_tags, a_used, a_telling, a_wrapped, a_wrappedData, a_aside, a_copyUsed, a_copyTelling, a_copyWrapped, a_keys, a_box, a_unbox, rnd, a_block, a_moved, a_tweak, a_plain, a_tag, a_difference)) : wpX_useKey post (f_isThere, f_volumes, f_generation, f_renewed, f_asideFor, f_copyOf, f_copyGeneration, f_isOpen, f_roundsOf, f_writesLeft, a_sectors, a_tags, a_used, a_telling, a_wrapped, a_wrappedData, a_aside, a_copyUsed, a_copyTelling, a_copyWrapped, a_keys, a_box, a_unbox, a_round, a_block, a_moved, a_tweak, a_plain, a_tag, a_difference) (nI (16 * q)) := by
  refine br_c (fun c => ?_) (fun c => ?_)
  · subst c
    exact h a_round H
  · obtain ⟨hbx, hk, hv, h0, hc⟩ := H
    refine sv_loop (fun n i b => wX_useKey_16 post (nI (16 * q)) f_isThere f_volumes f_generation f_renewed f_asideFor f_copyOf f_copyGeneration f_isOpen (nI (16 * q)) f_writesLeft n i a_sectors a_tags a_used a_telling a_wrapped a_wrappedData a_aside a_copyUsed a_copyTelling a_copyWrapped a_keys a_box a_unbox b a_block a_moved a_tweak a_plain a_tag a_difference) 16 0 a_round (fun j => a_keys (16 * q + j)) (fun n => br_t (nI_le (Nat.le_refl 16) (by decide)) ?_) (fun n i hi hw => ?_)
    · refine ⟨41, sv_uk_l (f_roundsOf := nI (16 * q)) (K := κ q) hbx (hv q hq) (fun rnd hr => h rnd ⟨hbx, hk, hv, h0, Or.inr ⟨q, hq, rfl, hr⟩⟩) 40 0 rfl _ (fun v hv => ?_)⟩
      have : v = 0 := by omega
      subst this
      show sv_sl _ 0 = κ q
      rw [← hk q hq]
      exact sv_sl_fl (fun j hj => sv_sl_g hj) (fun j hj => sv_sl_ge hj)
    · have e : nI (16 * q) + nI i = nI (16 * q + i) := nI_add _ _
      refine br_f (nI_ge (b := 16) hi (by decide)) ⟨pk_in (16 * q + i) 96 (by omega) e, vp_in_nI (by omega) (by decide), nm_r (e' := sv_fl a_round 0 (i + 1) (fun j => a_keys (16 * q + j))) (sv_st0 (by omega) ?_) (nm_r (nI_1 i) hw)⟩
      rw [e, nI_clamp (by omega)]
theorem sv_encipher {post : SX → Prop} {κ : Nat → Nat → Int32} {q : Nat} (hq : q < 6) (H : sv_H a_box a_unbox a_keys a_round (nI (16 * q)) κ) {B : Nat → Int32} (hb : sv_sl a_block 0 = B) (hB : sv_V B)
    (h : ∀ b m, sv_sl b 0 = sv_E a_box (κ q) B → post (f_isThere, f_volumes, f_generation, f_renewed, f_asideFor, f_copyOf, f_copyGeneration, f_isOpen, nI (16 * q), f_writesLeft, a_sectors, a_tags, a_used, a_telling, a_wrapped, a_wrappedData, a_aside, a_copyUsed, a_copyTelling, a_copyWrapped, a_keys, a_box, a_unbox, a_round, b, m, a_tweak, a_plain, a_tag, a_difference)) : wpX_encipher post (f_isThere, f_volumes, f_generation, f_renewed, f_asideFor, f_copyOf, f_copyGeneration, f_isOpen, nI (16 * q), f_writesLeft, a_sectors, a_tags, a_used, a_telling, a_wrapped, a_wrappedData, a_aside, a_copyUsed, a_copyTelling, a_copyWrapped, a_keys, a_box, a_unbox, a_round, a_block, a_moved, a_tweak, a_plain, a_tag, a_difference) := by
  subst hb
  exact sv_encR (f_roundsOf := nI (16 * q)) H.1 (sv_rk_V H.1 (H.2.2.1 q hq)) (sv_H_L hq H) hB h
theorem sv_decipher {post : SX → Prop} {κ : Nat → Nat → Int32} {q : Nat} (hq : q < 6) (H : sv_H a_box a_unbox a_keys a_round (nI (16 * q)) κ) {B : Nat → Int32} (hb : sv_sl a_block 0 = B) (hB : sv_V B)
    (h : ∀ b m, sv_sl b 0 = sv_D a_box a_unbox (κ q) B → post (f_isThere, f_volumes, f_generation, f_renewed, f_asideFor, f_copyOf, f_copyGeneration, f_isOpen, nI (16 * q), f_writesLeft, a_sectors, a_tags, a_used, a_telling, a_wrapped, a_wrappedData, a_aside, a_copyUsed, a_copyTelling, a_copyWrapped, a_keys, a_box, a_unbox, a_round, b, m, a_tweak, a_plain, a_tag, a_difference)) : wpX_decipher post (f_isThere, f_volumes, f_generation, f_renewed, f_asideFor, f_copyOf, f_copyGeneration, f_isOpen, nI (16 * q), f_writesLeft, a_sectors, a_tags, a_used, a_telling, a_wrapped, a_wrappedData, a_aside, a_copyUsed, a_copyTelling, a_copyWrapped, a_keys, a_box, a_unbox, a_round, a_block, a_moved, a_tweak, a_plain, a_tag, a_difference) := by
  subst hb
  exact sv_decR (f_roundsOf := nI (16 * q)) H.1 (sv_rk_V H.1 (H.2.2.1 q hq)) (sv_H_L hq H) hB h
def sv_ks (κ : Nat → Nat → Int32) (q : Nat) (B : Nat → Int32) : Nat → Nat → Int32 := fun p => if p = q then B else κ p
theorem sv_ks_s (κ : Nat → Nat → Int32) (q : Nat) (B : Nat → Int32) : sv_ks κ q B q = B := if_pos rfl
theorem sv_ks_n {κ : Nat → Nat → Int32} {q p : Nat} {B : Nat → Int32} (h : p ≠ q) : sv_ks κ q B p = κ p := if_neg h
theorem sv_H_take {bx ub keys rnd : Nat → Int32} {ro ro' : Int32} {κ : Nat → Nat → Int32} {q : Nat} {g B : Nat → Int32} (hq : q < 6) (hq0 : q ≠ 0) (H : sv_H bx ub keys rnd ro κ) (hg : ∀ j, j < 16 → g j = B j) (hB : sv_V B)
    (hro : (ro = nI (16 * q) ∧ ro' = -1) ∨ (ro ≠ nI (16 * q) ∧ ro' = ro)) : sv_H bx ub (sv_fl keys (16 * q) 16 g) rnd ro' (sv_ks κ q B) := by
  obtain ⟨hbx, hk, hv, h0, hc⟩ := H
  refine ⟨hbx, fun p hp => ?_, fun p hp => ?_, ?_, ?_⟩
  · by_cases c : p = q
    · subst c
      rw [sv_ks_s]
      exact sv_sl_fl hg (sv_V0 hB)
    · rw [sv_ks_n c, sv_sl_out (by omega), hk p hp]
  · by_cases c : p = q
    · subst c
      rw [sv_ks_s]; exact hB
    · rw [sv_ks_n c]; exact hv p hp
  · rw [sv_ks_n (fun z => hq0 z.symm), h0]
  · rcases hro with ⟨_, e⟩ | ⟨hn, e⟩
    · exact Or.inl e
    · rcases hc with c | ⟨p, hp, ep, hr⟩
      · exact Or.inl (e.trans c)
      · have hpq : p ≠ q := fun z => hn (by rw [ep, z])
        exact Or.inr ⟨p, hp, e.trans ep, fun r h => by rw [sv_ks_n hpq]; exact hr r h⟩
theorem sv_takeKey {post : SX → Prop} {κ : Nat → Nat → Int32} {q : Nat} (hq : q < 6) (hq0 : q ≠ 0) (H : sv_H a_box a_unbox a_keys a_round f_roundsOf κ) {B : Nat → Int32} (hb : sv_sl a_block 0 = B) (hB : sv_V B)
    (h : ∀ ks ro, (f_roundsOf ≠ nI (16 * q) → ro = f_roundsOf) → sv_H a_box a_unbox ks a_round ro (sv_ks κ q B) → post (f_isThere, f_volumes, f_generation, f_renewed, f_asideFor, f_copyOf, f_copyGeneration, f_isOpen, ro, f_writesLeft, a_sectors, a_tags, a_used, a_telling, a_wrapped, a_wrappedData, a_aside, a_copyUsed, a_copyTelling, a_copyWrapped, ks, a_box, a_unbox, a_round, a_block, a_moved, a_tweak, a_plain, a_tag, a_difference)) : wpX_takeKey post (f_isThere, f_volumes, f_generation, f_renewed, f_asideFor, f_copyOf, f_copyGeneration, f_isOpen, f_roundsOf, f_writesLeft, a_sectors, a_tags, a_used, a_telling, a_wrapped, a_wrappedData, a_aside, a_copyUsed, a_copyTelling, a_copyWrapped, a_keys, a_box, a_unbox, a_round, a_block, a_moved, a_tweak, a_plain, a_tag, a_difference) (nI (16 * q)) := by
  have hg : ∀ j, j < 16 → a_block j = B j := fun j hj => by rw [← hb]; exact sv_sl_0 hj
  refine sv_loop (fun n i b => wX_takeKey_2 post (nI (16 * q)) f_isThere f_volumes f_generation f_renewed f_asideFor f_copyOf f_copyGeneration f_isOpen f_roundsOf f_writesLeft n i a_sectors a_tags a_used a_telling a_wrapped a_wrappedData a_aside a_copyUsed a_copyTelling a_copyWrapped b a_box a_unbox a_round a_block a_moved a_tweak a_plain a_tag a_difference) 16 (16 * q) a_keys a_block (fun n => br_t (nI_le (Nat.le_refl 16) (by decide)) (br_c (fun c => ?_) (fun c => ?_))) (fun n i hi hw => ?_)
  · exact h _ _ (fun z => absurd c z) (sv_H_take hq hq0 H hg hB (Or.inl ⟨c, rfl⟩))
  · exact h _ _ (fun _ => rfl) (sv_H_take hq hq0 H hg hB (Or.inr ⟨c, rfl⟩))
  · have e : nI (16 * q) + nI i = nI (16 * q + i) := nI_add _ _
    refine br_f (nI_ge (b := 16) hi (by decide)) ⟨vp_in_nI hi (by decide), pk_in (16 * q + i) 96 (by omega) e, nm_r (e' := sv_fl a_keys (16 * q) (i + 1) a_block) (sv_st e (by omega) ?_) (nm_r (nI_1 i) hw)⟩
    rw [nI_clamp (by omega)]
theorem sv_layKey {post : SX → Prop} {κ : Nat → Nat → Int32} {q : Nat} (hq : q < 6) (H : sv_H a_box a_unbox a_keys a_round f_roundsOf κ) (h : ∀ b, sv_sl b 0 = κ q → post (f_isThere, f_volumes, f_generation, f_renewed, f_asideFor, f_copyOf, f_copyGeneration, f_isOpen, f_roundsOf, f_writesLeft, a_sectors, a_tags, a_used, a_telling, a_wrapped, a_wrappedData, a_aside, a_copyUsed, a_copyTelling, a_copyWrapped, a_keys, a_box, a_unbox, a_round, b, a_moved, a_tweak, a_plain, a_tag, a_difference)) : wpX_layKey post (f_isThere, f_volumes, f_generation, f_renewed, f_asideFor, f_copyOf, f_copyGeneration, f_isOpen, f_roundsOf, f_writesLeft, a_sectors, a_tags, a_used, a_telling, a_wrapped, a_wrappedData, a_aside, a_copyUsed, a_copyTelling, a_copyWrapped, a_keys, a_box, a_unbox, a_round, a_block, a_moved, a_tweak, a_plain, a_tag, a_difference) (nI (16 * q)) := by
  refine sv_loop (fun n i b => wX_layKey_2 post (nI (16 * q)) f_isThere f_volumes f_generation f_renewed f_asideFor f_copyOf f_copyGeneration f_isOpen f_roundsOf f_writesLeft n i a_sectors a_tags a_used a_telling a_wrapped a_wrappedData a_aside a_copyUsed a_copyTelling a_copyWrapped a_keys a_box a_unbox a_round b a_moved a_tweak a_plain a_tag a_difference) 16 0 a_block (fun j => a_keys (16 * q + j)) (fun n => br_t (nI_le (Nat.le_refl 16) (by decide)) (h _ ?_)) (fun n i hi hw => ?_)
  · rw [← H.2.1 q hq]
    exact sv_sl_fl (fun j hj => sv_sl_g hj) (fun j hj => sv_sl_ge hj)
  · have e : nI (16 * q) + nI i = nI (16 * q + i) := nI_add _ _
    refine br_f (nI_ge (b := 16) hi (by decide)) ⟨pk_in (16 * q + i) 96 (by omega) e, vp_in_nI hi (by decide), nm_r (e' := sv_fl a_block 0 (i + 1) (fun j => a_keys (16 * q + j))) (sv_st0 (by omega) ?_) (nm_r (nI_1 i) hw)⟩
    rw [e, nI_clamp (by omega)]
end
end
section
theorem sv_sl_u0 (a : Nat → Int32) (x : Int32) : sv_sl (upd a 0 x) 0 = upd (sv_sl a 0) 0 x := by
  funext j
  by_cases hj : j < 16
  · rw [sv_sl_lt hj, Nat.zero_add]
    unfold upd
    by_cases c : j = 0
    · rw [if_pos c, if_pos c]
    · rw [if_neg c, if_neg c, sv_sl_lt hj, Nat.zero_add]
  · rw [sv_sl_ge hj, pk_un (by omega), sv_sl_ge hj]
theorem sv_sl_at0 (a : Nat → Int32) : sv_sl a 0 0 = a 0 := by rw [sv_sl_lt (by decide)]
theorem sv_cmp (W : Nat → Int32 → Prop) (N : Nat) (P : Nat → Prop) (A B : Prop) (hA : (∀ i, i < N → P i) → A) (hB : (∃ i, i < N ∧ ¬ P i) → B)
    (hx : A → ∀ n, W (n + 1) (nI N)) (hs : ∀ n i, i < N → (P i → W n (nI (i + 1))) → (¬ P i → B) → W (n + 1) (nI i)) : ∃ n, W n 0 := by
  have key : ∀ d i, i + d = N → (∀ k, k < i → P k) → W (d + 1) (nI i) := by
    intro d
    induction d with
    | zero => intro i hi h; have : i = N := by omega
              subst this; exact hx (hA h) 0
    | succ d ih => intro i hi h; exact hs (d + 1) i (by omega) (fun c => ih (i + 1) (by omega) (lt_s h c)) (fun c => hB ⟨i, by omega, c⟩)
  have h := key N 0 (by omega) lt_0
  rw [nI_0] at h
  exact ⟨_, h⟩
theorem sv_ne_sl {a b : Nat → Int32} {o p : Nat} (h : ∃ i, i < 16 ∧ ¬ a (o + i) = b (p + i)) : sv_sl a o ≠ sv_sl b p := fun e => by
  obtain ⟨i, hi, hn⟩ := h
  have := congrFun e i
  rw [sv_sl_lt hi, sv_sl_lt hi] at this
  exact hn this
/-- slots: which one has the passphrase -/
def sv_fd (us ph : Nat → Int32) (p : Int32) : Nat → Nat → Int32
  | 0 => fun _ => -1
  | d + 1 => fun s => if us s = 0 then sv_fd us ph p d (s + 1) else if ph s = p then nI s else sv_fd us ph p d (s + 1)
theorem sv_fd_spec (us ph : Nat → Int32) (p : Int32) : ∀ d s, (sv_fd us ph p d s = -1 ∧ ∀ k, s ≤ k → k < s + d → us k ≠ 0 → ph k ≠ p) ∨ (∃ k, k < s + d ∧ sv_fd us ph p d s = nI k ∧ us k ≠ 0 ∧ ph k = p) := by
  intro d
  induction d with
  | zero => intro s; exact Or.inl ⟨rfl, fun k h1 h2 => absurd h2 (by omega)⟩
  | succ d ih =>
    intro s
    have go : (us s ≠ 0 → ph s ≠ p) → sv_fd us ph p (d + 1) s = sv_fd us ph p d (s + 1) → (sv_fd us ph p (d + 1) s = -1 ∧ ∀ k, s ≤ k → k < s + (d + 1) → us k ≠ 0 → ph k ≠ p) ∨ (∃ k, k < s + (d + 1) ∧ sv_fd us ph p (d + 1) s = nI k ∧ us k ≠ 0 ∧ ph k = p) := by
      intro hn e
      rw [e]
      rcases ih (s + 1) with ⟨h1, h2⟩ | ⟨k, h1, h2, h3⟩
      · refine Or.inl ⟨h1, fun k hk1 hk2 => ?_⟩
        by_cases c : k = s
        · subst c; exact hn
        · exact h2 k (by omega) (by omega)
      · exact Or.inr ⟨k, by omega, h2, h3⟩
    by_cases c : us s = 0
    · exact go (fun z => absurd c z) (if_pos c)
    · by_cases c2 : ph s = p
      · exact Or.inr ⟨s, by omega, by show (if us s = 0 then _ else if ph s = p then nI s else _) = _; rw [if_neg c, if_pos c2], c, c2⟩
      · exact go (fun _ => c2) (by show (if us s = 0 then _ else if ph s = p then nI s else _) = _; rw [if_neg c, if_neg c2])
def sv_uc (us : Nat → Int32) : Nat → Nat
  | 0 => 0
  | s + 1 => if us s = 0 then sv_uc us s else sv_uc us s + 1
theorem sv_uc_le (us : Nat → Int32) : ∀ s, sv_uc us s ≤ s := by
  intro s
  induction s with
  | zero => exact Nat.le_refl 0
  | succ s ih =>
    show (if us s = 0 then sv_uc us s else sv_uc us s + 1) ≤ s + 1
    by_cases c : us s = 0
    · rw [if_pos c]; omega
    · rw [if_neg c]; omega
section
variable {f_isThere f_volumes f_generation f_renewed f_asideFor f_copyOf f_copyGeneration f_isOpen f_roundsOf f_writesLeft : Int32} {a_sectors a_tags a_used a_telling a_wrapped a_wrappedData a_aside a_copyUsed a_copyTelling a_copyWrapped a_keys a_box a_unbox a_round a_block a_moved a_tweak a_plain a_tag a_difference : Nat → Int32}
theorem sv_derive {post : SX → Prop} {κ : Nat → Nat → Int32} (H : sv_H a_box a_unbox a_keys a_round f_roundsOf κ) (num pur : Int32)
    (h : ∀ b m rnd, sv_sl b 0 = sv_dq a_box num f_volumes pur → sv_H a_box a_unbox a_keys rnd (nI (16 * 0)) κ → post (f_isThere, f_volumes, f_generation, f_renewed, f_asideFor, f_copyOf, f_copyGeneration, f_isOpen, nI (16 * 0), f_writesLeft, a_sectors, a_tags, a_used, a_telling, a_wrapped, a_wrappedData, a_aside, a_copyUsed, a_copyTelling, a_copyWrapped, a_keys, a_box, a_unbox, rnd, b, m, a_tweak, a_plain, a_tag, a_difference)) : wpX_derive post (f_isThere, f_volumes, f_generation, f_renewed, f_asideFor, f_copyOf, f_copyGeneration, f_isOpen, f_roundsOf, f_writesLeft, a_sectors, a_tags, a_used, a_telling, a_wrapped, a_wrappedData, a_aside, a_copyUsed, a_copyTelling, a_copyWrapped, a_keys, a_box, a_unbox, a_round, a_block, a_moved, a_tweak, a_plain, a_tag, a_difference) num pur := by
  refine sv_loopS (fun n i b => wX_derive_2 post num pur f_isThere f_volumes f_generation f_renewed f_asideFor f_copyOf f_copyGeneration f_isOpen f_roundsOf f_writesLeft n i a_sectors a_tags a_used a_telling a_wrapped a_wrappedData a_aside a_copyUsed a_copyTelling a_copyWrapped a_keys a_box a_unbox a_round b a_moved a_tweak a_plain a_tag a_difference) (fun i b => ∀ k, k < i → b k = sv_by num k ∧ b (4 + k) = sv_by f_volumes k ∧ b (8 + k) = sv_by pur k ∧ b (12 + k) = 0) 4 a_block (fun k hk => absurd hk (Nat.not_lt_zero k)) (fun n b hb => br_t (nI_le (Nat.le_refl 4) (by decide)) ?_) (fun n i b hi hI hw => ?_)
  · have hbv : sv_sl b 0 = sv_dv num f_volumes pur := by
      refine sv_sl_B (fun j hj => ?_) (sv_V0 (sv_dv_V _ _ _))
      rw [Nat.zero_add]
      unfold sv_dv
      by_cases c1 : j < 4
      · rw [if_pos c1]; exact (hb j c1).1
      · rw [if_neg c1]
        by_cases c2 : j < 8
        · rw [if_pos c2, ← (hb (j - 4) (by omega)).2.1]; exact congrArg b (by omega)
        · rw [if_neg c2]
          by_cases c3 : j < 12
          · rw [if_pos c3, ← (hb (j - 8) (by omega)).2.2.1]; exact congrArg b (by omega)
          · rw [if_neg c3, ← (hb (j - 12) (by omega)).2.2.2]; exact congrArg b (by omega)
    refine sv_useKey (q := 0) (by omega) H (fun rnd H' => sv_encipher (q := 0) (by omega) H' hbv (sv_dv_V _ _ _) (fun b2 m2 h2 => h b2 m2 rnd ?_ H'))
    rw [h2, H'.2.2.2.1]
    rfl
  · have e8 : (8 : Int32) * nI i = nI (8 * i) := pk_mul 8 i
    have f4 : (4 : Int32) + nI i = nI (4 + i) := nI_add 4 i
    have f8 : (8 : Int32) + nI i = nI (8 + i) := nI_add 8 i
    have f12 : (12 : Int32) + nI i = nI (12 + i) := nI_add 12 i
    refine br_f (nI_ge (b := 4) hi (by decide)) ⟨vp_in_nI (by omega) (by decide), nm_e ⟨pk_in (4 + i) 16 (by omega) f4, nm_e ⟨pk_in (8 + i) 16 (by omega) f8, nm_e ⟨pk_in (12 + i) 16 (by omega) f12, nm_e (nm_r (nI_1 i) (hw _ (fun k hk => ?_)))⟩⟩⟩⟩
    rw [e8, f4, f8, f12, nI_clamp (n := i) (by omega), nI_clamp (n := 4 + i) (by omega), nI_clamp (n := 8 + i) (by omega), nI_clamp (n := 12 + i) (by omega)]
    unfold upd
    by_cases c : k = i
    · subst c
      refine ⟨?_, ?_, ?_, ?_⟩
      · rw [if_neg (by omega), if_neg (by omega), if_neg (by omega), if_pos rfl]; rfl
      · rw [if_neg (by omega), if_neg (by omega), if_pos rfl]; rfl
      · rw [if_neg (by omega), if_pos rfl]; rfl
      · rw [if_pos rfl]
    · obtain ⟨h1, h2, h3, h4⟩ := hI k (by omega)
      refine ⟨?_, ?_, ?_, ?_⟩
      · rw [if_neg (by omega), if_neg (by omega), if_neg (by omega), if_neg (by omega)]; exact h1
      · rw [if_neg (by omega), if_neg (by omega), if_neg (by omega), if_neg (by omega)]; exact h2
      · rw [if_neg (by omega), if_neg (by omega), if_neg (by omega), if_neg (by omega)]; exact h3
      · rw [if_neg (by omega), if_neg (by omega), if_neg (by omega), if_neg (by omega)]; exact h4
theorem sv_mk_l {post : SX → Prop} {κ : Nat → Nat → Int32} {p : Int32} (H : sv_H a_box a_unbox a_keys a_round (nI (16 * 0)) κ)
    (h : ∀ b m ks, sv_H a_box a_unbox ks a_round (nI (16 * 0)) (sv_ks κ 1 (sv_mk a_box p f_volumes)) → post (f_isThere, f_volumes, f_generation, f_renewed, f_asideFor, f_copyOf, f_copyGeneration, f_isOpen, nI (16 * 0), f_writesLeft, a_sectors, a_tags, a_used, a_telling, a_wrapped, a_wrappedData, a_aside, a_copyUsed, a_copyTelling, a_copyWrapped, ks, a_box, a_unbox, a_round, b, m, a_tweak, a_plain, a_tag, a_difference)) :
    ∀ d n, n + d = 4 → ∀ b m, sv_sl b 0 = sv_mi a_box p f_volumes n → wX_makeKey_8 post (d + 1) (nI n) f_isThere f_volumes f_generation f_renewed f_asideFor f_copyOf f_copyGeneration f_isOpen (nI (16 * 0)) f_writesLeft a_sectors a_tags a_used a_telling a_wrapped a_wrappedData a_aside a_copyUsed a_copyTelling a_copyWrapped a_keys a_box a_unbox a_round b m a_tweak a_plain a_tag a_difference := by
  intro d
  induction d with
  | zero =>
    intro n hn b m hb
    have n4 : n = 4 := by omega
    subst n4
    refine br_t (nI_le (Nat.le_refl 4) (by decide)) (sv_takeKey (q := 1) (by omega) (by omega) H hb (sv_mi_V H.1 p f_volumes 4 (by omega)) (fun ks ro hro H' => ?_))
    have e := hro (by decide)
    subst e
    exact h b m ks H'
  | succ d ih =>
    intro n hn b m hb
    have V := sv_mi_V H.1 p f_volumes n (by omega)
    refine br_f (nI_ge (a := n) (b := 4) (by omega) (by decide)) (nm_e (sv_encipher (q := 0) (by omega) H (B := upd (sv_mi a_box p f_volumes n) 0 (sv_mi a_box p f_volumes n 0 ^^^ nI (n + 1))) ?_ (sv_upd_V V (by decide) (sv_b_xor (V 0).1 (sv_b_n (by omega)))) (fun b2 m2 h2 => nm_r (nI_1 n) (ih (n + 1) (by omega) b2 m2 ?_))))
    · rw [sv_sl_u0, hb, nI_1, ← sv_sl_at0 b, hb]
    · rw [h2, H.2.2.2.1]
      rfl
theorem sv_makeKey {post : SX → Prop} {κ : Nat → Nat → Int32} {p : Int32} (H : sv_H a_box a_unbox a_keys a_round f_roundsOf κ)
    (h : ∀ b m rnd ks, sv_H a_box a_unbox ks rnd (nI (16 * 0)) (sv_ks κ 1 (sv_mk a_box p f_volumes)) → post (f_isThere, f_volumes, f_generation, f_renewed, f_asideFor, f_copyOf, f_copyGeneration, f_isOpen, nI (16 * 0), f_writesLeft, a_sectors, a_tags, a_used, a_telling, a_wrapped, a_wrappedData, a_aside, a_copyUsed, a_copyTelling, a_copyWrapped, ks, a_box, a_unbox, rnd, b, m, a_tweak, a_plain, a_tag, a_difference)) : wpX_makeKey post (f_isThere, f_volumes, f_generation, f_renewed, f_asideFor, f_copyOf, f_copyGeneration, f_isOpen, f_roundsOf, f_writesLeft, a_sectors, a_tags, a_used, a_telling, a_wrapped, a_wrappedData, a_aside, a_copyUsed, a_copyTelling, a_copyWrapped, a_keys, a_box, a_unbox, a_round, a_block, a_moved, a_tweak, a_plain, a_tag, a_difference) p := by
  unfold wpX_makeKey
  refine sv_derive H p 1 (fun b m rnd hb H' => ?_)
  exact ⟨5, sv_mk_l H' (fun b2 m2 ks H2 => h b2 m2 rnd ks H2) 4 0 rfl b m hb⟩
theorem sv_fillSlot {post : SX → Prop} {κ : Nat → Nat → Int32} {p : Int32} {s : Nat} (hs : s < 4) (H : sv_H a_box a_unbox a_keys a_round f_roundsOf κ)
    (h : ∀ b m rnd ks tl wr, sv_H a_box a_unbox ks rnd (nI (16 * 1)) (sv_ks κ 1 (sv_mk a_box p f_volumes)) → sv_sl tl (16 * s) = sv_dq a_box p f_volumes 2 → (∀ z, z < 4 → z ≠ s → sv_sl tl (16 * z) = sv_sl a_telling (16 * z)) → sv_sl wr (16 * s) = sv_E a_box (sv_mk a_box p f_volumes) (κ 2) → (∀ z, z < 4 → z ≠ s → sv_sl wr (16 * z) = sv_sl a_wrapped (16 * z)) → post (f_isThere, f_volumes, f_generation, f_renewed, f_asideFor, f_copyOf, f_copyGeneration, f_isOpen, nI (16 * 1), f_writesLeft, a_sectors, a_tags, upd a_used s 1, tl, wr, a_wrappedData, a_aside, a_copyUsed, a_copyTelling, a_copyWrapped, ks, a_box, a_unbox, rnd, b, m, a_tweak, a_plain, a_tag, a_difference)) : wpX_fillSlot post (f_isThere, f_volumes, f_generation, f_renewed, f_asideFor, f_copyOf, f_copyGeneration, f_isOpen, f_roundsOf, f_writesLeft, a_sectors, a_tags, a_used, a_telling, a_wrapped, a_wrappedData, a_aside, a_copyUsed, a_copyTelling, a_copyWrapped, a_keys, a_box, a_unbox, a_round, a_block, a_moved, a_tweak, a_plain, a_tag, a_difference) (nI s) p := by
  unfold wpX_fillSlot
  refine sv_derive H p 2 (fun b m rnd hb H1 => ?_)
  refine sv_loop (fun n i t => wX_fillSlot_8 post (nI s) p f_isThere f_volumes f_generation f_renewed f_asideFor f_copyOf f_copyGeneration f_isOpen (nI (16 * 0)) f_writesLeft n i a_sectors a_tags a_used t a_wrapped a_wrappedData a_aside a_copyUsed a_copyTelling a_copyWrapped a_keys a_box a_unbox rnd b m a_tweak a_plain a_tag a_difference) 16 (16 * s) a_telling b (fun n => br_t (nI_le (Nat.le_refl 16) (by decide)) ?_) (fun n i hi hw => ?_)
  · refine sv_makeKey H1 (fun b2 m2 rnd2 ks2 H2 => sv_layKey (q := 2) (by omega) H2 (fun b3 h3 => sv_useKey (q := 1) (by omega) H2 (fun rnd4 H4 => sv_encipher (q := 1) (by omega) H4 h3 (H2.2.2.1 2 (by omega)) (fun b5 m5 h5 => ?_))))
    refine sv_loop (fun n i t => wX_fillSlot_60 post (nI s) f_isThere f_volumes f_generation f_renewed f_asideFor f_copyOf f_copyGeneration f_isOpen (nI (16 * 1)) f_writesLeft n i a_sectors a_tags a_used (sv_fl a_telling (16 * s) 16 b) t a_wrappedData a_aside a_copyUsed a_copyTelling a_copyWrapped ks2 a_box a_unbox rnd4 b5 m5 a_tweak a_plain a_tag a_difference) 16 (16 * s) a_wrapped b5 (fun n => br_t (nI_le (Nat.le_refl 16) (by decide)) ⟨vp_in_nI hs (by decide), ?_⟩) (fun n i hi hw => ?_)
    · refine nm_r (e' := upd a_used s 1) (by rw [nI_clamp (by omega)]; rfl) (h _ _ _ _ _ _ H4 ?_ (fun z hz hn => sv_sl_out (by omega)) ?_ (fun z hz hn => sv_sl_out (by omega)))
      · rw [← hb]
        exact sv_sl_fl (fun j hj => sv_sl_0 hj) (fun j hj => sv_sl_ge hj)
      · rw [sv_ks_s, sv_ks_n (by decide)] at h5
        rw [← h5]
        exact sv_sl_fl (fun j hj => sv_sl_0 hj) (fun j hj => sv_sl_ge hj)
    · have e : (16 : Int32) * nI s + nI i = nI (16 * s + i) := sv_ix 16 s i
      refine br_f (nI_ge (b := 16) hi (by decide)) ⟨vp_in_nI hi (by decide), pk_in (16 * s + i) 64 (by omega) e, nm_r (e' := sv_fl a_wrapped (16 * s) (i + 1) b5) (sv_st e (by omega) ?_) (nm_r (nI_1 i) hw)⟩
      rw [nI_clamp (by omega)]
  · have e : (16 : Int32) * nI s + nI i = nI (16 * s + i) := sv_ix 16 s i
    refine br_f (nI_ge (b := 16) hi (by decide)) ⟨vp_in_nI hi (by decide), pk_in (16 * s + i) 64 (by omega) e, nm_r (e' := sv_fl a_telling (16 * s) (i + 1) b) (sv_st e (by omega) ?_) (nm_r (nI_1 i) hw)⟩
    rw [nI_clamp (by omega)]
theorem sv_isTold {post : Int32 → Prop} {s : Nat} (hs : s < 4) (hu : a_used s = 0 ∨ a_used s = 1) (ht : sv_sl a_telling (16 * s) = sv_sl a_block 0 → post (a_used s)) (hf : sv_sl a_telling (16 * s) ≠ sv_sl a_block 0 → post 0) : wpX_isTold post (f_isThere, f_volumes, f_generation, f_renewed, f_asideFor, f_copyOf, f_copyGeneration, f_isOpen, f_roundsOf, f_writesLeft, a_sectors, a_tags, a_used, a_telling, a_wrapped, a_wrappedData, a_aside, a_copyUsed, a_copyTelling, a_copyWrapped, a_keys, a_box, a_unbox, a_round, a_block, a_moved, a_tweak, a_plain, a_tag, a_difference) (nI s) := by
  refine sv_cmp (fun n i => wX_isTold_2 post (nI s) f_isThere f_volumes f_generation f_renewed f_asideFor f_copyOf f_copyGeneration f_isOpen f_roundsOf f_writesLeft a_sectors a_tags a_used a_telling a_wrapped a_wrappedData a_aside a_copyUsed a_copyTelling a_copyWrapped a_keys a_box a_unbox a_round a_block a_moved a_tweak a_plain a_tag a_difference n i) 16 (fun i => a_telling (16 * s + i) = a_block (0 + i)) (post (a_used s)) (post 0) (fun h => ht (sv_sl_eq h)) (fun h => hf (sv_ne_sl h)) (fun hp n => br_t (nI_le (Nat.le_refl 16) (by decide)) ⟨vp_in_nI hs (by decide), ?_⟩) (fun n i hi hw hb => ?_)
  · rw [nI_clamp (by omega)]
    refine ⟨?_, hp⟩
    rcases hu with e | e <;> rw [e] <;> rfl
  · have e : (16 : Int32) * nI s + nI i = nI (16 * s + i) := sv_ix 16 s i
    refine br_f (nI_ge (b := 16) hi (by decide)) ⟨pk_in (16 * s + i) 64 (by omega) e, vp_in_nI hi (by decide), ?_⟩
    rw [e, nI_clamp (n := 16 * s + i) (by omega), nI_clamp (n := i) (by omega)]
    rw [Nat.zero_add] at hw hb
    exact ⟨fun c => nm_r (nI_1 i) (hw c), hb⟩
theorem sv_findSlot {post : Int32 → SX → Prop} {κ : Nat → Nat → Int32} {p : Int32} {ph : Nat → Int32} (H : sv_H a_box a_unbox a_keys a_round f_roundsOf κ) (hu : ∀ s, s < 4 → a_used s = 0 ∨ a_used s = 1) (ht : ∀ s, s < 4 → a_used s ≠ 0 → sv_sl a_telling (16 * s) = sv_dq a_box (ph s) f_volumes 2)
    (h : ∀ b m rnd, sv_H a_box a_unbox a_keys rnd (nI (16 * 0)) κ → post (sv_fd a_used ph p 4 0) (f_isThere, f_volumes, f_generation, f_renewed, f_asideFor, f_copyOf, f_copyGeneration, f_isOpen, nI (16 * 0), f_writesLeft, a_sectors, a_tags, a_used, a_telling, a_wrapped, a_wrappedData, a_aside, a_copyUsed, a_copyTelling, a_copyWrapped, a_keys, a_box, a_unbox, rnd, b, m, a_tweak, a_plain, a_tag, a_difference)) : wpX_findSlot post (f_isThere, f_volumes, f_generation, f_renewed, f_asideFor, f_copyOf, f_copyGeneration, f_isOpen, f_roundsOf, f_writesLeft, a_sectors, a_tags, a_used, a_telling, a_wrapped, a_wrappedData, a_aside, a_copyUsed, a_copyTelling, a_copyWrapped, a_keys, a_box, a_unbox, a_round, a_block, a_moved, a_tweak, a_plain, a_tag, a_difference) p := by
  unfold wpX_findSlot
  refine sv_derive H p 2 (fun b m rnd hb H1 => ?_)
  have key : ∀ d s, s + d = 4 → post (sv_fd a_used ph p d s) (f_isThere, f_volumes, f_generation, f_renewed, f_asideFor, f_copyOf, f_copyGeneration, f_isOpen, nI (16 * 0), f_writesLeft, a_sectors, a_tags, a_used, a_telling, a_wrapped, a_wrappedData, a_aside, a_copyUsed, a_copyTelling, a_copyWrapped, a_keys, a_box, a_unbox, rnd, b, m, a_tweak, a_plain, a_tag, a_difference) → wX_findSlot_8 post f_isThere f_volumes f_generation f_renewed f_asideFor f_copyOf f_copyGeneration f_isOpen (nI (16 * 0)) f_writesLeft a_sectors a_tags a_used a_telling a_wrapped a_wrappedData a_aside a_copyUsed a_copyTelling a_copyWrapped a_keys a_box a_unbox rnd b m a_tweak a_plain a_tag a_difference (d + 1) (nI s) := by
    intro d
    induction d with
    | zero =>
      intro s hs hp
      have s4 : s = 4 := by omega
      subst s4
      exact br_t (nI_le (Nat.le_refl 4) (by decide)) hp
    | succ d ih =>
      intro s hs hp
      have hs4 : s < 4 := by omega
      refine br_f (nI_ge (a := s) (b := 4) hs4 (by decide)) (sv_isTold hs4 (hu s hs4) (fun e => ?_) (fun e => ?_))
      · by_cases c : a_used s = 0
        · refine br_t c (nm_r (nI_1 s) (ih (s + 1) (by omega) ?_))
          rw [show sv_fd a_used ph p (d + 1) s = sv_fd a_used ph p d (s + 1) from if_pos c] at hp
          exact hp
        · have e2 := ht s hs4 c
          rw [e, hb] at e2
          have ep : p = ph s := sv_dq_inj H.1 e2
          refine br_f c ?_
          rw [show sv_fd a_used ph p (d + 1) s = nI s from (if_neg c).trans (if_pos ep.symm)] at hp
          exact hp
      · refine br_t rfl (nm_r (nI_1 s) (ih (s + 1) (by omega) ?_))
        have e3 : sv_fd a_used ph p (d + 1) s = sv_fd a_used ph p d (s + 1) := by
          by_cases c : a_used s = 0
          · exact if_pos c
          · have hne : ph s ≠ p := fun z => e (by rw [ht s hs4 c, hb, z])
            exact (if_neg c).trans (if_neg hne)
        rw [e3] at hp
        exact hp
  have k0 := key 4 0 rfl (h b m rnd H1)
  rw [nI_0] at k0
  exact ⟨5, k0⟩
theorem sv_usedSlots {post : Int32 → Prop} (h : post (nI (sv_uc a_used 4))) : wpX_usedSlots post (f_isThere, f_volumes, f_generation, f_renewed, f_asideFor, f_copyOf, f_copyGeneration, f_isOpen, f_roundsOf, f_writesLeft, a_sectors, a_tags, a_used, a_telling, a_wrapped, a_wrappedData, a_aside, a_copyUsed, a_copyTelling, a_copyWrapped, a_keys, a_box, a_unbox, a_round, a_block, a_moved, a_tweak, a_plain, a_tag, a_difference) := by
  have key : ∀ d s, s + d = 4 → wX_usedSlots_4 post f_isThere f_volumes f_generation f_renewed f_asideFor f_copyOf f_copyGeneration f_isOpen f_roundsOf f_writesLeft a_sectors a_tags a_used a_telling a_wrapped a_wrappedData a_aside a_copyUsed a_copyTelling a_copyWrapped a_keys a_box a_unbox a_round a_block a_moved a_tweak a_plain a_tag a_difference (d + 1) (nI (sv_uc a_used s)) (nI s) := by
    intro d
    induction d with
    | zero =>
      intro s hs
      have s4 : s = 4 := by omega
      subst s4
      exact br_t (nI_le (Nat.le_refl 4) (by decide)) h
    | succ d ih =>
      intro s hs
      have hs4 : s < 4 := by omega
      have k := ih (s + 1) (by omega)
      refine br_f (nI_ge (a := s) (b := 4) hs4 (by decide)) ⟨vp_in_nI hs4 (by decide), ?_⟩
      rw [nI_clamp (n := s) (by omega)]
      refine br_c (fun c => ?_) (fun c => ?_)
      · rw [show sv_uc a_used (s + 1) = sv_uc a_used s from if_pos c] at k
        exact nm_r (Int32.add_zero _) (nm_r (nI_1 s) k)
      · rw [show sv_uc a_used (s + 1) = sv_uc a_used s + 1 from if_neg c] at k
        exact nm_r (nI_1 _) (nm_r (nI_1 s) k)
  have k0 := key 4 0 rfl
  rw [show sv_uc a_used 0 = 0 from rfl, nI_0] at k0
  exact ⟨5, k0⟩
theorem sv_wrapData {post : SX → Prop} {κ : Nat → Nat → Int32} {q p : Nat} (hq : q < 6) (hp : p < 2) (H : sv_H a_box a_unbox a_keys a_round f_roundsOf κ)
    (h : ∀ b m rnd wd, sv_H a_box a_unbox a_keys rnd (nI (16 * 2)) κ → sv_sl wd (16 * p) = sv_E a_box (κ 2) (κ q) → (∀ z, z < 2 → z ≠ p → sv_sl wd (16 * z) = sv_sl a_wrappedData (16 * z)) → post (f_isThere, f_volumes, f_generation, f_renewed, f_asideFor, f_copyOf, f_copyGeneration, f_isOpen, nI (16 * 2), f_writesLeft, a_sectors, a_tags, a_used, a_telling, a_wrapped, wd, a_aside, a_copyUsed, a_copyTelling, a_copyWrapped, a_keys, a_box, a_unbox, rnd, b, m, a_tweak, a_plain, a_tag, a_difference)) : wpX_wrapData post (f_isThere, f_volumes, f_generation, f_renewed, f_asideFor, f_copyOf, f_copyGeneration, f_isOpen, f_roundsOf, f_writesLeft, a_sectors, a_tags, a_used, a_telling, a_wrapped, a_wrappedData, a_aside, a_copyUsed, a_copyTelling, a_copyWrapped, a_keys, a_box, a_unbox, a_round, a_block, a_moved, a_tweak, a_plain, a_tag, a_difference) (nI (16 * q)) (nI (16 * p)) := by
  unfold wpX_wrapData
  refine sv_layKey hq H (fun b1 h1 => sv_useKey (q := 2) (by omega) H (fun rnd H2 => sv_encipher (q := 2) (by omega) H2 h1 (H.2.2.1 q hq) (fun b3 m3 h3 => ?_)))
  refine sv_loop (fun n i t => wX_wrapData_17 post (nI (16 * p)) f_isThere f_volumes f_generation f_renewed f_asideFor f_copyOf f_copyGeneration f_isOpen (nI (16 * 2)) f_writesLeft n i a_sectors a_tags a_used a_telling a_wrapped t a_aside a_copyUsed a_copyTelling a_copyWrapped a_keys a_box a_unbox rnd b3 m3 a_tweak a_plain a_tag a_difference) 16 (16 * p) a_wrappedData b3 (fun n => br_t (nI_le (Nat.le_refl 16) (by decide)) (h _ _ _ _ H2 ?_ (fun z hz hn => sv_sl_out (by omega)))) (fun n i hi hw => ?_)
  · rw [← h3]
    exact sv_sl_fl (fun j hj => sv_sl_0 hj) (fun j hj => sv_sl_ge hj)
  · have e : nI (16 * p) + nI i = nI (16 * p + i) := nI_add _ _
    refine br_f (nI_ge (b := 16) hi (by decide)) ⟨vp_in_nI hi (by decide), pk_in (16 * p + i) 32 (by omega) e, nm_r (e' := sv_fl a_wrappedData (16 * p) (i + 1) b3) (sv_st e (by omega) ?_) (nm_r (nI_1 i) hw)⟩
    rw [nI_clamp (by omega)]
theorem sv_unwrapData {post : SX → Prop} {κ : Nat → Nat → Int32} {q p : Nat} (hq : q < 6) (hq0 : q ≠ 0) (hp : p < 2) (H : sv_H a_box a_unbox a_keys a_round f_roundsOf κ) {C : Nat → Int32} (hC : sv_sl a_wrappedData (16 * p) = C) (hV : sv_V C)
    (h : ∀ b m rnd ks ro, sv_H a_box a_unbox ks rnd ro (sv_ks κ q (sv_D a_box a_unbox (κ 2) C)) → post (f_isThere, f_volumes, f_generation, f_renewed, f_asideFor, f_copyOf, f_copyGeneration, f_isOpen, ro, f_writesLeft, a_sectors, a_tags, a_used, a_telling, a_wrapped, a_wrappedData, a_aside, a_copyUsed, a_copyTelling, a_copyWrapped, ks, a_box, a_unbox, rnd, b, m, a_tweak, a_plain, a_tag, a_difference)) : wpX_unwrapData post (f_isThere, f_volumes, f_generation, f_renewed, f_asideFor, f_copyOf, f_copyGeneration, f_isOpen, f_roundsOf, f_writesLeft, a_sectors, a_tags, a_used, a_telling, a_wrapped, a_wrappedData, a_aside, a_copyUsed, a_copyTelling, a_copyWrapped, a_keys, a_box, a_unbox, a_round, a_block, a_moved, a_tweak, a_plain, a_tag, a_difference) (nI (16 * p)) (nI (16 * q)) := by
  refine sv_loop (fun n i t => wX_unwrapData_2 post (nI (16 * p)) (nI (16 * q)) f_isThere f_volumes f_generation f_renewed f_asideFor f_copyOf f_copyGeneration f_isOpen f_roundsOf f_writesLeft n i a_sectors a_tags a_used a_telling a_wrapped a_wrappedData a_aside a_copyUsed a_copyTelling a_copyWrapped a_keys a_box a_unbox a_round t a_moved a_tweak a_plain a_tag a_difference) 16 0 a_block (fun j => a_wrappedData (16 * p + j)) (fun n => br_t (nI_le (Nat.le_refl 16) (by decide)) ?_) (fun n i hi hw => ?_)
  · refine sv_useKey (q := 2) (by omega) H (fun rnd H1 => sv_decipher (q := 2) (by omega) H1 (B := C) ?_ hV (fun b2 m2 h2 => sv_takeKey hq hq0 H1 h2 (sv_D_V H.1 (H.2.2.1 2 (by omega)) hV) (fun ks ro _ H3 => h b2 m2 rnd ks ro H3)))
    rw [← hC]
    exact sv_sl_fl (fun j hj => sv_sl_g hj) (fun j hj => sv_sl_ge hj)
  · have e : nI (16 * p) + nI i = nI (16 * p + i) := nI_add _ _
    refine br_f (nI_ge (b := 16) hi (by decide)) ⟨pk_in (16 * p + i) 32 (by omega) e, vp_in_nI hi (by decide), nm_r (e' := sv_fl a_block 0 (i + 1) (fun j => a_wrappedData (16 * p + j))) (sv_st0 (by omega) ?_) (nm_r (nI_1 i) hw)⟩
    rw [e, nI_clamp (by omega)]
def sv_kz : Nat → Nat → Int32 := fun q => if q = 0 then sv_pub else fun _ => 0
theorem sv_kz_V : ∀ q, sv_V (sv_kz q) := fun q => by
  unfold sv_kz
  by_cases c : q = 0
  · rw [if_pos c]; exact sv_pub_V
  · rw [if_neg c]; exact fun j => ⟨sv_b_0, fun _ => rfl⟩
theorem sv_forget {post : SX → Prop} {κ : Nat → Nat → Int32} (H : sv_H a_box a_unbox a_keys a_round f_roundsOf κ) (h : ∀ ks, sv_H a_box a_unbox ks a_round (-1) sv_kz → post (f_isThere, f_volumes, f_generation, f_renewed, f_asideFor, f_copyOf, f_copyGeneration, 0, (-1), f_writesLeft, a_sectors, a_tags, a_used, a_telling, a_wrapped, a_wrappedData, a_aside, a_copyUsed, a_copyTelling, a_copyWrapped, ks, a_box, a_unbox, a_round, a_block, a_moved, a_tweak, a_plain, a_tag, a_difference)) : wpX_forgetKeys post (f_isThere, f_volumes, f_generation, f_renewed, f_asideFor, f_copyOf, f_copyGeneration, f_isOpen, f_roundsOf, f_writesLeft, a_sectors, a_tags, a_used, a_telling, a_wrapped, a_wrappedData, a_aside, a_copyUsed, a_copyTelling, a_copyWrapped, a_keys, a_box, a_unbox, a_round, a_block, a_moved, a_tweak, a_plain, a_tag, a_difference) := by
  have key : ∀ d i, i + d = 80 → wX_forgetKeys_3 post f_isThere f_volumes f_generation f_renewed f_asideFor f_copyOf f_copyGeneration f_isOpen f_roundsOf f_writesLeft (d + 1) (nI (16 + i)) a_sectors a_tags a_used a_telling a_wrapped a_wrappedData a_aside a_copyUsed a_copyTelling a_copyWrapped (sv_fl a_keys 16 i (fun _ => 0)) a_box a_unbox a_round a_block a_moved a_tweak a_plain a_tag a_difference := by
    intro d
    induction d with
    | zero =>
      intro i hi
      have i80 : i = 80 := by omega
      subst i80
      refine br_t (nI_le (Nat.le_refl 96) (by decide)) (h _ ⟨H.1, fun q hq => ?_, fun q _ => sv_kz_V q, rfl, Or.inl rfl⟩)
      by_cases c : q = 0
      · subst c
        rw [sv_sl_out (by omega), H.2.1 0 (by omega), H.2.2.2.1]
        rfl
      · refine sv_sl_B (fun j hj => ?_) (fun j _ => by unfold sv_kz; rw [if_neg c])
        unfold sv_fl sv_kz
        rw [if_pos (by omega), if_neg c]
    | succ d ih =>
      intro i hi
      refine br_f (nI_ge (a := 16 + i) (b := 96) (by omega) (by decide)) ⟨vp_in_nI (by omega) (by decide), nm_r (e' := sv_fl a_keys 16 (i + 1) (fun _ => 0)) (sv_st rfl (by omega) rfl) (nm_r (nI_1 (16 + i)) (ih (i + 1) (by omega)))⟩
  have k0 := key 80 0 rfl
  rw [sv_fl_0] at k0
  exact ⟨81, k0⟩
end
end
section
def sv_wi (w : Int) : Int32 := Int32.ofInt w
theorem sv_wi_t {w : Int} (h1 : -100 ≤ w) (h2 : w ≤ 100) : (sv_wi w).toInt = w := Int32.toInt_ofInt_of_le (by omega) (by omega)
theorem sv_wi_s (w : Int) : sv_wi w - 1 = sv_wi (w - 1) := (Int32.ofInt_sub w 1).symm
section
variable {f_isThere f_volumes f_generation f_renewed f_asideFor f_copyOf f_copyGeneration f_isOpen f_roundsOf f_writesLeft : Int32} {a_sectors a_tags a_used a_telling a_wrapped a_wrappedData a_aside a_copyUsed a_copyTelling a_copyWrapped a_keys a_box a_unbox a_round a_block a_moved a_tweak a_plain a_tag a_difference : Nat → Int32}
theorem sv_startTweak {post : SX → Prop} {κ : Nat → Nat → Int32} {q s : Nat} (hq : q < 6) (hs : s < 12) (H : sv_H a_box a_unbox a_keys a_round f_roundsOf κ)
    (h : ∀ b m rnd ks tw, sv_H a_box a_unbox ks rnd (nI (16 * 5)) (sv_ks κ 5 (sv_tk a_box (κ q))) → sv_sl tw 0 = sv_t0 a_box s (κ q) → post (f_isThere, f_volumes, f_generation, f_renewed, f_asideFor, f_copyOf, f_copyGeneration, f_isOpen, nI (16 * 5), f_writesLeft, a_sectors, a_tags, a_used, a_telling, a_wrapped, a_wrappedData, a_aside, a_copyUsed, a_copyTelling, a_copyWrapped, ks, a_box, a_unbox, rnd, b, m, tw, a_plain, a_tag, a_difference)) : wpX_startTweak post (f_isThere, f_volumes, f_generation, f_renewed, f_asideFor, f_copyOf, f_copyGeneration, f_isOpen, f_roundsOf, f_writesLeft, a_sectors, a_tags, a_used, a_telling, a_wrapped, a_wrappedData, a_aside, a_copyUsed, a_copyTelling, a_copyWrapped, a_keys, a_box, a_unbox, a_round, a_block, a_moved, a_tweak, a_plain, a_tag, a_difference) (nI s) (nI (16 * q)) := by
  unfold wpX_startTweak
  have VK := H.2.2.1 q hq
  have VU : sv_V (upd (κ q) 0 (κ q 0 ^^^ 165)) := sv_upd_V VK (by decide) (sv_b_xor (VK 0).1 ⟨165, by decide, rfl⟩)
  refine sv_layKey hq H (fun b1 h1 => nm_e (sv_useKey (q := 0) (by omega) H (fun rnd1 H1 => sv_encipher (q := 0) (by omega) H1 (B := upd (κ q) 0 (κ q 0 ^^^ 165)) ?_ VU (fun b2 m2 h2 => ?_))))
  · rw [sv_sl_u0, h1, ← sv_sl_at0 b1, h1]
  have h2' : sv_sl b2 0 = sv_tk a_box (κ q) := by rw [h2, H.2.2.2.1]; rfl
  refine sv_takeKey (q := 5) (by omega) (by omega) H1 h2' (sv_tk_V H.1 VK) (fun ks ro hro H3 => ?_)
  have e := hro (by decide)
  subst e
  refine sv_loop (fun n i t => wX_startTweak_34 post (nI s) f_isThere f_volumes f_generation f_renewed f_asideFor f_copyOf f_copyGeneration f_isOpen (nI (16 * 0)) f_writesLeft n i a_sectors a_tags a_used a_telling a_wrapped a_wrappedData a_aside a_copyUsed a_copyTelling a_copyWrapped ks a_box a_unbox rnd1 t m2 a_tweak a_plain a_tag a_difference) 16 0 b2 (sv_hd (nI s)) (fun n => br_t (nI_le (Nat.le_refl 16) (by decide)) ?_) (fun n i hi hw => ?_)
  · refine sv_useKey (q := 5) (by omega) H3 (fun rnd4 H4 => sv_encipher (q := 5) (by omega) H4 (B := sv_hd (nI s)) (sv_sl_fl (fun _ _ => rfl) (sv_V0 (sv_hd_V (sv_b_n (by omega))))) (sv_hd_V (sv_b_n (by omega))) (fun b5 m5 h5 => ?_))
    refine sv_loop (fun n i t => wX_startTweak_73 post f_isThere f_volumes f_generation f_renewed f_asideFor f_copyOf f_copyGeneration f_isOpen (nI (16 * 5)) f_writesLeft n i a_sectors a_tags a_used a_telling a_wrapped a_wrappedData a_aside a_copyUsed a_copyTelling a_copyWrapped ks a_box a_unbox rnd4 b5 m5 t a_plain a_tag a_difference) 16 0 a_tweak b5 (fun n => br_t (nI_le (Nat.le_refl 16) (by decide)) (h _ _ _ _ _ H4 ?_)) (fun n i hi hw => ?_)
    · rw [sv_ks_s] at h5
      show _ = sv_E a_box (sv_tk a_box (κ q)) (sv_hd (nI s))
      rw [← h5]
      exact sv_sl_fl (fun j hj => sv_sl_0 hj) (fun j hj => sv_sl_ge hj)
    · refine br_f (nI_ge (b := 16) hi (by decide)) ⟨vp_in_nI hi (by decide), vp_in_nI hi (by decide), nm_r (e' := sv_fl a_tweak 0 (i + 1) b5) (sv_st0 (by omega) ?_) (nm_r (nI_1 i) hw)⟩
      rw [nI_clamp (by omega)]
  · refine br_f (nI_ge (b := 16) hi (by decide)) (pk_eq i 0 (fun c => ?_) (fun c => ?_))
    · exact ⟨vp_in_nI hi (by decide), nm_r (e' := sv_fl b2 0 (i + 1) (sv_hd (nI s))) (sv_st0 (by omega) (if_pos c).symm) (nm_r (nI_1 i) hw)⟩
    · exact ⟨vp_in_nI hi (by decide), nm_r (e' := sv_fl b2 0 (i + 1) (sv_hd (nI s))) (sv_st0 (by omega) (if_neg c).symm) (nm_r (nI_1 i) hw)⟩
theorem sv_doubleTweak {post : SX → Prop} (h : ∀ tw, sv_sl tw 0 = sv_db (sv_sl a_tweak 0) → post (f_isThere, f_volumes, f_generation, f_renewed, f_asideFor, f_copyOf, f_copyGeneration, f_isOpen, f_roundsOf, f_writesLeft, a_sectors, a_tags, a_used, a_telling, a_wrapped, a_wrappedData, a_aside, a_copyUsed, a_copyTelling, a_copyWrapped, a_keys, a_box, a_unbox, a_round, a_block, a_moved, tw, a_plain, a_tag, a_difference)) : wpX_doubleTweak post (f_isThere, f_volumes, f_generation, f_renewed, f_asideFor, f_copyOf, f_copyGeneration, f_isOpen, f_roundsOf, f_writesLeft, a_sectors, a_tags, a_used, a_telling, a_wrapped, a_wrappedData, a_aside, a_copyUsed, a_copyTelling, a_copyWrapped, a_keys, a_box, a_unbox, a_round, a_block, a_moved, a_tweak, a_plain, a_tag, a_difference) := by
  have key : ∀ d i, i + d = 16 → wX_doubleTweak_4 post f_isThere f_volumes f_generation f_renewed f_asideFor f_copyOf f_copyGeneration f_isOpen f_roundsOf f_writesLeft (d + 1) (sv_cy (sv_sl a_tweak 0) i) (nI i) a_sectors a_tags a_used a_telling a_wrapped a_wrappedData a_aside a_copyUsed a_copyTelling a_copyWrapped a_keys a_box a_unbox a_round a_block a_moved (sv_fl a_tweak 0 i (fun j => ((sv_sl a_tweak 0 j <<< ((1 : Int32) &&& 31)) ||| sv_cy (sv_sl a_tweak 0) j) &&& 255)) a_plain a_tag a_difference := by
    intro d
    induction d with
    | zero =>
      intro i hi
      have i16 : i = 16 := by omega
      subst i16
      refine br_t (nI_le (Nat.le_refl 16) (by decide)) (nm_e (h _ ?_))
      refine sv_sl_B (fun j hj => ?_) (fun j hj => ?_)
      · rw [Nat.zero_add]
        have e0 := sv_fl_in (a := a_tweak) (o := 0) (g := fun j => ((sv_sl a_tweak 0 j <<< ((1 : Int32) &&& 31)) ||| sv_cy (sv_sl a_tweak 0) j) &&& 255) hj
        rw [Nat.zero_add] at e0
        unfold sv_db
        by_cases c : j = 0
        · subst c
          rw [if_pos rfl, pk_us, e0]
          rfl
        · rw [if_neg c, if_pos hj, pk_un c, e0]
      · unfold sv_db
        rw [if_neg (by omega), if_neg hj]
    | succ d ih =>
      intro i hi
      have hi16 : i < 16 := by omega
      have e0 : sv_fl a_tweak 0 i (fun j => ((sv_sl a_tweak 0 j <<< ((1 : Int32) &&& 31)) ||| sv_cy (sv_sl a_tweak 0) j) &&& 255) (nI i).toNatClampNeg = sv_sl a_tweak 0 i := by
        rw [nI_clamp (by omega), sv_fl_out (by omega)]
        exact sv_sl_0 hi16
      refine br_f (nI_ge (b := 16) hi16 (by decide)) ⟨vp_in_nI hi16 (by decide), ?_⟩
      rw [e0]
      exact nm_e (nm_e ⟨vp_in_nI hi16 (by decide), nm_r (e' := sv_fl a_tweak 0 (i + 1) (fun j => ((sv_sl a_tweak 0 j <<< ((1 : Int32) &&& 31)) ||| sv_cy (sv_sl a_tweak 0) j) &&& 255)) (sv_st0 (by omega) rfl) (nm_r (nI_1 i) (ih (i + 1) (by omega)))⟩)
  have k0 := key 16 0 rfl
  rw [sv_fl_0, nI_0] at k0
  exact ⟨17, k0⟩
theorem sv_addTweak {post : SX → Prop} (h : ∀ b, sv_sl b 0 = sv_xor (sv_sl a_block 0) (sv_sl a_tweak 0) → post (f_isThere, f_volumes, f_generation, f_renewed, f_asideFor, f_copyOf, f_copyGeneration, f_isOpen, f_roundsOf, f_writesLeft, a_sectors, a_tags, a_used, a_telling, a_wrapped, a_wrappedData, a_aside, a_copyUsed, a_copyTelling, a_copyWrapped, a_keys, a_box, a_unbox, a_round, b, a_moved, a_tweak, a_plain, a_tag, a_difference)) : wpX_addTweak post (f_isThere, f_volumes, f_generation, f_renewed, f_asideFor, f_copyOf, f_copyGeneration, f_isOpen, f_roundsOf, f_writesLeft, a_sectors, a_tags, a_used, a_telling, a_wrapped, a_wrappedData, a_aside, a_copyUsed, a_copyTelling, a_copyWrapped, a_keys, a_box, a_unbox, a_round, a_block, a_moved, a_tweak, a_plain, a_tag, a_difference) := by
  refine sv_loop (fun n i b => wX_addTweak_2 post f_isThere f_volumes f_generation f_renewed f_asideFor f_copyOf f_copyGeneration f_isOpen f_roundsOf f_writesLeft n i a_sectors a_tags a_used a_telling a_wrapped a_wrappedData a_aside a_copyUsed a_copyTelling a_copyWrapped a_keys a_box a_unbox a_round b a_moved a_tweak a_plain a_tag a_difference) 16 0 a_block (fun j => a_block j ^^^ a_tweak j) (fun n => br_t (nI_le (Nat.le_refl 16) (by decide)) (h _ ?_)) (fun n i hi hw => ?_)
  · refine sv_sl_fl (fun j hj => ?_) (fun j hj => ?_)
    · show _ = sv_sl a_block 0 j ^^^ sv_sl a_tweak 0 j
      rw [sv_sl_lt hj, sv_sl_lt hj, Nat.zero_add]
    · show sv_sl a_block 0 j ^^^ sv_sl a_tweak 0 j = 0
      rw [sv_sl_ge hj, sv_sl_ge hj]; rfl
  · refine br_f (nI_ge (b := 16) hi (by decide)) ⟨vp_in_nI hi (by decide), vp_in_nI hi (by decide), vp_in_nI hi (by decide), nm_r (e' := sv_fl a_block 0 (i + 1) (fun j => a_block j ^^^ a_tweak j)) (sv_st0 (by omega) ?_) (nm_r (nI_1 i) hw)⟩
    rw [nI_clamp (by omega), sv_fl_out (by omega)]
theorem sv_open_h {post : SX → Prop} {J : Int32 → Int32 → Int32 → Int32 → Int32 → Int32 → Int32 → Int32 → Int32 → Int32 → Int32 → (Nat → Int32) → (Nat → Int32) → (Nat → Int32) → (Nat → Int32) → (Nat → Int32) → (Nat → Int32) → (Nat → Int32) → (Nat → Int32) → (Nat → Int32) → (Nat → Int32) → (Nat → Int32) → (Nat → Int32) → (Nat → Int32) → (Nat → Int32) → (Nat → Int32) → (Nat → Int32) → (Nat → Int32) → (Nat → Int32) → (Nat → Int32) → (Nat → Int32) → Prop} {κ : Nat → Nat → Int32} {q s f : Nat} (hq : q < 6) (hs : s < 12) (hf : f < 2) (H : sv_H a_box a_unbox a_keys a_round (nI (16 * q)) κ) (hC : sv_V (sv_sl a_sectors (32 * s + 16 * f))) (hT : sv_V (sv_sl a_tweak 0))
    (h : ∀ b m tw pl, sv_sl tw 0 = sv_db (sv_sl a_tweak 0) → sv_sl pl (16 * f) = sv_xor (sv_D a_box a_unbox (κ q) (sv_xor (sv_sl a_sectors (32 * s + 16 * f)) (sv_sl a_tweak 0))) (sv_sl a_tweak 0) → (∀ o, o + 16 ≤ 16 * f ∨ 16 * f + 16 ≤ o → sv_sl pl o = sv_sl a_plain o) → J (nI (16 * f + 16)) f_isThere f_volumes f_generation f_renewed f_asideFor f_copyOf f_copyGeneration f_isOpen (nI (16 * q)) f_writesLeft a_sectors a_tags a_used a_telling a_wrapped a_wrappedData a_aside a_copyUsed a_copyTelling a_copyWrapped a_keys a_box a_unbox a_round b m tw pl a_tag a_difference) :
    ∃ n, wX_open_22 post J (nI s) (nI (16 * f)) f_isThere f_volumes f_generation f_renewed f_asideFor f_copyOf f_copyGeneration f_isOpen (nI (16 * q)) f_writesLeft n 0 a_sectors a_tags a_used a_telling a_wrapped a_wrappedData a_aside a_copyUsed a_copyTelling a_copyWrapped a_keys a_box a_unbox a_round a_block a_moved a_tweak a_plain a_tag a_difference := by
  refine sv_loop (fun n i b => wX_open_22 post J (nI s) (nI (16 * f)) f_isThere f_volumes f_generation f_renewed f_asideFor f_copyOf f_copyGeneration f_isOpen (nI (16 * q)) f_writesLeft n i a_sectors a_tags a_used a_telling a_wrapped a_wrappedData a_aside a_copyUsed a_copyTelling a_copyWrapped a_keys a_box a_unbox a_round b a_moved a_tweak a_plain a_tag a_difference) 16 0 a_block (fun j => a_sectors (32 * s + 16 * f + j)) (fun n => br_t (nI_le (Nat.le_refl 16) (by decide)) ?_) (fun n i hi hw => ?_)
  · refine sv_addTweak (fun b1 h1 => sv_decipher (κ := κ) hq H (B := sv_xor (sv_sl a_sectors (32 * s + 16 * f)) (sv_sl a_tweak 0)) ?_ (sv_xor_V hC hT) (fun b2 m2 h2 => sv_addTweak (fun b3 h3 => ?_)))
    · rw [h1, sv_sl_fl (B := sv_sl a_sectors (32 * s + 16 * f)) (fun j hj => sv_sl_g hj) (fun j hj => sv_sl_ge hj)]
    refine sv_loop (fun n i t => wX_open_71 post J (nI s) (nI (16 * f)) f_isThere f_volumes f_generation f_renewed f_asideFor f_copyOf f_copyGeneration f_isOpen (nI (16 * q)) f_writesLeft n i a_sectors a_tags a_used a_telling a_wrapped a_wrappedData a_aside a_copyUsed a_copyTelling a_copyWrapped a_keys a_box a_unbox a_round b3 m2 a_tweak t a_tag a_difference) 16 (16 * f) a_plain b3 (fun n => br_t (nI_le (Nat.le_refl 16) (by decide)) ?_) (fun n i hi hw => ?_)
    · refine sv_doubleTweak (fun tw htw => nm_r (nI_add (16 * f) 16) (h b3 m2 tw _ htw ?_ (fun o ho => sv_sl_out (by omega))))
      rw [← h2, ← h3]
      exact sv_sl_fl (fun j hj => sv_sl_0 hj) (fun j hj => sv_sl_ge hj)
    · have e : nI (16 * f) + nI i = nI (16 * f + i) := nI_add _ _
      refine br_f (nI_ge (b := 16) hi (by decide)) ⟨vp_in_nI hi (by decide), pk_in (16 * f + i) 32 (by omega) e, nm_r (e' := sv_fl a_plain (16 * f) (i + 1) b3) (sv_st e (by omega) ?_) (nm_r (nI_1 i) hw)⟩
      rw [nI_clamp (by omega)]
  · have e : (32 : Int32) * nI s + nI (16 * f) + nI i = nI (32 * s + 16 * f + i) := sv_ix3 32 s (16 * f) i
    refine br_f (nI_ge (b := 16) hi (by decide)) ⟨pk_in (32 * s + 16 * f + i) 384 (by omega) e, vp_in_nI hi (by decide), nm_r (e' := sv_fl a_block 0 (i + 1) (fun j => a_sectors (32 * s + 16 * f + j))) (sv_st0 (by omega) ?_) (nm_r (nI_1 i) hw)⟩
    rw [e, nI_clamp (by omega)]
theorem sv_open {post : SX → Prop} {κ : Nat → Nat → Int32} {q s : Nat} (hq : q < 5) (hs : s < 12) (H : sv_H a_box a_unbox a_keys a_round f_roundsOf κ) (hA : sv_V (sv_sl a_sectors (32 * s))) (hB : sv_V (sv_sl a_sectors (32 * s + 16)))
    (h : ∀ b m rnd ks tw pl, sv_H a_box a_unbox ks rnd (nI (16 * q)) (sv_ks κ 5 (sv_tk a_box (κ q))) → sv_sl pl 0 = sv_pt a_box a_unbox s (κ q) 0 (sv_sl a_sectors (32 * s)) → sv_sl pl 16 = sv_pt a_box a_unbox s (κ q) 1 (sv_sl a_sectors (32 * s + 16)) → post (f_isThere, f_volumes, f_generation, f_renewed, f_asideFor, f_copyOf, f_copyGeneration, f_isOpen, nI (16 * q), f_writesLeft, a_sectors, a_tags, a_used, a_telling, a_wrapped, a_wrappedData, a_aside, a_copyUsed, a_copyTelling, a_copyWrapped, ks, a_box, a_unbox, rnd, b, m, tw, pl, a_tag, a_difference)) : wpX_open post (f_isThere, f_volumes, f_generation, f_renewed, f_asideFor, f_copyOf, f_copyGeneration, f_isOpen, f_roundsOf, f_writesLeft, a_sectors, a_tags, a_used, a_telling, a_wrapped, a_wrappedData, a_aside, a_copyUsed, a_copyTelling, a_copyWrapped, a_keys, a_box, a_unbox, a_round, a_block, a_moved, a_tweak, a_plain, a_tag, a_difference) (nI s) (nI (16 * q)) := by
  unfold wpX_open
  have VK := H.2.2.1 q (by omega)
  refine sv_startTweak (by omega) hs H (fun b m rnd ks tw H1 htw => sv_useKey (q := q) (by omega) H1 (fun rnd2 H2 => ?_))
  have VT : sv_V (sv_sl tw 0) := by rw [htw]; exact sv_t0_V H.1 VK hs
  have ek : sv_ks κ 5 (sv_tk a_box (κ q)) q = κ q := sv_ks_n (by omega)
  refine ⟨3, br_f (by decide) (sv_open_h (f := 0) (by omega) hs (by omega) H2 hA VT (fun b3 m3 tw3 pl3 h3 h4 h5 => br_f (by decide) (sv_open_h (f := 1) (by omega) hs (by omega) H2 hB ?_ (fun b6 m6 tw6 pl6 h6 h7 h8 => br_t (by decide) (h b6 m6 rnd2 ks tw6 pl6 H2 ?_ ?_)))))⟩
  · rw [h3]; exact sv_db_V VT
  · rw [h8 0 (by omega)]
    rw [ek, htw] at h4
    exact h4
  · rw [ek, h3, htw] at h7
    exact h7
theorem sv_mayWrite {post : Int32 → SX → Prop} {w : Int} (hw1 : -50 ≤ w) (hw2 : w ≤ 50) (h1 : 1 ≤ w → post 1 (f_isThere, f_volumes, f_generation, f_renewed, f_asideFor, f_copyOf, f_copyGeneration, f_isOpen, f_roundsOf, sv_wi (w - 1), a_sectors, a_tags, a_used, a_telling, a_wrapped, a_wrappedData, a_aside, a_copyUsed, a_copyTelling, a_copyWrapped, a_keys, a_box, a_unbox, a_round, a_block, a_moved, a_tweak, a_plain, a_tag, a_difference)) (h0 : w < 1 → post 0 (f_isThere, f_volumes, f_generation, f_renewed, f_asideFor, f_copyOf, f_copyGeneration, f_isOpen, f_roundsOf, sv_wi (w - 1), a_sectors, a_tags, a_used, a_telling, a_wrapped, a_wrappedData, a_aside, a_copyUsed, a_copyTelling, a_copyWrapped, a_keys, a_box, a_unbox, a_round, a_block, a_moved, a_tweak, a_plain, a_tag, a_difference)) : wpX_mayWrite post (f_isThere, f_volumes, f_generation, f_renewed, f_asideFor, f_copyOf, f_copyGeneration, f_isOpen, f_roundsOf, sv_wi w, a_sectors, a_tags, a_used, a_telling, a_wrapped, a_wrappedData, a_aside, a_copyUsed, a_copyTelling, a_copyWrapped, a_keys, a_box, a_unbox, a_round, a_block, a_moved, a_tweak, a_plain, a_tag, a_difference) := by
  refine nm_r (sv_wi_s w) ?_
  have e : (sv_wi (w - 1)).toInt = w - 1 := sv_wi_t (by omega) (by omega)
  have z : (0 : Int32).toInt = 0 := by decide
  refine br_c (fun c => h0 ?_) (fun c => h1 ?_)
  · rw [Int32.lt_iff_toInt_lt, e, z] at c; omega
  · rw [Int32.lt_iff_toInt_lt, e, z] at c; omega
def sv_sw (w : Int) (sec : Nat → Int32) (o : Nat) (b : Nat → Int32) : Nat → Int32 := if 1 ≤ w then sv_fl sec o 16 b else sec
theorem sv_sw_out {w : Int} {sec b : Nat → Int32} {o p : Nat} (h : p + 16 ≤ o ∨ o + 16 ≤ p) : sv_sl (sv_sw w sec o b) p = sv_sl sec p := by
  unfold sv_sw
  by_cases c : 1 ≤ w
  · rw [if_pos c]; exact sv_sl_out h
  · rw [if_neg c]
theorem sv_sw_1 {w : Int} (hw : 1 ≤ w) {sec b : Nat → Int32} {o : Nat} : sv_sl (sv_sw w sec o b) o = sv_sl b 0 := by
  unfold sv_sw
  rw [if_pos hw]
  exact sv_sl_fl (fun j hj => sv_sl_0 hj) (fun j hj => sv_sl_ge hj)
theorem sv_sw_0 {w : Int} (hw : w < 1) {sec b : Nat → Int32} {o : Nat} : sv_sw w sec o b = sec := if_neg (by omega)
theorem sv_seal_h {post : SX → Prop} {J : Int32 → Int32 → Int32 → Int32 → Int32 → Int32 → Int32 → Int32 → Int32 → Int32 → Int32 → (Nat → Int32) → (Nat → Int32) → (Nat → Int32) → (Nat → Int32) → (Nat → Int32) → (Nat → Int32) → (Nat → Int32) → (Nat → Int32) → (Nat → Int32) → (Nat → Int32) → (Nat → Int32) → (Nat → Int32) → (Nat → Int32) → (Nat → Int32) → (Nat → Int32) → (Nat → Int32) → (Nat → Int32) → (Nat → Int32) → (Nat → Int32) → (Nat → Int32) → Prop} {κ : Nat → Nat → Int32} {q s f : Nat} {w : Int} (hq : q < 6) (hs : s < 12) (hf : f < 2) (hw1 : -50 ≤ w) (hw2 : w ≤ 50) (H : sv_H a_box a_unbox a_keys a_round (nI (16 * q)) κ) (hP : sv_V (sv_sl a_plain (16 * f))) (hT : sv_V (sv_sl a_tweak 0))
    (h : ∀ b m tw, sv_sl tw 0 = sv_db (sv_sl a_tweak 0) → sv_sl b 0 = sv_xor (sv_E a_box (κ q) (sv_xor (sv_sl a_plain (16 * f)) (sv_sl a_tweak 0))) (sv_sl a_tweak 0) → J (nI (16 * f + 16)) f_isThere f_volumes f_generation f_renewed f_asideFor f_copyOf f_copyGeneration f_isOpen (nI (16 * q)) (sv_wi (w - 1)) (sv_sw w a_sectors (32 * s + 16 * f) b) a_tags a_used a_telling a_wrapped a_wrappedData a_aside a_copyUsed a_copyTelling a_copyWrapped a_keys a_box a_unbox a_round b m tw a_plain a_tag a_difference) :
    ∃ n, wX_seal_22 post J (nI s) (nI (16 * f)) f_isThere f_volumes f_generation f_renewed f_asideFor f_copyOf f_copyGeneration f_isOpen (nI (16 * q)) (sv_wi w) n 0 a_sectors a_tags a_used a_telling a_wrapped a_wrappedData a_aside a_copyUsed a_copyTelling a_copyWrapped a_keys a_box a_unbox a_round a_block a_moved a_tweak a_plain a_tag a_difference := by
  refine sv_loop (fun n i b => wX_seal_22 post J (nI s) (nI (16 * f)) f_isThere f_volumes f_generation f_renewed f_asideFor f_copyOf f_copyGeneration f_isOpen (nI (16 * q)) (sv_wi w) n i a_sectors a_tags a_used a_telling a_wrapped a_wrappedData a_aside a_copyUsed a_copyTelling a_copyWrapped a_keys a_box a_unbox a_round b a_moved a_tweak a_plain a_tag a_difference) 16 0 a_block (fun j => a_plain (16 * f + j)) (fun n => br_t (nI_le (Nat.le_refl 16) (by decide)) ?_) (fun n i hi hw => ?_)
  · refine sv_addTweak (fun b1 h1 => sv_encipher (κ := κ) hq H (B := sv_xor (sv_sl a_plain (16 * f)) (sv_sl a_tweak 0)) ?_ (sv_xor_V hP hT) (fun b2 m2 h2 => sv_addTweak (fun b3 h3 => sv_mayWrite hw1 hw2 (fun c => ?_) (fun c => ?_))))
    · rw [h1, sv_sl_fl (B := sv_sl a_plain (16 * f)) (fun j hj => sv_sl_g hj) (fun j hj => sv_sl_ge hj)]
    · refine sv_loop (fun n i t => wX_seal_72 post J (nI s) (nI (16 * f)) 1 f_isThere f_volumes f_generation f_renewed f_asideFor f_copyOf f_copyGeneration f_isOpen (nI (16 * q)) (sv_wi (w - 1)) n i t a_tags a_used a_telling a_wrapped a_wrappedData a_aside a_copyUsed a_copyTelling a_copyWrapped a_keys a_box a_unbox a_round b3 m2 a_tweak a_plain a_tag a_difference) 16 (32 * s + 16 * f) a_sectors b3 (fun n => br_t (nI_le (Nat.le_refl 16) (by decide)) ?_) (fun n i hi hw => ?_)
      · refine sv_doubleTweak (fun tw htw => nm_r (nI_add (16 * f) 16) ?_)
        have := h b3 m2 tw htw (by rw [h3, h2])
        rw [show sv_sw w a_sectors (32 * s + 16 * f) b3 = sv_fl a_sectors (32 * s + 16 * f) 16 b3 from if_pos c] at this
        exact this
      · have e : (32 : Int32) * nI s + nI (16 * f) + nI i = nI (32 * s + 16 * f + i) := sv_ix3 32 s (16 * f) i
        refine br_f (nI_ge (b := 16) hi (by decide)) (br_f (by decide) ⟨vp_in_nI hi (by decide), pk_in (32 * s + 16 * f + i) 384 (by omega) e, nm_r (e' := sv_fl a_sectors (32 * s + 16 * f) (i + 1) b3) (sv_st e (by omega) ?_) (nm_r (nI_1 i) hw)⟩)
        rw [nI_clamp (by omega)]
    · refine ⟨1, br_f (by decide) (br_t rfl ?_)⟩
      refine sv_doubleTweak (fun tw htw => nm_r (nI_add (16 * f) 16) ?_)
      have := h b3 m2 tw htw (by rw [h3, h2])
      rw [sv_sw_0 c] at this
      exact this
  · have e : nI (16 * f) + nI i = nI (16 * f + i) := nI_add _ _
    refine br_f (nI_ge (b := 16) hi (by decide)) ⟨pk_in (16 * f + i) 32 (by omega) e, vp_in_nI hi (by decide), nm_r (e' := sv_fl a_block 0 (i + 1) (fun j => a_plain (16 * f + j))) (sv_st0 (by omega) ?_) (nm_r (nI_1 i) hw)⟩
    rw [e, nI_clamp (by omega)]
/-- what a sealing of sector s leaves, w writes being left -/
def sv_sealed (w : Int) (bx : Nat → Int32) (s : Nat) (K P0 P1 sec sec' : Nat → Int32) : Prop :=
  (∀ z, z < 12 → z ≠ s → sv_sl sec' (32 * z) = sv_sl sec (32 * z) ∧ sv_sl sec' (32 * z + 16) = sv_sl sec (32 * z + 16)) ∧ (2 ≤ w → sv_sl sec' (32 * s) = sv_ct bx s K 0 P0 ∧ sv_sl sec' (32 * s + 16) = sv_ct bx s K 1 P1) ∧ (w < 1 → sec' = sec) ∧ (sv_sl sec' (32 * s) = sv_sl sec (32 * s) ∨ sv_sl sec' (32 * s) = sv_ct bx s K 0 P0) ∧ (sv_sl sec' (32 * s + 16) = sv_sl sec (32 * s + 16) ∨ sv_sl sec' (32 * s + 16) = sv_ct bx s K 1 P1)
theorem sv_seal {post : SX → Prop} {κ : Nat → Nat → Int32} {q s : Nat} {w : Int} (hq : q < 5) (hs : s < 12) (hw1 : -40 ≤ w) (hw2 : w ≤ 40) (H : sv_H a_box a_unbox a_keys a_round f_roundsOf κ) (hA : sv_V (sv_sl a_plain 0)) (hB : sv_V (sv_sl a_plain 16))
    (h : ∀ b m rnd ks tw sec, sv_H a_box a_unbox ks rnd (nI (16 * q)) (sv_ks κ 5 (sv_tk a_box (κ q))) → sv_sealed w a_box s (κ q) (sv_sl a_plain 0) (sv_sl a_plain 16) a_sectors sec → post (f_isThere, f_volumes, f_generation, f_renewed, f_asideFor, f_copyOf, f_copyGeneration, f_isOpen, nI (16 * q), sv_wi (w - 1 - 1), sec, a_tags, a_used, a_telling, a_wrapped, a_wrappedData, a_aside, a_copyUsed, a_copyTelling, a_copyWrapped, ks, a_box, a_unbox, rnd, b, m, tw, a_plain, a_tag, a_difference)) : wpX_seal post (f_isThere, f_volumes, f_generation, f_renewed, f_asideFor, f_copyOf, f_copyGeneration, f_isOpen, f_roundsOf, sv_wi w, a_sectors, a_tags, a_used, a_telling, a_wrapped, a_wrappedData, a_aside, a_copyUsed, a_copyTelling, a_copyWrapped, a_keys, a_box, a_unbox, a_round, a_block, a_moved, a_tweak, a_plain, a_tag, a_difference) (nI s) (nI (16 * q)) := by
  unfold wpX_seal
  have VK := H.2.2.1 q (by omega)
  refine sv_startTweak (by omega) hs H (fun b m rnd ks tw H1 htw => sv_useKey (q := q) (by omega) H1 (fun rnd2 H2 => ?_))
  have VT : sv_V (sv_sl tw 0) := by rw [htw]; exact sv_t0_V H.1 VK hs
  have ek : sv_ks κ 5 (sv_tk a_box (κ q)) q = κ q := sv_ks_n (by omega)
  refine ⟨3, br_f (by decide) (sv_seal_h (f := 0) (by omega) hs (by omega) (by omega) (by omega) H2 hA VT (fun b3 m3 tw3 h3 h4 => br_f (by decide) (sv_seal_h (f := 1) (by omega) hs (by omega) (by omega) (by omega) H2 hB ?_ (fun b6 m6 tw6 h6 h7 => br_t (by decide) (h b6 m6 rnd2 ks tw6 _ H2 ?_)))))⟩
  · rw [h3]; exact sv_db_V VT
  · rw [ek, htw] at h4
    rw [ek, h3, htw] at h7
    have h4' : sv_sl b3 0 = sv_ct a_box s (κ q) 0 (sv_sl a_plain 0) := h4
    have h7' : sv_sl b6 0 = sv_ct a_box s (κ q) 1 (sv_sl a_plain 16) := h7
    refine ⟨fun z hz hn => ⟨?_, ?_⟩, fun c => ⟨?_, ?_⟩, fun c => ?_, ?_, ?_⟩
    · rw [sv_sw_out (by omega), sv_sw_out (by omega)]
    · rw [sv_sw_out (by omega), sv_sw_out (by omega)]
    · rw [sv_sw_out (by omega), ← h4']
      exact sv_sw_1 (by omega)
    · rw [← h7']
      exact sv_sw_1 (by omega)
    · rw [sv_sw_0 (by omega), sv_sw_0 (by omega)]
    · rw [sv_sw_out (by omega)]
      by_cases c : 1 ≤ w
      · exact Or.inr ((sv_sw_1 c).trans h4')
      · rw [sv_sw_0 (by omega)]; exact Or.inl rfl
    · by_cases c : 1 ≤ w - 1
      · exact Or.inr ((sv_sw_1 c).trans h7')
      · rw [sv_sw_0 (by omega), sv_sw_out (by omega)]; exact Or.inl rfl
end
end
section
/-- how far a renewing is, t sectors being left of it (none: 0) -/
def sv_rn (t : Nat) : Int32 := if t = 0 then -1 else nI (12 - t)
def sv_kq (t s : Nat) : Nat := if t ≠ 0 ∧ s < 12 - t then 4 else 3
theorem sv_kq_5 (t s : Nat) : sv_kq t s < 5 := by
  unfold sv_kq
  by_cases c : t ≠ 0 ∧ s < 12 - t
  · rw [if_pos c]; omega
  · rw [if_neg c]; omega
section
variable {f_isThere f_volumes f_generation f_renewed f_asideFor f_copyOf f_copyGeneration f_isOpen f_roundsOf f_writesLeft : Int32} {a_sectors a_tags a_used a_telling a_wrapped a_wrappedData a_aside a_copyUsed a_copyTelling a_copyWrapped a_keys a_box a_unbox a_round a_block a_moved a_tweak a_plain a_tag a_difference : Nat → Int32}
theorem sv_tag_h {post : SX → Prop} {J : Int32 → Int32 → Int32 → Int32 → Int32 → Int32 → Int32 → Int32 → Int32 → Int32 → Int32 → (Nat → Int32) → (Nat → Int32) → (Nat → Int32) → (Nat → Int32) → (Nat → Int32) → (Nat → Int32) → (Nat → Int32) → (Nat → Int32) → (Nat → Int32) → (Nat → Int32) → (Nat → Int32) → (Nat → Int32) → (Nat → Int32) → (Nat → Int32) → (Nat → Int32) → (Nat → Int32) → (Nat → Int32) → (Nat → Int32) → (Nat → Int32) → (Nat → Int32) → Prop} {κ : Nat → Nat → Int32} {s f : Nat} {B : Nat → Int32} (hs : s < 12) (hf : f < 2) (H : sv_H a_box a_unbox a_keys a_round (nI (16 * 0)) κ) (hb : sv_sl a_block 0 = B) (hB : sv_V B) (hC : sv_V (sv_sl a_sectors (32 * s + 16 * f)))
    (h : ∀ b m, sv_sl b 0 = sv_E a_box sv_pub (sv_xor B (sv_sl a_sectors (32 * s + 16 * f))) → J (nI (16 * f + 16)) f_isThere f_volumes f_generation f_renewed f_asideFor f_copyOf f_copyGeneration f_isOpen (nI (16 * 0)) f_writesLeft a_sectors a_tags a_used a_telling a_wrapped a_wrappedData a_aside a_copyUsed a_copyTelling a_copyWrapped a_keys a_box a_unbox a_round b m a_tweak a_plain a_tag a_difference) :
    ∃ n, wX_findTag_46 post J (nI s) (nI (16 * f)) f_isThere f_volumes f_generation f_renewed f_asideFor f_copyOf f_copyGeneration f_isOpen (nI (16 * 0)) f_writesLeft n 0 a_sectors a_tags a_used a_telling a_wrapped a_wrappedData a_aside a_copyUsed a_copyTelling a_copyWrapped a_keys a_box a_unbox a_round a_block a_moved a_tweak a_plain a_tag a_difference := by
  refine sv_loop (fun n i b => wX_findTag_46 post J (nI s) (nI (16 * f)) f_isThere f_volumes f_generation f_renewed f_asideFor f_copyOf f_copyGeneration f_isOpen (nI (16 * 0)) f_writesLeft n i a_sectors a_tags a_used a_telling a_wrapped a_wrappedData a_aside a_copyUsed a_copyTelling a_copyWrapped a_keys a_box a_unbox a_round b a_moved a_tweak a_plain a_tag a_difference) 16 0 a_block (fun j => a_block j ^^^ a_sectors (32 * s + 16 * f + j)) (fun n => br_t (nI_le (Nat.le_refl 16) (by decide)) ?_) (fun n i hi hw => ?_)
  · refine sv_encipher (κ := κ) (q := 0) (by omega) H (B := sv_xor B (sv_sl a_sectors (32 * s + 16 * f))) ?_ (sv_xor_V hB hC) (fun b2 m2 h2 => nm_r (nI_add (16 * f) 16) (h b2 m2 ?_))
    · refine sv_sl_fl (fun j hj => ?_) (sv_V0 (sv_xor_V hB hC))
      show _ = B j ^^^ sv_sl a_sectors (32 * s + 16 * f) j
      rw [← hb, sv_sl_lt hj, sv_sl_lt hj, Nat.zero_add]
    · rw [h2, H.2.2.2.1]
  · have e : (32 : Int32) * nI s + nI (16 * f) + nI i = nI (32 * s + 16 * f + i) := sv_ix3 32 s (16 * f) i
    refine br_f (nI_ge (b := 16) hi (by decide)) ⟨vp_in_nI hi (by decide), pk_in (32 * s + 16 * f + i) 384 (by omega) e, vp_in_nI hi (by decide), nm_r (e' := sv_fl a_block 0 (i + 1) (fun j => a_block j ^^^ a_sectors (32 * s + 16 * f + j))) (sv_st0 (by omega) ?_) (nm_r (nI_1 i) hw)⟩
    rw [e, nI_clamp (n := 32 * s + 16 * f + i) (by omega), nI_clamp (by omega), sv_fl_out (by omega)]
theorem sv_findTag {post : SX → Prop} {κ : Nat → Nat → Int32} {s : Nat} (hs : s < 12) (H : sv_H a_box a_unbox a_keys a_round f_roundsOf κ) (hA : sv_V (sv_sl a_sectors (32 * s))) (hB : sv_V (sv_sl a_sectors (32 * s + 16)))
    (h : ∀ b m rnd tg, sv_H a_box a_unbox a_keys rnd (nI (16 * 0)) κ → sv_sl tg 0 = sv_tg a_box s (sv_sl a_sectors (32 * s)) (sv_sl a_sectors (32 * s + 16)) → post (f_isThere, f_volumes, f_generation, f_renewed, f_asideFor, f_copyOf, f_copyGeneration, f_isOpen, nI (16 * 0), f_writesLeft, a_sectors, a_tags, a_used, a_telling, a_wrapped, a_wrappedData, a_aside, a_copyUsed, a_copyTelling, a_copyWrapped, a_keys, a_box, a_unbox, rnd, b, m, a_tweak, a_plain, tg, a_difference)) : wpX_findTag post (f_isThere, f_volumes, f_generation, f_renewed, f_asideFor, f_copyOf, f_copyGeneration, f_isOpen, f_roundsOf, f_writesLeft, a_sectors, a_tags, a_used, a_telling, a_wrapped, a_wrappedData, a_aside, a_copyUsed, a_copyTelling, a_copyWrapped, a_keys, a_box, a_unbox, a_round, a_block, a_moved, a_tweak, a_plain, a_tag, a_difference) (nI s) := by
  unfold wpX_findTag
  refine sv_useKey (q := 0) (by omega) H (fun rnd H1 => ?_)
  have VH : sv_V (sv_hd (nI (s + 1))) := sv_hd_V (sv_b_n (by omega))
  refine sv_loop (fun n i t => wX_findTag_7 post (nI s) f_isThere f_volumes f_generation f_renewed f_asideFor f_copyOf f_copyGeneration f_isOpen (nI (16 * 0)) f_writesLeft n i a_sectors a_tags a_used a_telling a_wrapped a_wrappedData a_aside a_copyUsed a_copyTelling a_copyWrapped a_keys a_box a_unbox rnd t a_moved a_tweak a_plain a_tag a_difference) 16 0 a_block (sv_hd (nI (s + 1))) (fun n => br_t (nI_le (Nat.le_refl 16) (by decide)) ?_) (fun n i hi hw => ?_)
  · refine ⟨3, br_f (by decide) (sv_tag_h (f := 0) hs (by omega) H1 (sv_sl_fl (fun _ _ => rfl) (sv_V0 VH)) VH hA (fun b2 m2 h2 => br_f (by decide) (sv_tag_h (f := 1) hs (by omega) H1 h2 (sv_tg_V1 H.1 hs hA) hB (fun b3 m3 h3 => br_t (by decide) ?_))))⟩
    refine sv_loop (fun n i t => wX_findTag_92 post f_isThere f_volumes f_generation f_renewed f_asideFor f_copyOf f_copyGeneration f_isOpen (nI (16 * 0)) f_writesLeft n i a_sectors a_tags a_used a_telling a_wrapped a_wrappedData a_aside a_copyUsed a_copyTelling a_copyWrapped a_keys a_box a_unbox rnd b3 m3 a_tweak a_plain t a_difference) 16 0 a_tag b3 (fun n => br_t (nI_le (Nat.le_refl 16) (by decide)) (h _ _ _ _ H1 ?_)) (fun n i hi hw => ?_)
    · refine Eq.trans ?_ h3
      exact sv_sl_fl (fun j hj => sv_sl_0 hj) (fun j hj => sv_sl_ge hj)
    · refine br_f (nI_ge (b := 16) hi (by decide)) ⟨vp_in_nI hi (by decide), vp_in_nI hi (by decide), nm_r (e' := sv_fl a_tag 0 (i + 1) b3) (sv_st0 (by omega) ?_) (nm_r (nI_1 i) hw)⟩
      rw [nI_clamp (by omega)]
  · refine br_f (nI_ge (b := 16) hi (by decide)) (pk_eq i 0 (fun c => ?_) (fun c => ?_))
    · exact ⟨vp_in_nI hi (by decide), nm_r (e' := sv_fl a_block 0 (i + 1) (sv_hd (nI (s + 1)))) (sv_st0 (by omega) ((nI_1 s).trans (if_pos c).symm)) (nm_r (nI_1 i) hw)⟩
    · exact ⟨vp_in_nI hi (by decide), nm_r (e' := sv_fl a_block 0 (i + 1) (sv_hd (nI (s + 1)))) (sv_st0 (by omega) (if_neg c).symm) (nm_r (nI_1 i) hw)⟩
theorem sv_writeTag {post : SX → Prop} {κ : Nat → Nat → Int32} {s : Nat} (hs : s < 12) (H : sv_H a_box a_unbox a_keys a_round f_roundsOf κ) (hA : sv_V (sv_sl a_sectors (32 * s))) (hB : sv_V (sv_sl a_sectors (32 * s + 16)))
    (h : ∀ b m rnd tg tags, sv_H a_box a_unbox a_keys rnd (nI (16 * 0)) κ → sv_sl tags (16 * s) = sv_tg a_box s (sv_sl a_sectors (32 * s)) (sv_sl a_sectors (32 * s + 16)) → (∀ z, z < 12 → z ≠ s → sv_sl tags (16 * z) = sv_sl a_tags (16 * z)) → post (f_isThere, f_volumes, f_generation, f_renewed, f_asideFor, f_copyOf, f_copyGeneration, f_isOpen, nI (16 * 0), f_writesLeft, a_sectors, tags, a_used, a_telling, a_wrapped, a_wrappedData, a_aside, a_copyUsed, a_copyTelling, a_copyWrapped, a_keys, a_box, a_unbox, rnd, b, m, a_tweak, a_plain, tg, a_difference)) : wpX_writeTag post (f_isThere, f_volumes, f_generation, f_renewed, f_asideFor, f_copyOf, f_copyGeneration, f_isOpen, f_roundsOf, f_writesLeft, a_sectors, a_tags, a_used, a_telling, a_wrapped, a_wrappedData, a_aside, a_copyUsed, a_copyTelling, a_copyWrapped, a_keys, a_box, a_unbox, a_round, a_block, a_moved, a_tweak, a_plain, a_tag, a_difference) (nI s) := by
  unfold wpX_writeTag
  refine sv_findTag hs H hA hB (fun b m rnd tg H1 h1 => ?_)
  refine sv_loop (fun n i t => wX_writeTag_7 post (nI s) f_isThere f_volumes f_generation f_renewed f_asideFor f_copyOf f_copyGeneration f_isOpen (nI (16 * 0)) f_writesLeft n i a_sectors t a_used a_telling a_wrapped a_wrappedData a_aside a_copyUsed a_copyTelling a_copyWrapped a_keys a_box a_unbox rnd b m a_tweak a_plain tg a_difference) 16 (16 * s) a_tags tg (fun n => br_t (nI_le (Nat.le_refl 16) (by decide)) (h _ _ _ _ _ H1 ?_ (fun z hz hn => sv_sl_out (by omega)))) (fun n i hi hw => ?_)
  · rw [← h1]
    exact sv_sl_fl (fun j hj => sv_sl_0 hj) (fun j hj => sv_sl_ge hj)
  · have e : (16 : Int32) * nI s + nI i = nI (16 * s + i) := sv_ix 16 s i
    refine br_f (nI_ge (b := 16) hi (by decide)) ⟨vp_in_nI hi (by decide), pk_in (16 * s + i) 192 (by omega) e, nm_r (e' := sv_fl a_tags (16 * s) (i + 1) tg) (sv_st e (by omega) ?_) (nm_r (nI_1 i) hw)⟩
    rw [nI_clamp (by omega)]
theorem sv_isSound {post : Int32 → SX → Prop} {κ : Nat → Nat → Int32} {s : Nat} (hs : s < 12) (H : sv_H a_box a_unbox a_keys a_round f_roundsOf κ) (hA : sv_V (sv_sl a_sectors (32 * s))) (hB : sv_V (sv_sl a_sectors (32 * s + 16)))
    (h : ∀ b m rnd tg r, sv_H a_box a_unbox a_keys rnd (nI (16 * 0)) κ → (r = 1 ∧ sv_sl a_tags (16 * s) = sv_tg a_box s (sv_sl a_sectors (32 * s)) (sv_sl a_sectors (32 * s + 16)) ∨ r = 0 ∧ sv_sl a_tags (16 * s) ≠ sv_tg a_box s (sv_sl a_sectors (32 * s)) (sv_sl a_sectors (32 * s + 16))) → post r (f_isThere, f_volumes, f_generation, f_renewed, f_asideFor, f_copyOf, f_copyGeneration, f_isOpen, nI (16 * 0), f_writesLeft, a_sectors, a_tags, a_used, a_telling, a_wrapped, a_wrappedData, a_aside, a_copyUsed, a_copyTelling, a_copyWrapped, a_keys, a_box, a_unbox, rnd, b, m, a_tweak, a_plain, tg, a_difference)) : wpX_isSound post (f_isThere, f_volumes, f_generation, f_renewed, f_asideFor, f_copyOf, f_copyGeneration, f_isOpen, f_roundsOf, f_writesLeft, a_sectors, a_tags, a_used, a_telling, a_wrapped, a_wrappedData, a_aside, a_copyUsed, a_copyTelling, a_copyWrapped, a_keys, a_box, a_unbox, a_round, a_block, a_moved, a_tweak, a_plain, a_tag, a_difference) (nI s) := by
  unfold wpX_isSound
  refine sv_findTag hs H hA hB (fun b m rnd tg H1 h1 => ?_)
  refine sv_cmp (fun n i => wX_isSound_7 post (nI s) f_isThere f_volumes f_generation f_renewed f_asideFor f_copyOf f_copyGeneration f_isOpen (nI (16 * 0)) f_writesLeft a_sectors a_tags a_used a_telling a_wrapped a_wrappedData a_aside a_copyUsed a_copyTelling a_copyWrapped a_keys a_box a_unbox rnd b m a_tweak a_plain tg a_difference n i) 16 (fun i => a_tags (16 * s + i) = tg (0 + i)) (sv_sl a_tags (16 * s) = sv_sl tg 0) (sv_sl a_tags (16 * s) ≠ sv_sl tg 0) (fun h => sv_sl_eq h) (fun h => sv_ne_sl h) (fun hp n => br_t (nI_le (Nat.le_refl 16) (by decide)) (h b m rnd tg 1 H1 (Or.inl ⟨rfl, hp.trans h1⟩))) (fun n i hi hw hb => ?_)
  have e : (16 : Int32) * nI s + nI i = nI (16 * s + i) := sv_ix 16 s i
  refine br_f (nI_ge (b := 16) hi (by decide)) ⟨pk_in (16 * s + i) 192 (by omega) e, vp_in_nI hi (by decide), ?_⟩
  rw [e, nI_clamp (n := 16 * s + i) (by omega), nI_clamp (n := i) (by omega)]
  rw [Nat.zero_add] at hw hb
  exact ⟨fun c => nm_r (nI_1 i) (hw c), fun c => h b m rnd tg 0 H1 (Or.inr ⟨rfl, by rw [← h1]; exact hb c⟩)⟩
theorem sv_keyFor {post : Int32 → Prop} {t s : Nat} (ht : t ≤ 12) (hs : s < 12) (h : post (nI (16 * sv_kq t s))) : wpX_keyFor post (f_isThere, f_volumes, f_generation, sv_rn t, f_asideFor, f_copyOf, f_copyGeneration, f_isOpen, f_roundsOf, f_writesLeft, a_sectors, a_tags, a_used, a_telling, a_wrapped, a_wrappedData, a_aside, a_copyUsed, a_copyTelling, a_copyWrapped, a_keys, a_box, a_unbox, a_round, a_block, a_moved, a_tweak, a_plain, a_tag, a_difference) (nI s) := by
  unfold wpX_keyFor
  dsimp only
  unfold sv_rn
  unfold sv_kq at h
  by_cases c : t = 0
  · rw [if_pos c]
    rw [if_neg (fun z => z.1 c)] at h
    refine br_t ?_ h
    rw [Int32.le_iff_toInt_le, nI_toInt (by omega), show (-1 : Int32).toInt = -1 from by decide]
    omega
  · rw [if_neg c]
    refine pk_le (12 - t) s (fun h2 => ?_) (fun h2 => ?_)
    · rw [if_neg (by omega)] at h; exact h
    · rw [if_pos ⟨c, by omega⟩] at h; exact h
theorem sv_sealNow {post : SX → Prop} {κ : Nat → Nat → Int32} {t s : Nat} (ht : t ≤ 12) (hs : s < 12) (H : sv_H a_box a_unbox a_keys a_round f_roundsOf κ) (hA : sv_V (sv_sl a_plain 0)) (hB : sv_V (sv_sl a_plain 16))
    (h : ∀ b m rnd ks tw tg wl sec tags, sv_H a_box a_unbox ks rnd (nI (16 * 0)) (sv_ks κ 5 (sv_tk a_box (κ (sv_kq t s)))) → sv_sl sec (32 * s) = sv_ct a_box s (κ (sv_kq t s)) 0 (sv_sl a_plain 0) → sv_sl sec (32 * s + 16) = sv_ct a_box s (κ (sv_kq t s)) 1 (sv_sl a_plain 16) → sv_sl tags (16 * s) = sv_tg a_box s (sv_sl sec (32 * s)) (sv_sl sec (32 * s + 16)) → (∀ z, z < 12 → z ≠ s → sv_sl sec (32 * z) = sv_sl a_sectors (32 * z) ∧ sv_sl sec (32 * z + 16) = sv_sl a_sectors (32 * z + 16) ∧ sv_sl tags (16 * z) = sv_sl a_tags (16 * z)) → post (f_isThere, f_volumes, f_generation, sv_rn t, f_asideFor, f_copyOf, f_copyGeneration, f_isOpen, nI (16 * 0), wl, sec, tags, a_used, a_telling, a_wrapped, a_wrappedData, a_aside, a_copyUsed, a_copyTelling, a_copyWrapped, ks, a_box, a_unbox, rnd, b, m, tw, a_plain, tg, a_difference)) : wpX_sealNow post (f_isThere, f_volumes, f_generation, sv_rn t, f_asideFor, f_copyOf, f_copyGeneration, f_isOpen, f_roundsOf, f_writesLeft, a_sectors, a_tags, a_used, a_telling, a_wrapped, a_wrappedData, a_aside, a_copyUsed, a_copyTelling, a_copyWrapped, a_keys, a_box, a_unbox, a_round, a_block, a_moved, a_tweak, a_plain, a_tag, a_difference) (nI s) := by
  unfold wpX_sealNow
  have VK := H.2.2.1 (sv_kq t s) (by have := sv_kq_5 t s; omega)
  refine sv_keyFor ht hs (sv_seal (w := 8) (sv_kq_5 t s) hs (by omega) (by omega) H hA hB (fun b m rnd ks tw sec H1 hS => ?_))
  obtain ⟨s1, s2, _⟩ := hS
  obtain ⟨s3, s4⟩ := s2 (by omega)
  refine sv_writeTag hs H1 ?_ ?_ (fun b2 m2 rnd2 tg2 tags2 H2 h3 h4 => h b2 m2 rnd2 ks tw tg2 _ sec tags2 H2 s3 s4 h3 (fun z hz hn => ⟨(s1 z hz hn).1, (s1 z hz hn).2, h4 z hz hn⟩))
  · rw [s3]; exact sv_ct_V H.1 VK hs 0 hA
  · rw [s4]; exact sv_ct_V H.1 VK hs 1 hB
theorem sv_plainCell {post : Int32 → Prop} {c : Nat} (hc : c < 8) (h : post (sv_jn (fun i => a_plain (4 * c + i)))) : wpX_plainCell post (f_isThere, f_volumes, f_generation, f_renewed, f_asideFor, f_copyOf, f_copyGeneration, f_isOpen, f_roundsOf, f_writesLeft, a_sectors, a_tags, a_used, a_telling, a_wrapped, a_wrappedData, a_aside, a_copyUsed, a_copyTelling, a_copyWrapped, a_keys, a_box, a_unbox, a_round, a_block, a_moved, a_tweak, a_plain, a_tag, a_difference) (nI c) := by
  have step : ∀ (n i : Nat) (v : Int32), i < 4 → wX_plainCell_4 post (nI c) f_isThere f_volumes f_generation f_renewed f_asideFor f_copyOf f_copyGeneration f_isOpen f_roundsOf f_writesLeft a_sectors a_tags a_used a_telling a_wrapped a_wrappedData a_aside a_copyUsed a_copyTelling a_copyWrapped a_keys a_box a_unbox a_round a_block a_moved a_tweak a_plain a_tag a_difference n (sv_j8 v (a_plain (4 * c + i))) (nI i + (-1)) → wX_plainCell_4 post (nI c) f_isThere f_volumes f_generation f_renewed f_asideFor f_copyOf f_copyGeneration f_isOpen f_roundsOf f_writesLeft a_sectors a_tags a_used a_telling a_wrapped a_wrappedData a_aside a_copyUsed a_copyTelling a_copyWrapped a_keys a_box a_unbox a_round a_block a_moved a_tweak a_plain a_tag a_difference (n + 1) v (nI i) := by
    intro n i v hi k
    have e : (4 : Int32) * nI c + nI i = nI (4 * c + i) := sv_ix 4 c i
    refine br_f (nI_pos (by omega)) ⟨pk_in (4 * c + i) 32 (by omega) e, ?_⟩
    rw [e, nI_clamp (n := 4 * c + i) (by omega)]
    exact nm_e (nm_e k)
  have z : wX_plainCell_4 post (nI c) f_isThere f_volumes f_generation f_renewed f_asideFor f_copyOf f_copyGeneration f_isOpen f_roundsOf f_writesLeft a_sectors a_tags a_used a_telling a_wrapped a_wrappedData a_aside a_copyUsed a_copyTelling a_copyWrapped a_keys a_box a_unbox a_round a_block a_moved a_tweak a_plain a_tag a_difference 1 (sv_jn (fun i => a_plain (4 * c + i))) (nI 0 + (-1)) := br_t (by decide) h
  have k0 := step 1 0 _ (by omega) z
  rw [← pk_m1 0] at k0
  have k1 := step 2 1 _ (by omega) k0
  rw [← pk_m1 1] at k1
  have k2 := step 3 2 _ (by omega) k1
  rw [← pk_m1 2] at k2
  have k3 := step 4 3 0 (by omega) k2
  exact ⟨5, k3⟩
theorem sv_setPlainCell {post : SX → Prop} {c : Nat} {v : Int32} (hc : c < 8) (h : post (f_isThere, f_volumes, f_generation, f_renewed, f_asideFor, f_copyOf, f_copyGeneration, f_isOpen, f_roundsOf, f_writesLeft, a_sectors, a_tags, a_used, a_telling, a_wrapped, a_wrappedData, a_aside, a_copyUsed, a_copyTelling, a_copyWrapped, a_keys, a_box, a_unbox, a_round, a_block, a_moved, a_tweak, sv_fl a_plain (4 * c) 4 (sv_by v), a_tag, a_difference)) : wpX_setPlainCell post (f_isThere, f_volumes, f_generation, f_renewed, f_asideFor, f_copyOf, f_copyGeneration, f_isOpen, f_roundsOf, f_writesLeft, a_sectors, a_tags, a_used, a_telling, a_wrapped, a_wrappedData, a_aside, a_copyUsed, a_copyTelling, a_copyWrapped, a_keys, a_box, a_unbox, a_round, a_block, a_moved, a_tweak, a_plain, a_tag, a_difference) (nI c) v := by
  refine sv_loop (fun n i t => wX_setPlainCell_2 post (nI c) v f_isThere f_volumes f_generation f_renewed f_asideFor f_copyOf f_copyGeneration f_isOpen f_roundsOf f_writesLeft n i a_sectors a_tags a_used a_telling a_wrapped a_wrappedData a_aside a_copyUsed a_copyTelling a_copyWrapped a_keys a_box a_unbox a_round a_block a_moved a_tweak t a_tag a_difference) 4 (4 * c) a_plain (sv_by v) (fun n => br_t (nI_le (Nat.le_refl 4) (by decide)) h) (fun n i hi hw => ?_)
  have e : (4 : Int32) * nI c + nI i = nI (4 * c + i) := sv_ix 4 c i
  have e8 : (8 : Int32) * nI i = nI (8 * i) := pk_mul 8 i
  refine br_f (nI_ge (b := 4) hi (by decide)) ⟨pk_in (4 * c + i) 32 (by omega) e, nm_r (e' := sv_fl a_plain (4 * c) (i + 1) (sv_by v)) (sv_st e (by omega) ?_) (nm_r (nI_1 i) hw)⟩
  rw [e8]
  rfl
end
end
section
def sv_SL (bx : Nat → Int32) (vol : Int32) (R us tl wr ph : Nat → Int32) : Prop :=
  (∀ s, s < 4 → us s = 0 ∨ us s = 1) ∧ (∃ s, s < 4 ∧ us s ≠ 0) ∧ (∀ s t, s < 4 → t < 4 → us s ≠ 0 → us t ≠ 0 → ph s = ph t → s = t) ∧ (∀ s, s < 4 → us s ≠ 0 → sv_sl tl (16 * s) = sv_dq bx (ph s) vol 2 ∧ sv_sl wr (16 * s) = sv_E bx (sv_mk bx (ph s) vol) R)
def sv_SC (bx : Nat → Int32) (s : Nat) (K A B T : Nat → Int32) (d : Int32) (P0 P1 : Nat → Int32) : Prop :=
  sv_V A ∧ sv_V B ∧ (d = 0 → T = sv_tg bx s A B ∧ A = sv_ct bx s K 0 P0 ∧ B = sv_ct bx s K 1 P1) ∧ (d ≠ 0 → T ≠ sv_tg bx s A B)
def sv_dk (D F : Nat → Int32) (t s : Nat) : Nat → Int32 := if t ≠ 0 ∧ s < 12 - t then F else D
def sv_SS (bx sec tags cells dmg : Nat → Int32) (t : Nat) (D F : Nat → Int32) : Prop :=
  ∀ s, s < 12 → sv_SC bx s (sv_dk D F t s) (sv_sl sec (32 * s)) (sv_sl sec (32 * s + 16)) (sv_sl tags (16 * s)) (dmg s) (sv_pl cells s 0) (sv_pl cells s 1)
def sv_KY (κ : Nat → Nat → Int32) (op : Int32) (t : Nat) (R D F : Nat → Int32) : Prop := op ≠ 0 → κ 2 = R ∧ κ 3 = D ∧ (t ≠ 0 → κ 4 = F)
def sv_WD (bx wd : Nat → Int32) (t : Nat) (R D F : Nat → Int32) : Prop := sv_sl wd 0 = sv_E bx R D ∧ (t ≠ 0 → sv_sl wd 16 = sv_E bx R F)
def sv_CP (bx : Nat → Int32) (vol co gen : Nat) (cg hc st : Int32) (R cu ct cw cph : Nat → Int32) : Prop :=
  (hc = 0 ∧ co < vol) ∨ (hc ≠ 0 ∧ co = vol ∧ sv_SL bx (nI vol) R cu ct cw cph ∧ (st = 0 ↔ cg = nI gen) ∧ (cg = -1 ∨ ∃ n, n ≤ gen ∧ cg = nI n))
def sv_P1 (k : Nat) (R D F : Nat → Int32) (vol co gen t : Nat) (κ : Nat → Nat → Int32) (f_copyGeneration f_isOpen g_hasCopy g_isStale : Int32) (a_sectors a_tags a_used a_telling a_wrapped a_wrappedData a_copyUsed a_copyTelling a_copyWrapped a_box b_cells b_damaged b_phrases b_copyPhrases : Nat → Int32) : Prop :=
  (f_isOpen = 0 ∨ f_isOpen = 1) ∧ t ≤ 12 ∧ gen ≤ k + 1 ∧ (sv_V R ∧ sv_V D ∧ sv_V F) ∧ sv_KY κ f_isOpen t R D F ∧ sv_WD a_box a_wrappedData t R D F ∧ sv_SL a_box (nI vol) R a_used a_telling a_wrapped b_phrases ∧ sv_SS a_box a_sectors a_tags b_cells b_damaged t D F ∧ sv_CP a_box vol co gen f_copyGeneration g_hasCopy g_isStale R a_copyUsed a_copyTelling a_copyWrapped b_copyPhrases
def i_Rel (k : Nat) (u : SX) (v : SY) : Prop := match u, v with
  | (f_isThere, f_volumes, f_generation, f_renewed, f_asideFor, f_copyOf, f_copyGeneration, f_isOpen, f_roundsOf, f_writesLeft, a_sectors, a_tags, a_used, a_telling, a_wrapped, a_wrappedData, a_aside, a_copyUsed, a_copyTelling, a_copyWrapped, a_keys, a_box, a_unbox, a_round, a_block, a_moved, a_tweak, a_plain, a_tag, a_difference), (g_isThere, g_isOpen, g_left, g_hasCopy, g_isStale, b_cells, b_damaged, b_used, b_phrases, b_copyUsed, b_copyPhrases) => ∃ (κ : Nat → Nat → Int32) (vol co : Nat), f_volumes = nI vol ∧ f_copyOf = nI co ∧ 4 * vol ≤ k ∧ co ≤ vol ∧ a_used = b_used ∧ a_copyUsed = b_copyUsed ∧ sv_H a_box a_unbox a_keys a_round f_roundsOf κ ∧
    ((f_isThere = 0 ∧ g_isThere = 0 ∧ f_isOpen = 0 ∧ g_isOpen = 0 ∧ g_left = 0) ∨
     (f_isThere = 1 ∧ g_isThere = 1 ∧ f_isOpen = g_isOpen ∧ f_asideFor = -1 ∧ ∃ (R D F : Nat → Int32) (gen t : Nat), f_generation = nI gen ∧ f_renewed = sv_rn t ∧ g_left = nI t ∧ sv_P1 k R D F vol co gen t κ f_copyGeneration f_isOpen g_hasCopy g_isStale a_sectors a_tags a_used a_telling a_wrapped a_wrappedData a_copyUsed a_copyTelling a_copyWrapped a_box b_cells b_damaged b_phrases b_copyPhrases))
section
variable {f_isThere f_volumes f_generation f_renewed f_asideFor f_copyOf f_copyGeneration f_isOpen f_roundsOf f_writesLeft : Int32} {a_sectors a_tags a_used a_telling a_wrapped a_wrappedData a_aside a_copyUsed a_copyTelling a_copyWrapped a_keys a_box a_unbox a_round a_block a_moved a_tweak a_plain a_tag a_difference : Nat → Int32}
variable {g_isThere g_isOpen g_left g_hasCopy g_isStale : Int32} {b_cells b_damaged b_used b_phrases b_copyUsed b_copyPhrases : Nat → Int32}
variable {vol co gen t : Nat} {R D F : Nat → Int32} {κ : Nat → Nat → Int32}
theorem sv_in1 {k : Nat} (hv : 4 * vol ≤ k) (hc : co ≤ vol) (H : sv_H a_box a_unbox a_keys a_round f_roundsOf κ) (h : sv_P1 k R D F vol co gen t κ f_copyGeneration f_isOpen g_hasCopy g_isStale a_sectors a_tags a_used a_telling a_wrapped a_wrappedData a_copyUsed a_copyTelling a_copyWrapped a_box b_cells b_damaged b_phrases b_copyPhrases) : i_Rel k (1, nI vol, nI gen, sv_rn t, (-1), nI co, f_copyGeneration, f_isOpen, f_roundsOf, f_writesLeft, a_sectors, a_tags, a_used, a_telling, a_wrapped, a_wrappedData, a_aside, a_copyUsed, a_copyTelling, a_copyWrapped, a_keys, a_box, a_unbox, a_round, a_block, a_moved, a_tweak, a_plain, a_tag, a_difference) (1, f_isOpen, nI t, g_hasCopy, g_isStale, b_cells, b_damaged, a_used, b_phrases, a_copyUsed, b_copyPhrases) :=
  ⟨κ, vol, co, rfl, rfl, hv, hc, rfl, rfl, H, Or.inr ⟨rfl, rfl, rfl, rfl, R, D, F, gen, t, rfl, rfl, rfl, h⟩⟩
theorem sv_in0 {k : Nat} (hv : 4 * vol ≤ k) (hc : co ≤ vol) (H : sv_H a_box a_unbox a_keys a_round f_roundsOf κ) : i_Rel k (0, nI vol, f_generation, f_renewed, f_asideFor, nI co, f_copyGeneration, 0, f_roundsOf, f_writesLeft, a_sectors, a_tags, a_used, a_telling, a_wrapped, a_wrappedData, a_aside, a_copyUsed, a_copyTelling, a_copyWrapped, a_keys, a_box, a_unbox, a_round, a_block, a_moved, a_tweak, a_plain, a_tag, a_difference) (0, 0, 0, g_hasCopy, g_isStale, b_cells, b_damaged, a_used, b_phrases, a_copyUsed, b_copyPhrases) :=
  ⟨κ, vol, co, rfl, rfl, hv, hc, rfl, rfl, H, Or.inl ⟨rfl, rfl, rfl, rfl, rfl⟩⟩
end
theorem sv_P1_up {k : Nat} {R D F : Nat → Int32} {vol co gen t : Nat} {κ : Nat → Nat → Int32} {cg op hc st : Int32} {a1 a2 a3 a4 a5 a6 a7 a8 a9 a10 a11 a12 a13 a14 : Nat → Int32} (h : sv_P1 k R D F vol co gen t κ cg op hc st a1 a2 a3 a4 a5 a6 a7 a8 a9 a10 a11 a12 a13 a14) : sv_P1 (k + 4) R D F vol co gen t κ cg op hc st a1 a2 a3 a4 a5 a6 a7 a8 a9 a10 a11 a12 a13 a14 := by
  obtain ⟨h1, h2, h3, h4⟩ := h
  exact ⟨h1, h2, by omega, h4⟩
theorem sv_el {k : Nat} {u : SX} {v : SY} {P : SX → SY → Prop} (I : i_Rel k u v)
    (h0 : ∀ (f_generation f_renewed f_asideFor f_copyGeneration f_roundsOf f_writesLeft : Int32) (a_sectors a_tags a_used a_telling a_wrapped a_wrappedData a_aside a_copyUsed a_copyTelling a_copyWrapped a_keys a_box a_unbox a_round a_block a_moved a_tweak a_plain a_tag a_difference : Nat → Int32) (g_hasCopy g_isStale : Int32) (b_cells b_damaged b_phrases b_copyPhrases : Nat → Int32) (κ : Nat → Nat → Int32) (vol co : Nat), 4 * vol ≤ k → co ≤ vol → sv_H a_box a_unbox a_keys a_round f_roundsOf κ → P (0, nI vol, f_generation, f_renewed, f_asideFor, nI co, f_copyGeneration, 0, f_roundsOf, f_writesLeft, a_sectors, a_tags, a_used, a_telling, a_wrapped, a_wrappedData, a_aside, a_copyUsed, a_copyTelling, a_copyWrapped, a_keys, a_box, a_unbox, a_round, a_block, a_moved, a_tweak, a_plain, a_tag, a_difference) (0, 0, 0, g_hasCopy, g_isStale, b_cells, b_damaged, a_used, b_phrases, a_copyUsed, b_copyPhrases))
    (h1 : ∀ (f_copyGeneration f_isOpen f_roundsOf f_writesLeft : Int32) (a_sectors a_tags a_used a_telling a_wrapped a_wrappedData a_aside a_copyUsed a_copyTelling a_copyWrapped a_keys a_box a_unbox a_round a_block a_moved a_tweak a_plain a_tag a_difference : Nat → Int32) (g_hasCopy g_isStale : Int32) (b_cells b_damaged b_phrases b_copyPhrases : Nat → Int32) (κ : Nat → Nat → Int32) (R D F : Nat → Int32) (vol co gen t : Nat), 4 * vol ≤ k → co ≤ vol → sv_H a_box a_unbox a_keys a_round f_roundsOf κ → sv_P1 k R D F vol co gen t κ f_copyGeneration f_isOpen g_hasCopy g_isStale a_sectors a_tags a_used a_telling a_wrapped a_wrappedData a_copyUsed a_copyTelling a_copyWrapped a_box b_cells b_damaged b_phrases b_copyPhrases → P (1, nI vol, nI gen, sv_rn t, (-1), nI co, f_copyGeneration, f_isOpen, f_roundsOf, f_writesLeft, a_sectors, a_tags, a_used, a_telling, a_wrapped, a_wrappedData, a_aside, a_copyUsed, a_copyTelling, a_copyWrapped, a_keys, a_box, a_unbox, a_round, a_block, a_moved, a_tweak, a_plain, a_tag, a_difference) (1, f_isOpen, nI t, g_hasCopy, g_isStale, b_cells, b_damaged, a_used, b_phrases, a_copyUsed, b_copyPhrases)) : P u v := by
  obtain ⟨f_isThere, f_volumes, f_generation, f_renewed, f_asideFor, f_copyOf, f_copyGeneration, f_isOpen, f_roundsOf, f_writesLeft, a_sectors, a_tags, a_used, a_telling, a_wrapped, a_wrappedData, a_aside, a_copyUsed, a_copyTelling, a_copyWrapped, a_keys, a_box, a_unbox, a_round, a_block, a_moved, a_tweak, a_plain, a_tag, a_difference⟩ := u
  obtain ⟨g_isThere, g_isOpen, g_left, g_hasCopy, g_isStale, b_cells, b_damaged, b_used, b_phrases, b_copyUsed, b_copyPhrases⟩ := v
  obtain ⟨κ, vol, co, e1, e2, hv, hc, e3, e4, H, h⟩ := I
  subst e1 e2 e3 e4
  rcases h with ⟨e1, e2, e3, e4, e5⟩ | ⟨e1, e2, e3, e4, R, D, F, gen, t, e5, e6, e7, h⟩
  · subst e1 e2 e3 e4 e5
    exact h0 f_generation f_renewed f_asideFor f_copyGeneration f_roundsOf f_writesLeft a_sectors a_tags a_used a_telling a_wrapped a_wrappedData a_aside a_copyUsed a_copyTelling a_copyWrapped a_keys a_box a_unbox a_round a_block a_moved a_tweak a_plain a_tag a_difference g_hasCopy g_isStale b_cells b_damaged b_phrases b_copyPhrases κ vol co hv hc H
  · subst e1 e2 e3 e4 e5 e6 e7
    exact h1 f_copyGeneration f_isOpen f_roundsOf f_writesLeft a_sectors a_tags a_used a_telling a_wrapped a_wrappedData a_aside a_copyUsed a_copyTelling a_copyWrapped a_keys a_box a_unbox a_round a_block a_moved a_tweak a_plain a_tag a_difference g_hasCopy g_isStale b_cells b_damaged b_phrases b_copyPhrases κ R D F vol co gen t hv hc H h
theorem i_up {k : Nat} {u : SX} {v : SY} (h : i_Rel k u v) : i_Rel (k + 4) u v := by
  refine sv_el (P := fun u v => i_Rel (k + 4) u v) h ?_ ?_
  · intro f_generation f_renewed f_asideFor f_copyGeneration f_roundsOf f_writesLeft a_sectors a_tags a_used a_telling a_wrapped a_wrappedData a_aside a_copyUsed a_copyTelling a_copyWrapped a_keys a_box a_unbox a_round a_block a_moved a_tweak a_plain a_tag a_difference g_hasCopy g_isStale b_cells b_damaged b_phrases b_copyPhrases κ vol co hv hc H
    exact sv_in0 (by omega) hc H
  · intro f_copyGeneration f_isOpen f_roundsOf f_writesLeft a_sectors a_tags a_used a_telling a_wrapped a_wrappedData a_aside a_copyUsed a_copyTelling a_copyWrapped a_keys a_box a_unbox a_round a_block a_moved a_tweak a_plain a_tag a_difference g_hasCopy g_isStale b_cells b_damaged b_phrases b_copyPhrases κ R D F vol co gen t hv hc H h
    exact sv_in1 (by omega) hc H (sv_P1_up h)
end
section
theorem sv_bad {v : Int32} {n : Nat} (hn : n + 1 < 2 ^ 31) (h : nI (n + 1) ≤ v) : ¬ v ≤ nI n := by
  rw [Int32.le_iff_toInt_le, nI_toInt (by omega)] at h ⊢
  omega
theorem sv_npos {v : Int32} {n : Nat} (hn : n < 2 ^ 31) (h : nI n ≤ v) : ¬ v < 0 := by
  rw [Int32.le_iff_toInt_le, nI_toInt hn] at h
  rw [Int32.lt_iff_toInt_lt, show (0 : Int32).toInt = 0 from by decide]
  omega
/-- an argument out of 0 .. n - 1 -/
def sv_ob (n : Nat) (v : Int32) : Prop := v < 0 ∨ nI n ≤ v
theorem sv_arg (n : Nat) (hn : n < 2 ^ 31) (v : Int32) : sv_ob n v ∨ ∃ j, j < n ∧ v = nI j := by
  rcases pk_ix v hn with h | h | h
  · exact Or.inl (Or.inl h)
  · exact Or.inl (Or.inr h)
  · exact Or.inr h
theorem sv_x_b {n : Nat} {post : Int32 → Prop} {v : Int32} {A : Prop} (hn : n < 2 ^ 31) (h : sv_ob n v) (p : post 0) : (v < 0 → post 0) ∧ (¬ v < 0 → ((nI n ≤ v → post 0) ∧ (¬ nI n ≤ v → A))) := by
  rcases h with h | h
  · exact br_t h p
  · exact br_f (sv_npos hn h) (br_t h p)
theorem sv_y_b {n : Nat} {post : Int32 → Prop} {v : Int32} {A : Prop} (hn : n + 1 < 2 ^ 31) (h : sv_ob (n + 1) v) (p : post 1) : (v < 0 → post 1) ∧ (¬ v < 0 → ((v ≤ nI n → A) ∧ (¬ v ≤ nI n → post 1))) := by
  rcases h with h | h
  · exact br_t h p
  · exact br_f (sv_npos hn h) (br_f (sv_bad hn h) p)
theorem sv_isSector_b {post : Int32 → Prop} {v : Int32} (h : sv_ob 12 v) (p : post 0) : wpX_isSector post v := sv_x_b (by decide) h p
theorem sv_isCell_b {post : Int32 → Prop} {v : Int32} (h : sv_ob 8 v) (p : post 0) : wpX_isCell post v := sv_x_b (by decide) h p
theorem sv_isSlot_b {post : Int32 → Prop} {v : Int32} (h : sv_ob 4 v) (p : post 0) : wpX_isSlot post v := sv_x_b (by decide) h p
theorem sv_isSector_g {post : Int32 → Prop} {s : Nat} (h : s < 12) (p : post 1) : wpX_isSector post (nI s) := br_f (nI_pos (by omega)) (br_f (nI_ge (b := 12) h (by decide)) p)
theorem sv_isCell_g {post : Int32 → Prop} {s : Nat} (h : s < 8) (p : post 1) : wpX_isCell post (nI s) := br_f (nI_pos (by omega)) (br_f (nI_ge (b := 8) h (by decide)) p)
theorem sv_isSlot_g {post : Int32 → Prop} {s : Nat} (h : s < 4) (p : post 1) : wpX_isSlot post (nI s) := br_f (nI_pos (by omega)) (br_f (nI_ge (b := 4) h (by decide)) p)
section
variable {g_isThere g_isOpen g_left g_hasCopy g_isStale : Int32} {b_cells b_damaged b_used b_phrases b_copyUsed b_copyPhrases : Nat → Int32}
theorem sv_badSector_b {post : Int32 → Prop} {v : Int32} (h : sv_ob 12 v) (p : post 1) : wpY_badSector post (g_isThere, g_isOpen, g_left, g_hasCopy, g_isStale, b_cells, b_damaged, b_used, b_phrases, b_copyUsed, b_copyPhrases) v := sv_y_b (n := 11) (by decide) h p
theorem sv_badCell_b {post : Int32 → Prop} {v : Int32} (h : sv_ob 8 v) (p : post 1) : wpY_badCell post (g_isThere, g_isOpen, g_left, g_hasCopy, g_isStale, b_cells, b_damaged, b_used, b_phrases, b_copyUsed, b_copyPhrases) v := sv_y_b (n := 7) (by decide) h p
theorem sv_badSlot_b {post : Int32 → Prop} {v : Int32} (h : sv_ob 4 v) (p : post 1) : wpY_badSlot post (g_isThere, g_isOpen, g_left, g_hasCopy, g_isStale, b_cells, b_damaged, b_used, b_phrases, b_copyUsed, b_copyPhrases) v := sv_y_b (n := 3) (by decide) h p
theorem sv_badSector_g {post : Int32 → Prop} {s : Nat} (h : s < 12) (p : post 0) : wpY_badSector post (g_isThere, g_isOpen, g_left, g_hasCopy, g_isStale, b_cells, b_damaged, b_used, b_phrases, b_copyUsed, b_copyPhrases) (nI s) := br_f (nI_pos (by omega)) (br_t (nI_le (b := 11) (by omega) (by decide)) p)
theorem sv_badCell_g {post : Int32 → Prop} {s : Nat} (h : s < 8) (p : post 0) : wpY_badCell post (g_isThere, g_isOpen, g_left, g_hasCopy, g_isStale, b_cells, b_damaged, b_used, b_phrases, b_copyUsed, b_copyPhrases) (nI s) := br_f (nI_pos (by omega)) (br_t (nI_le (b := 7) (by omega) (by decide)) p)
theorem sv_badSlot_g {post : Int32 → Prop} {s : Nat} (h : s < 4) (p : post 0) : wpY_badSlot post (g_isThere, g_isOpen, g_left, g_hasCopy, g_isStale, b_cells, b_damaged, b_used, b_phrases, b_copyUsed, b_copyPhrases) (nI s) := br_f (nI_pos (by omega)) (br_t (nI_le (b := 3) (by omega) (by decide)) p)
theorem sv_find {post : Int32 → Prop} {p : Int32} (h : post (sv_fd b_used b_phrases p 4 0)) : wpY_find post (g_isThere, g_isOpen, g_left, g_hasCopy, g_isStale, b_cells, b_damaged, b_used, b_phrases, b_copyUsed, b_copyPhrases) p := by
  have key : ∀ d s, s + d = 4 → post (sv_fd b_used b_phrases p d s) → wY_find_2 post p g_isThere g_isOpen g_left g_hasCopy g_isStale b_cells b_damaged b_used b_phrases b_copyUsed b_copyPhrases (d + 1) (nI s) := by
    intro d
    induction d with
    | zero =>
      intro s hs hp
      have s4 : s = 4 := by omega
      subst s4
      exact br_t (nI_le (Nat.le_refl 4) (by decide)) hp
    | succ d ih =>
      intro s hs hp
      have hs4 : s < 4 := by omega
      have hi : vp_in (nI s) 4 := vp_in_nI hs4 (by decide)
      refine br_f (nI_ge (a := s) (b := 4) hs4 (by decide)) ⟨hi, ?_⟩
      rw [nI_clamp (n := s) (by omega)]
      refine br_c (fun c => nm_r (nI_1 s) (ih (s + 1) (by omega) ?_)) (fun c => ⟨hi, br_c (fun c2 => ?_) (fun c2 => nm_r (nI_1 s) (ih (s + 1) (by omega) ?_))⟩)
      · rw [show sv_fd b_used b_phrases p (d + 1) s = sv_fd b_used b_phrases p d (s + 1) from if_pos c] at hp
        exact hp
      · rw [show sv_fd b_used b_phrases p (d + 1) s = nI s from (if_neg c).trans (if_pos c2)] at hp
        exact hp
      · rw [show sv_fd b_used b_phrases p (d + 1) s = sv_fd b_used b_phrases p d (s + 1) from (if_neg c).trans (if_neg c2)] at hp
        exact hp
  have k0 := key 4 0 rfl h
  rw [nI_0] at k0
  exact ⟨5, k0⟩
theorem sv_countSlots {post : Int32 → Prop} (h : post (nI (sv_uc b_used 4))) : wpY_countSlots post (g_isThere, g_isOpen, g_left, g_hasCopy, g_isStale, b_cells, b_damaged, b_used, b_phrases, b_copyUsed, b_copyPhrases) := by
  have key : ∀ d s, s + d = 4 → wY_countSlots_4 post g_isThere g_isOpen g_left g_hasCopy g_isStale b_cells b_damaged b_used b_phrases b_copyUsed b_copyPhrases (d + 1) (nI (sv_uc b_used s)) (nI s) := by
    intro d
    induction d with
    | zero =>
      intro s hs
      have s4 : s = 4 := by omega
      subst s4
      exact br_t (nI_le (Nat.le_refl 4) (by decide)) h
    | succ d ih =>
      intro s hs
      have hs4 : s < 4 := by omega
      have k := ih (s + 1) (by omega)
      refine br_f (nI_ge (a := s) (b := 4) hs4 (by decide)) ⟨vp_in_nI hs4 (by decide), ?_⟩
      rw [nI_clamp (n := s) (by omega)]
      refine br_c (fun c => ?_) (fun c => ?_)
      · rw [show sv_uc b_used (s + 1) = sv_uc b_used s from if_pos c] at k
        exact nm_r (nI_1 s) k
      · rw [show sv_uc b_used (s + 1) = sv_uc b_used s + 1 from if_neg c] at k
        exact nm_r (nI_1 _) (nm_r (nI_1 s) k)
  have k0 := key 4 0 rfl
  rw [show sv_uc b_used 0 = 0 from rfl, nI_0] at k0
  exact ⟨5, k0⟩
/-- the reference's read: what it answers -/
def sv_rd (op : Int32) (cells dmg : Nat → Int32) (s c : Nat) : Int32 := if op = 0 then 0 else if dmg s = 0 then cells (8 * s + c) else 0
theorem sv_yread {post : Int32 → Prop} {s c : Nat} (hs : s < 12) (hc : c < 8) (h : post (sv_rd g_isOpen b_cells b_damaged s c)) : wpY_read post (g_isThere, g_isOpen, g_left, g_hasCopy, g_isStale, b_cells, b_damaged, b_used, b_phrases, b_copyUsed, b_copyPhrases) (nI s) (nI c) := by
  unfold wpY_read
  unfold sv_rd at h
  have e : (8 : Int32) * nI s + nI c = nI (8 * s + c) := sv_ix 8 s c
  refine sv_badSector_g hs (br_t rfl (sv_badCell_g hc (br_t rfl (br_c (fun c1 => ?_) (fun c1 => ⟨vp_in_nI hs (by decide), ?_⟩)))))
  · rw [if_pos c1] at h; exact h
  · rw [if_neg c1] at h
    rw [e, nI_clamp (n := s) (by omega), nI_clamp (n := 8 * s + c) (by omega)]
    refine br_c (fun c2 => ⟨vp_in_nI (by omega) (by decide), ?_⟩) (fun c2 => ?_)
    · rw [if_pos c2] at h; exact h
    · rw [if_neg c2] at h; exact h
end
end
section
theorem sv_P1_z {k : Nat} {R D F : Nat → Int32} {vol co gen t : Nat} {κ κ' : Nat → Nat → Int32} {cg op hc st : Int32} {a1 a2 a3 a4 a5 a6 a7 a8 a9 a10 a11 a12 a13 a14 : Nat → Int32} (h : sv_P1 k R D F vol co gen t κ cg op hc st a1 a2 a3 a4 a5 a6 a7 a8 a9 a10 a11 a12 a13 a14) : sv_P1 (k + 4) R D F vol co gen t κ' cg 0 hc st a1 a2 a3 a4 a5 a6 a7 a8 a9 a10 a11 a12 a13 a14 := by
  obtain ⟨h1, h2, h3, h4, h5, h6⟩ := h
  exact ⟨Or.inl rfl, h2, by omega, h4, fun z => absurd rfl z, h6⟩
theorem sv_KY_dk {κ : Nat → Nat → Int32} {op : Int32} {t : Nat} {R D F : Nat → Int32} (h : sv_KY κ op t R D F) (ho : op ≠ 0) (s : Nat) : κ (sv_kq t s) = sv_dk D F t s := by
  obtain ⟨_, h2, h3⟩ := h ho
  unfold sv_kq sv_dk
  by_cases c : t ≠ 0 ∧ s < 12 - t
  · rw [if_pos c, if_pos c]; exact h3 c.1
  · rw [if_neg c, if_neg c]; exact h2
theorem sv_KY_5 {κ : Nat → Nat → Int32} {op : Int32} {t : Nat} {R D F B : Nat → Int32} (h : sv_KY κ op t R D F) : sv_KY (sv_ks κ 5 B) op t R D F := fun ho => by
  obtain ⟨h1, h2, h3⟩ := h ho
  rw [sv_ks_n (by decide), sv_ks_n (by decide), sv_ks_n (by decide)]
  exact ⟨h1, h2, h3⟩
theorem sv_KY_1 {κ : Nat → Nat → Int32} {op : Int32} {t : Nat} {R D F B : Nat → Int32} (h : sv_KY κ op t R D F) : sv_KY (sv_ks κ 1 B) op t R D F := fun ho => by
  obtain ⟨h1, h2, h3⟩ := h ho
  rw [sv_ks_n (by decide), sv_ks_n (by decide), sv_ks_n (by decide)]
  exact ⟨h1, h2, h3⟩
/-- with other keys in the store, as long as they are right -/
theorem sv_P1_k {k : Nat} {R D F : Nat → Int32} {vol co gen t : Nat} {κ κ' : Nat → Nat → Int32} {cg op hc st : Int32} {a1 a2 a3 a4 a5 a6 a7 a8 a9 a10 a11 a12 a13 a14 : Nat → Int32} (h : sv_P1 k R D F vol co gen t κ cg op hc st a1 a2 a3 a4 a5 a6 a7 a8 a9 a10 a11 a12 a13 a14) (hk : sv_KY κ op t R D F → sv_KY κ' op t R D F) : sv_P1 (k + 4) R D F vol co gen t κ' cg op hc st a1 a2 a3 a4 a5 a6 a7 a8 a9 a10 a11 a12 a13 a14 := by
  obtain ⟨h1, h2, h3, h4, h5, h6⟩ := h
  exact ⟨h1, h2, by omega, h4, hk h5, h6⟩
theorem sv_dk_V {D F : Nat → Int32} (hD : sv_V D) (hF : sv_V F) (t s : Nat) : sv_V (sv_dk D F t s) := by
  unfold sv_dk
  by_cases c : t ≠ 0 ∧ s < 12 - t
  · rw [if_pos c]; exact hF
  · rw [if_neg c]; exact hD
theorem sv_rn_neg : sv_rn 0 < 0 := by decide
theorem sv_rn_pos {t : Nat} (h : t ≠ 0) : ¬ sv_rn t < 0 := by
  unfold sv_rn
  rw [if_neg h]
  exact nI_pos (by omega)
def sv_sb (th : Int32) (us : Nat → Int32) : Nat → Nat → Int32 → Int32
  | 0 => fun _ x => x
  | d + 1 => fun s x => if th = 0 then sv_sb th us d (s + 1) x else if us s = 0 then sv_sb th us d (s + 1) x else sv_sb th us d (s + 1) (x ||| ((1 : Int32) <<< (nI s &&& 31)))
section
variable {f_isThere f_volumes f_generation f_renewed f_asideFor f_copyOf f_copyGeneration f_isOpen f_roundsOf f_writesLeft : Int32} {a_sectors a_tags a_used a_telling a_wrapped a_wrappedData a_aside a_copyUsed a_copyTelling a_copyWrapped a_keys a_box a_unbox a_round a_block a_moved a_tweak a_plain a_tag a_difference : Nat → Int32}
theorem sv_toRenew {post : Int32 → Prop} {t : Nat} (ht : t ≤ 12) (h : post (nI t)) : wpX_toRenew post (1, f_volumes, f_generation, sv_rn t, f_asideFor, f_copyOf, f_copyGeneration, f_isOpen, f_roundsOf, f_writesLeft, a_sectors, a_tags, a_used, a_telling, a_wrapped, a_wrappedData, a_aside, a_copyUsed, a_copyTelling, a_copyWrapped, a_keys, a_box, a_unbox, a_round, a_block, a_moved, a_tweak, a_plain, a_tag, a_difference) := by
  refine br_f (by decide) ?_
  by_cases c : t = 0
  · subst c
    exact br_t sv_rn_neg h
  · refine br_f (sv_rn_pos c) ?_
    have e : (12 : Int32) - sv_rn t = nI t := by
      unfold sv_rn
      rw [if_neg c]
      have := pk_sub (a := 12) (b := 12 - t) (by omega)
      rw [show 12 - (12 - t) = t by omega] at this
      exact this
    rw [e]
    exact h
theorem sv_xslots {post : Int32 → Prop} (h : post (sv_sb f_isThere a_used 4 0 0)) : wpX_slots post (f_isThere, f_volumes, f_generation, f_renewed, f_asideFor, f_copyOf, f_copyGeneration, f_isOpen, f_roundsOf, f_writesLeft, a_sectors, a_tags, a_used, a_telling, a_wrapped, a_wrappedData, a_aside, a_copyUsed, a_copyTelling, a_copyWrapped, a_keys, a_box, a_unbox, a_round, a_block, a_moved, a_tweak, a_plain, a_tag, a_difference) := by
  have key : ∀ d s x, s + d = 4 → post (sv_sb f_isThere a_used d s x) → wX_slots_4 post f_isThere f_volumes f_generation f_renewed f_asideFor f_copyOf f_copyGeneration f_isOpen f_roundsOf f_writesLeft a_sectors a_tags a_used a_telling a_wrapped a_wrappedData a_aside a_copyUsed a_copyTelling a_copyWrapped a_keys a_box a_unbox a_round a_block a_moved a_tweak a_plain a_tag a_difference (d + 1) x (nI s) := by
    intro d
    induction d with
    | zero =>
      intro s x hs hp
      have s4 : s = 4 := by omega
      subst s4
      exact br_t (nI_le (Nat.le_refl 4) (by decide)) hp
    | succ d ih =>
      intro s x hs hp
      have hs4 : s < 4 := by omega
      have hp' : post (if f_isThere = 0 then sv_sb f_isThere a_used d (s + 1) x else if a_used s = 0 then sv_sb f_isThere a_used d (s + 1) x else sv_sb f_isThere a_used d (s + 1) (x ||| ((1 : Int32) <<< (nI s &&& 31)))) := hp
      refine br_f (nI_ge (a := s) (b := 4) hs4 (by decide)) (br_c (fun c => ?_) (fun c => ⟨vp_in_nI hs4 (by decide), ?_⟩))
      · rw [if_pos c] at hp'
        exact nm_r Int32.or_zero (nm_r (nI_1 s) (ih (s + 1) x (by omega) hp'))
      · rw [if_neg c] at hp'
        rw [nI_clamp (n := s) (by omega)]
        refine br_c (fun c2 => ?_) (fun c2 => ?_)
        · rw [if_pos c2] at hp'
          exact nm_r Int32.or_zero (nm_r (nI_1 s) (ih (s + 1) x (by omega) hp'))
        · rw [if_neg c2] at hp'
          exact nm_e (nm_r (nI_1 s) (ih (s + 1) _ (by omega) hp'))
  have k0 := key 4 0 0 rfl h
  rw [nI_0] at k0
  exact ⟨5, k0⟩
end
section
variable {g_isThere g_isOpen g_left g_hasCopy g_isStale : Int32} {b_cells b_damaged b_used b_phrases b_copyUsed b_copyPhrases : Nat → Int32}
theorem sv_yslots {post : Int32 → Prop} (h : post (sv_sb g_isThere b_used 4 0 0)) : wpY_slots post (g_isThere, g_isOpen, g_left, g_hasCopy, g_isStale, b_cells, b_damaged, b_used, b_phrases, b_copyUsed, b_copyPhrases) := by
  have key : ∀ d s x, s + d = 4 → post (sv_sb g_isThere b_used d s x) → wY_slots_4 post g_isThere g_isOpen g_left g_hasCopy g_isStale b_cells b_damaged b_used b_phrases b_copyUsed b_copyPhrases (d + 1) x (nI s) := by
    intro d
    induction d with
    | zero =>
      intro s x hs hp
      have s4 : s = 4 := by omega
      subst s4
      exact br_t (nI_le (Nat.le_refl 4) (by decide)) hp
    | succ d ih =>
      intro s x hs hp
      have hs4 : s < 4 := by omega
      have hp' : post (if g_isThere = 0 then sv_sb g_isThere b_used d (s + 1) x else if b_used s = 0 then sv_sb g_isThere b_used d (s + 1) x else sv_sb g_isThere b_used d (s + 1) (x ||| ((1 : Int32) <<< (nI s &&& 31)))) := hp
      refine br_f (nI_ge (a := s) (b := 4) hs4 (by decide)) (br_c (fun c => ?_) (fun c => ⟨vp_in_nI hs4 (by decide), ?_⟩))
      · rw [if_pos c] at hp'
        exact nm_r (nI_1 s) (ih (s + 1) x (by omega) hp')
      · rw [if_neg c] at hp'
        rw [nI_clamp (n := s) (by omega)]
        refine br_c (fun c2 => ?_) (fun c2 => ?_)
        · rw [if_pos c2] at hp'
          exact nm_r (nI_1 s) (ih (s + 1) x (by omega) hp')
        · rw [if_neg c2] at hp'
          exact nm_e (nm_r (nI_1 s) (ih (s + 1) _ (by omega) hp'))
  have k0 := key 4 0 0 rfl h
  rw [nI_0] at k0
  exact ⟨5, k0⟩
end
theorem i_vc_lock {k : Nat} {u : SX} {v : SY} (I : i_Rel k u v) (hk : k + 4 ≤ 2048) : wpX_lock (fun r u' => wpY_lock (fun r' v' => r' = r ∧ i_Rel (k + 4) u' v') v) u := by
  refine sv_el (P := fun u v => i_Rel (k + 4) u v → wpX_lock (fun r u' => wpY_lock (fun r' v' => r' = r ∧ i_Rel (k + 4) u' v') v) u) I ?_ ?_ (i_up I)
  · intro f_generation f_renewed f_asideFor f_copyGeneration f_roundsOf f_writesLeft a_sectors a_tags a_used a_telling a_wrapped a_wrappedData a_aside a_copyUsed a_copyTelling a_copyWrapped a_keys a_box a_unbox a_round a_block a_moved a_tweak a_plain a_tag a_difference g_hasCopy g_isStale b_cells b_damaged b_phrases b_copyPhrases κ vol co hv hc H J
    exact br_t rfl (br_t rfl ⟨rfl, J⟩)
  · intro f_copyGeneration f_isOpen f_roundsOf f_writesLeft a_sectors a_tags a_used a_telling a_wrapped a_wrappedData a_aside a_copyUsed a_copyTelling a_copyWrapped a_keys a_box a_unbox a_round a_block a_moved a_tweak a_plain a_tag a_difference g_hasCopy g_isStale b_cells b_damaged b_phrases b_copyPhrases κ R D F vol co gen t hv hc H h J
    refine br_f (by decide) (br_c (fun c => ?_) (fun c => ?_))
    · unfold wX_lock_22
      exact sv_forget H (fun ks H' => br_f (by decide) (br_t c ⟨rfl, sv_in1 (by omega) hc H' (sv_P1_z h)⟩))
    · unfold wX_lock_22
      exact sv_forget H (fun ks H' => br_f (by decide) (br_f c ⟨rfl, sv_in1 (by omega) hc H' (sv_P1_z h)⟩))
theorem i_vc_state {k : Nat} {u : SX} {v : SY} (I : i_Rel k u v) (hk : k + 4 ≤ 2048) : wpX_state (fun r => wpY_state (fun r' => r' = r ∧ i_Rel (k + 4) u v) v) u := by
  refine sv_el (P := fun u v => i_Rel (k + 4) u v → wpX_state (fun r => wpY_state (fun r' => r' = r ∧ i_Rel (k + 4) u v) v) u) I ?_ ?_ (i_up I)
  · intro f_generation f_renewed f_asideFor f_copyGeneration f_roundsOf f_writesLeft a_sectors a_tags a_used a_telling a_wrapped a_wrappedData a_aside a_copyUsed a_copyTelling a_copyWrapped a_keys a_box a_unbox a_round a_block a_moved a_tweak a_plain a_tag a_difference g_hasCopy g_isStale b_cells b_damaged b_phrases b_copyPhrases κ vol co hv hc H J
    exact br_t rfl (br_t rfl ⟨rfl, J⟩)
  · intro f_copyGeneration f_isOpen f_roundsOf f_writesLeft a_sectors a_tags a_used a_telling a_wrapped a_wrappedData a_aside a_copyUsed a_copyTelling a_copyWrapped a_keys a_box a_unbox a_round a_block a_moved a_tweak a_plain a_tag a_difference g_hasCopy g_isStale b_cells b_damaged b_phrases b_copyPhrases κ R D F vol co gen t hv hc H h J
    exact br_f (by decide) (br_c (fun c => br_f (by decide) (br_t c ⟨rfl, J⟩)) (fun c => br_f (by decide) (br_f c ⟨rfl, J⟩)))
theorem i_vc_toRenew {k : Nat} {u : SX} {v : SY} (I : i_Rel k u v) (hk : k + 4 ≤ 2048) : wpX_toRenew (fun r => wpY_toRenew (fun r' => r' = r ∧ i_Rel (k + 4) u v) v) u := by
  refine sv_el (P := fun u v => i_Rel (k + 4) u v → wpX_toRenew (fun r => wpY_toRenew (fun r' => r' = r ∧ i_Rel (k + 4) u v) v) u) I ?_ ?_ (i_up I)
  · intro f_generation f_renewed f_asideFor f_copyGeneration f_roundsOf f_writesLeft a_sectors a_tags a_used a_telling a_wrapped a_wrappedData a_aside a_copyUsed a_copyTelling a_copyWrapped a_keys a_box a_unbox a_round a_block a_moved a_tweak a_plain a_tag a_difference g_hasCopy g_isStale b_cells b_damaged b_phrases b_copyPhrases κ vol co hv hc H J
    exact br_t rfl ⟨rfl, J⟩
  · intro f_copyGeneration f_isOpen f_roundsOf f_writesLeft a_sectors a_tags a_used a_telling a_wrapped a_wrappedData a_aside a_copyUsed a_copyTelling a_copyWrapped a_keys a_box a_unbox a_round a_block a_moved a_tweak a_plain a_tag a_difference g_hasCopy g_isStale b_cells b_damaged b_phrases b_copyPhrases κ R D F vol co gen t hv hc H h J
    exact sv_toRenew h.2.1 ⟨rfl, J⟩
theorem i_vc_slots {k : Nat} {u : SX} {v : SY} (I : i_Rel k u v) (hk : k + 4 ≤ 2048) : wpX_slots (fun r => wpY_slots (fun r' => r' = r ∧ i_Rel (k + 4) u v) v) u := by
  refine sv_el (P := fun u v => i_Rel (k + 4) u v → wpX_slots (fun r => wpY_slots (fun r' => r' = r ∧ i_Rel (k + 4) u v) v) u) I ?_ ?_ (i_up I)
  · intro f_generation f_renewed f_asideFor f_copyGeneration f_roundsOf f_writesLeft a_sectors a_tags a_used a_telling a_wrapped a_wrappedData a_aside a_copyUsed a_copyTelling a_copyWrapped a_keys a_box a_unbox a_round a_block a_moved a_tweak a_plain a_tag a_difference g_hasCopy g_isStale b_cells b_damaged b_phrases b_copyPhrases κ vol co hv hc H J
    exact sv_xslots (sv_yslots ⟨rfl, J⟩)
  · intro f_copyGeneration f_isOpen f_roundsOf f_writesLeft a_sectors a_tags a_used a_telling a_wrapped a_wrappedData a_aside a_copyUsed a_copyTelling a_copyWrapped a_keys a_box a_unbox a_round a_block a_moved a_tweak a_plain a_tag a_difference g_hasCopy g_isStale b_cells b_damaged b_phrases b_copyPhrases κ R D F vol co gen t hv hc H h J
    exact sv_xslots (sv_yslots ⟨rfl, J⟩)
theorem i_vc_check {k : Nat} {u : SX} {v : SY} (I : i_Rel k u v) (hk : k + 4 ≤ 2048) (v1 : Int32) : wpX_check (fun r u' => wpY_check (fun r' => r' = r ∧ i_Rel (k + 4) u' v) v v1) u v1 := by
  refine sv_el (P := fun u v => i_Rel (k + 4) u v → wpX_check (fun r u' => wpY_check (fun r' => r' = r ∧ i_Rel (k + 4) u' v) v v1) u v1) I ?_ ?_ (i_up I)
  · intro f_generation f_renewed f_asideFor f_copyGeneration f_roundsOf f_writesLeft a_sectors a_tags a_used a_telling a_wrapped a_wrappedData a_aside a_copyUsed a_copyTelling a_copyWrapped a_keys a_box a_unbox a_round a_block a_moved a_tweak a_plain a_tag a_difference g_hasCopy g_isStale b_cells b_damaged b_phrases b_copyPhrases κ vol co hv hc H J
    unfold wpX_check wpY_check
    rcases sv_arg 12 (by decide) v1 with hb | ⟨s, hs, rfl⟩
    · exact sv_isSector_b hb (br_t rfl (sv_badSector_b hb (br_f (by decide) ⟨rfl, J⟩)))
    · exact sv_isSector_g hs (br_f (by decide) (br_t rfl (sv_badSector_g hs (br_t rfl (br_t rfl ⟨rfl, J⟩)))))
  · intro f_copyGeneration f_isOpen f_roundsOf f_writesLeft a_sectors a_tags a_used a_telling a_wrapped a_wrappedData a_aside a_copyUsed a_copyTelling a_copyWrapped a_keys a_box a_unbox a_round a_block a_moved a_tweak a_plain a_tag a_difference g_hasCopy g_isStale b_cells b_damaged b_phrases b_copyPhrases κ R D F vol co gen t hv hc H h J
    unfold wpX_check wpY_check
    rcases sv_arg 12 (by decide) v1 with hb | ⟨s, hs, rfl⟩
    · exact sv_isSector_b hb (br_t rfl (sv_badSector_b hb (br_f (by decide) ⟨rfl, J⟩)))
    · refine sv_isSector_g hs (br_f (by decide) (br_c (fun c => sv_badSector_g hs (br_t rfl (br_t c ⟨rfl, J⟩))) (fun c => ?_)))
      obtain ⟨VA, VB, h0, h1⟩ := h.2.2.2.2.2.2.2.1 s hs
      have ec : (nI s).toNatClampNeg = s := nI_clamp (by omega)
      refine sv_isSound hs H VA VB (fun b m rnd tg r H' hr => ?_)
      rcases hr with ⟨er, hr⟩ | ⟨er, hr⟩
      · subst er
        have d0 : b_damaged s = 0 := Classical.byContradiction (fun z => h1 z hr)
        refine br_f (by decide) (sv_badSector_g hs (br_t rfl (br_f c ⟨vp_in_nI hs (by decide), ?_⟩)))
        rw [ec]
        exact br_t d0 ⟨rfl, sv_in1 (by omega) hc H' (sv_P1_up h)⟩
      · subst er
        have d0 : ¬ b_damaged s = 0 := fun z => hr (h0 z).1
        refine br_t rfl (sv_badSector_g hs (br_t rfl (br_f c ⟨vp_in_nI hs (by decide), ?_⟩)))
        rw [ec]
        exact br_f d0 ⟨rfl, sv_in1 (by omega) hc H' (sv_P1_up h)⟩
end
section
theorem sv_opened {bx ub K A B T cells pl : Nat → Int32} {s : Nat} {d : Int32} (hb : sv_BX bx ub) (hK : sv_V K) (hs : s < 12) (h : sv_SC bx s K A B T d (sv_pl cells s 0) (sv_pl cells s 1)) (d0 : d = 0) (h0 : sv_sl pl 0 = sv_pt bx ub s K 0 A) (h1 : sv_sl pl 16 = sv_pt bx ub s K 1 B) : sv_sl pl 0 = sv_pl cells s 0 ∧ sv_sl pl 16 = sv_pl cells s 1 := by
  obtain ⟨_, _, h2, _⟩ := h
  obtain ⟨_, eA, eB⟩ := h2 d0
  rw [h0, h1, eA, eB, sv_pt_ct hb hK hs 0 (sv_pl_V _ _ _), sv_pt_ct hb hK hs 1 (sv_pl_V _ _ _)]
  exact ⟨rfl, rfl⟩
theorem sv_pl_of {cells P : Nat → Int32} {s : Nat} (h : ∀ c, c < 8 → ∀ i, i < 4 → P (4 * c + i) = sv_by (cells (8 * s + c)) i) : sv_sl P 0 = sv_pl cells s 0 ∧ sv_sl P 16 = sv_pl cells s 1 := by
  refine ⟨sv_sl_B (fun j hj => ?_) (sv_V0 (sv_pl_V _ _ _)), sv_sl_B (fun j hj => ?_) (sv_V0 (sv_pl_V _ _ _))⟩
  · unfold sv_pl
    rw [if_pos hj]
    have := h (j / 4) (by omega) (j % 4) (by omega)
    rw [show 4 * (j / 4) + j % 4 = 0 + j by omega] at this
    rw [this, show 8 * s + 4 * 0 + j / 4 = 8 * s + j / 4 by omega]
  · unfold sv_pl
    rw [if_pos hj]
    have := h (4 + j / 4) (by omega) (j % 4) (by omega)
    rw [show 4 * (4 + j / 4) + j % 4 = 16 + j by omega] at this
    rw [this, show 8 * s + 4 * 1 + j / 4 = 8 * s + (4 + j / 4) by omega]
theorem sv_pl_to {cells P : Nat → Int32} {s : Nat} (h0 : sv_sl P 0 = sv_pl cells s 0) (h1 : sv_sl P 16 = sv_pl cells s 1) : ∀ c, c < 8 → ∀ i, i < 4 → P (4 * c + i) = sv_by (cells (8 * s + c)) i := by
  intro c hc i hi
  by_cases h : c < 4
  · have e := congrFun h0 (4 * c + i)
    rw [sv_sl_lt (by omega), Nat.zero_add] at e
    rw [e]
    unfold sv_pl
    rw [if_pos (by omega), show 8 * s + 4 * 0 + (4 * c + i) / 4 = 8 * s + c by omega, show (4 * c + i) % 4 = i by omega]
  · have e := congrFun h1 (4 * c + i - 16)
    rw [sv_sl_lt (by omega), show 16 + (4 * c + i - 16) = 4 * c + i by omega] at e
    rw [e]
    unfold sv_pl
    rw [if_pos (by omega), show 8 * s + 4 * 1 + (4 * c + i - 16) / 4 = 8 * s + c by omega, show (4 * c + i - 16) % 4 = i by omega]
theorem sv_pl_ext {cells cells' : Nat → Int32} {s : Nat} (h : ∀ c, c < 8 → cells' (8 * s + c) = cells (8 * s + c)) (f : Nat) (hf : f < 2) : sv_pl cells' s f = sv_pl cells s f := by
  funext j
  unfold sv_pl
  by_cases c : j < 16
  · rw [if_pos c, if_pos c]
    have := h (4 * f + j / 4) (by omega)
    rw [show 8 * s + (4 * f + j / 4) = 8 * s + 4 * f + j / 4 by omega] at this
    rw [this]
  · rw [if_neg c, if_neg c]
/-- one sector sealed anew -/
theorem sv_SS_set {bx ub sec tags cells dmg sec' tags' cells' dmg' D F : Nat → Int32} {t s : Nat} (hb : sv_BX bx ub) (hD : sv_V D) (hF : sv_V F) (h : sv_SS bx sec tags cells dmg t D F) (hs : s < 12)
    (h1 : sv_sl sec' (32 * s) = sv_ct bx s (sv_dk D F t s) 0 (sv_pl cells' s 0)) (h2 : sv_sl sec' (32 * s + 16) = sv_ct bx s (sv_dk D F t s) 1 (sv_pl cells' s 1)) (h3 : sv_sl tags' (16 * s) = sv_tg bx s (sv_sl sec' (32 * s)) (sv_sl sec' (32 * s + 16)))
    (ho : ∀ z, z < 12 → z ≠ s → sv_sl sec' (32 * z) = sv_sl sec (32 * z) ∧ sv_sl sec' (32 * z + 16) = sv_sl sec (32 * z + 16) ∧ sv_sl tags' (16 * z) = sv_sl tags (16 * z))
    (hc : ∀ z, z < 12 → z ≠ s → ∀ c, c < 8 → cells' (8 * z + c) = cells (8 * z + c)) (hd : dmg' s = 0) (hd' : ∀ z, z < 12 → z ≠ s → dmg' z = dmg z) : sv_SS bx sec' tags' cells' dmg' t D F := by
  intro z hz
  by_cases c : z = s
  · subst c
    have VK := sv_dk_V hD hF t z
    refine ⟨?_, ?_, fun _ => ⟨h3, h1, h2⟩, fun w => absurd hd w⟩
    · rw [h1]; exact sv_ct_V hb VK hz 0 (sv_pl_V _ _ _)
    · rw [h2]; exact sv_ct_V hb VK hz 1 (sv_pl_V _ _ _)
  · obtain ⟨o1, o2, o3⟩ := ho z hz c
    rw [o1, o2, o3, hd' z hz c, sv_pl_ext (hc z hz c) 0 (by omega), sv_pl_ext (hc z hz c) 1 (by omega)]
    exact h z hz
theorem i_vc_slotOf {k : Nat} {u : SX} {v : SY} (I : i_Rel k u v) (hk : k + 4 ≤ 2048) (v1 : Int32) : wpX_slotOf (fun r u' => wpY_slotOf (fun r' => r' = r ∧ i_Rel (k + 4) u' v) v v1) u v1 := by
  refine sv_el (P := fun u v => i_Rel (k + 4) u v → wpX_slotOf (fun r u' => wpY_slotOf (fun r' => r' = r ∧ i_Rel (k + 4) u' v) v v1) u v1) I ?_ ?_ (i_up I)
  · intro f_generation f_renewed f_asideFor f_copyGeneration f_roundsOf f_writesLeft a_sectors a_tags a_used a_telling a_wrapped a_wrappedData a_aside a_copyUsed a_copyTelling a_copyWrapped a_keys a_box a_unbox a_round a_block a_moved a_tweak a_plain a_tag a_difference g_hasCopy g_isStale b_cells b_damaged b_phrases b_copyPhrases κ vol co hv hc H J
    exact br_t rfl (br_t rfl ⟨rfl, J⟩)
  · intro f_copyGeneration f_isOpen f_roundsOf f_writesLeft a_sectors a_tags a_used a_telling a_wrapped a_wrappedData a_aside a_copyUsed a_copyTelling a_copyWrapped a_keys a_box a_unbox a_round a_block a_moved a_tweak a_plain a_tag a_difference g_hasCopy g_isStale b_cells b_damaged b_phrases b_copyPhrases κ R D F vol co gen t hv hc H h J
    have hSL := h.2.2.2.2.2.2.1
    refine br_f (by decide) (sv_findSlot (ph := b_phrases) H hSL.1 (fun s hs hu => (hSL.2.2.2 s hs hu).1) (fun b m rnd H' => ?_))
    exact br_c (fun c => br_f (by decide) (sv_find (br_t c ⟨rfl, sv_in1 (by omega) hc H' (sv_P1_up h)⟩))) (fun c => br_f (by decide) (sv_find (br_f c ⟨rfl, sv_in1 (by omega) hc H' (sv_P1_up h)⟩)))
theorem i_vc_unlock {k : Nat} {u : SX} {v : SY} (I : i_Rel k u v) (hk : k + 4 ≤ 2048) (v1 : Int32) : wpX_unlock (fun r u' => wpY_unlock (fun r' v' => r' = r ∧ i_Rel (k + 4) u' v') v v1) u v1 := by
  refine sv_el (P := fun u v => i_Rel (k + 4) u v → wpX_unlock (fun r u' => wpY_unlock (fun r' v' => r' = r ∧ i_Rel (k + 4) u' v') v v1) u v1) I ?_ ?_ (i_up I)
  · intro f_generation f_renewed f_asideFor f_copyGeneration f_roundsOf f_writesLeft a_sectors a_tags a_used a_telling a_wrapped a_wrappedData a_aside a_copyUsed a_copyTelling a_copyWrapped a_keys a_box a_unbox a_round a_block a_moved a_tweak a_plain a_tag a_difference g_hasCopy g_isStale b_cells b_damaged b_phrases b_copyPhrases κ vol co hv hc H J
    exact br_t rfl (br_t rfl ⟨rfl, J⟩)
  · intro f_copyGeneration f_isOpen f_roundsOf f_writesLeft a_sectors a_tags a_used a_telling a_wrapped a_wrappedData a_aside a_copyUsed a_copyTelling a_copyWrapped a_keys a_box a_unbox a_round a_block a_moved a_tweak a_plain a_tag a_difference g_hasCopy g_isStale b_cells b_damaged b_phrases b_copyPhrases κ R D F vol co gen t hv hc H h J
    have hSL := h.2.2.2.2.2.2.1
    have hWD := h.2.2.2.2.2.1
    obtain ⟨VR, VD, VF⟩ := h.2.2.2.1
    refine br_f (by decide) (br_c (fun c => ?_) (fun c => br_f (by decide) (br_f c ⟨rfl, J⟩)))
    refine sv_findSlot (ph := b_phrases) H hSL.1 (fun s hs hu => (hSL.2.2.2 s hs hu).1) (fun b m rnd H' => ?_)
    rcases sv_fd_spec a_used b_phrases v1 4 0 with ⟨e, _⟩ | ⟨s, hs, e, hu, hp⟩
    · refine br_f (by rw [e]; decide) (br_f (by decide) (br_t c (sv_find (br_f (by rw [e]; decide) ⟨rfl, sv_in1 (by omega) hc H' (sv_P1_up h)⟩))))
    · have hs4 : s < 4 := by omega
      have hwr := (hSL.2.2.2 s hs4 hu).2
      rw [hp] at hwr
      have VM := sv_mk_V H.1 v1 (nI vol)
      have c0 : 0 ≤ sv_fd a_used b_phrases v1 4 0 := by rw [e]; exact nI_pos' (by omega)
      refine br_t c0 (sv_makeKey H' (fun b1 m1 rnd1 ks1 H1 => ?_))
      rw [e]
      refine sv_loop (fun n i x => wX_unlock_40 _ (nI s) 1 (nI vol) (nI gen) (sv_rn t) (-1) (nI co) f_copyGeneration f_isOpen (nI (16 * 0)) f_writesLeft n i a_sectors a_tags a_used a_telling a_wrapped a_wrappedData a_aside a_copyUsed a_copyTelling a_copyWrapped ks1 a_box a_unbox rnd1 x m1 a_tweak a_plain a_tag a_difference) 16 0 b1 (fun j => a_wrapped (16 * s + j)) (fun n => br_t (nI_le (Nat.le_refl 16) (by decide)) ?_) (fun n i hi hw => ?_)
      · refine sv_useKey (q := 1) (by omega) H1 (fun rnd2 H2 => sv_decipher (q := 1) (by omega) H2 (B := sv_E a_box (sv_mk a_box v1 (nI vol)) R) ?_ (sv_E_V H.1 VM VR) (fun b3 m3 h3 => ?_))
        · rw [← hwr]
          exact sv_sl_fl (fun j hj => sv_sl_g hj) (fun j hj => sv_sl_ge hj)
        rw [sv_ks_s, sv_D_E H.1 VM VR] at h3
        refine sv_takeKey (q := 2) (by omega) (by omega) H2 h3 VR (fun ks4 ro4 _ H4 => sv_unwrapData (q := 3) (p := 0) (by omega) (by omega) (by omega) H4 hWD.1 (sv_E_V H.1 VR VD) (fun b5 m5 rnd5 ks5 ro5 H5 => ?_))
        rw [sv_ks_s, sv_D_E H.1 VR VD] at H5
        by_cases ct : t = 0
        · subst ct
          refine br_t sv_rn_neg (br_f (by decide) (br_t c (sv_find ?_)))
          rw [e]
          refine br_t (nI_pos' (by omega)) ⟨rfl, sv_in1 (R := R) (D := D) (F := F) (by omega) hc H5 ?_⟩
          obtain ⟨_, p2, p3, p4, _, p6⟩ := h
          exact ⟨Or.inr rfl, p2, by omega, p4, fun _ => ⟨by rw [sv_ks_n (by decide), sv_ks_s], by rw [sv_ks_s], fun z => absurd rfl z⟩, p6⟩
        · refine br_f (sv_rn_pos ct) (sv_unwrapData (q := 4) (p := 1) (by omega) (by omega) (by omega) H5 (hWD.2 ct) (sv_E_V H.1 VR VF) (fun b6 m6 rnd6 ks6 ro6 H6 => ?_))
          rw [sv_ks_n (p := 2) (by decide), sv_ks_s, sv_D_E H.1 VR VF] at H6
          refine br_f (by decide) (br_t c (sv_find ?_))
          rw [e]
          refine br_t (nI_pos' (by omega)) ⟨rfl, sv_in1 (R := R) (D := D) (F := F) (by omega) hc H6 ?_⟩
          obtain ⟨_, p2, p3, p4, _, p6⟩ := h
          exact ⟨Or.inr rfl, p2, by omega, p4, fun _ => ⟨by rw [sv_ks_n (by decide), sv_ks_n (by decide), sv_ks_s], by rw [sv_ks_n (by decide), sv_ks_s], fun _ => by rw [sv_ks_s]⟩, p6⟩
      · have e2 : (16 : Int32) * nI s + nI i = nI (16 * s + i) := sv_ix 16 s i
        refine br_f (nI_ge (b := 16) hi (by decide)) ⟨pk_in (16 * s + i) 64 (by omega) e2, vp_in_nI hi (by decide), nm_r (e' := sv_fl b1 0 (i + 1) (fun j => a_wrapped (16 * s + j))) (sv_st0 (by omega) ?_) (nm_r (nI_1 i) hw)⟩
        rw [e2, nI_clamp (by omega)]
theorem i_vc_read {k : Nat} {u : SX} {v : SY} (I : i_Rel k u v) (hk : k + 4 ≤ 2048) (v1 : Int32) (v2 : Int32) : wpX_read (fun r u' => wpY_read (fun r' => r' = r ∧ i_Rel (k + 4) u' v) v v1 v2) u v1 v2 := by
  refine sv_el (P := fun u v => i_Rel (k + 4) u v → wpX_read (fun r u' => wpY_read (fun r' => r' = r ∧ i_Rel (k + 4) u' v) v v1 v2) u v1 v2) I ?_ ?_ (i_up I)
  · intro f_generation f_renewed f_asideFor f_copyGeneration f_roundsOf f_writesLeft a_sectors a_tags a_used a_telling a_wrapped a_wrappedData a_aside a_copyUsed a_copyTelling a_copyWrapped a_keys a_box a_unbox a_round a_block a_moved a_tweak a_plain a_tag a_difference g_hasCopy g_isStale b_cells b_damaged b_phrases b_copyPhrases κ vol co hv hc H J
    unfold wpX_read
    rcases sv_arg 12 (by decide) v1 with hb | ⟨s, hs, rfl⟩
    · refine sv_isSector_b hb (br_t rfl ?_)
      unfold wpY_read
      exact sv_badSector_b hb (br_f (by decide) ⟨rfl, J⟩)
    · rcases sv_arg 8 (by decide) v2 with hb | ⟨c, hc8, rfl⟩
      · refine sv_isSector_g hs (br_f (by decide) (sv_isCell_b hb (br_t rfl ?_)))
        unfold wpY_read
        exact sv_badSector_g hs (br_t rfl (sv_badCell_b hb (br_f (by decide) ⟨rfl, J⟩)))
      · exact sv_isSector_g hs (br_f (by decide) (sv_isCell_g hc8 (br_f (by decide) (br_t rfl (sv_yread hs hc8 ⟨if_pos rfl, J⟩)))))
  · intro f_copyGeneration f_isOpen f_roundsOf f_writesLeft a_sectors a_tags a_used a_telling a_wrapped a_wrappedData a_aside a_copyUsed a_copyTelling a_copyWrapped a_keys a_box a_unbox a_round a_block a_moved a_tweak a_plain a_tag a_difference g_hasCopy g_isStale b_cells b_damaged b_phrases b_copyPhrases κ R D F vol co gen t hv hc H h J
    unfold wpX_read
    rcases sv_arg 12 (by decide) v1 with hb | ⟨s, hs, rfl⟩
    · refine sv_isSector_b hb (br_t rfl ?_)
      unfold wpY_read
      exact sv_badSector_b hb (br_f (by decide) ⟨rfl, J⟩)
    · rcases sv_arg 8 (by decide) v2 with hb | ⟨c, hc8, rfl⟩
      · refine sv_isSector_g hs (br_f (by decide) (sv_isCell_b hb (br_t rfl ?_)))
        unfold wpY_read
        exact sv_badSector_g hs (br_t rfl (sv_badCell_b hb (br_f (by decide) ⟨rfl, J⟩)))
      · refine sv_isSector_g hs (br_f (by decide) (sv_isCell_g hc8 (br_f (by decide) (br_c (fun c1 => sv_yread hs hc8 ⟨if_pos c1, J⟩) (fun c1 => ?_)))))
        have hSC := h.2.2.2.2.2.2.2.1 s hs
        obtain ⟨VA, VB, h0, h1⟩ := hSC
        obtain ⟨VR, VD, VF⟩ := h.2.2.2.1
        have hKY := h.2.2.2.2.1
        refine sv_isSound hs H VA VB (fun b m rnd tg r H' hr => ?_)
        rcases hr with ⟨er, hr⟩ | ⟨er, hr⟩
        · subst er
          have d0 : b_damaged s = 0 := Classical.byContradiction (fun z => h1 z hr)
          refine br_f (by decide) (sv_keyFor h.2.1 hs (sv_open (sv_kq_5 t s) hs H' VA VB (fun b2 m2 rnd2 ks2 tw2 pl2 H2 g0 g1 => sv_plainCell hc8 (sv_yread hs hc8 ⟨?_, sv_in1 (by omega) hc H2 (sv_P1_k h sv_KY_5)⟩))))
          rw [sv_KY_dk hKY c1] at g0 g1
          obtain ⟨q0, q1⟩ := sv_opened H.1 (sv_dk_V VD VF t s) hs (h.2.2.2.2.2.2.2.1 s hs) d0 g0 g1
          unfold sv_rd
          rw [if_neg c1, if_pos d0]
          exact (sv_pl_cell q0 q1 hc8).symm
        · subst er
          have d0 : ¬ b_damaged s = 0 := fun z => hr (h0 z).1
          exact br_t rfl (sv_yread hs hc8 ⟨(if_neg c1).trans (if_neg d0), sv_in1 (by omega) hc H' (sv_P1_up h)⟩)
end
section
theorem sv_pl_put {cells P : Nat → Int32} {s c : Nat} {v : Int32} (hc : c < 8) (h0 : sv_sl P 0 = sv_pl cells s 0) (h1 : sv_sl P 16 = sv_pl cells s 1) : sv_sl (sv_fl P (4 * c) 4 (sv_by v)) 0 = sv_pl (upd cells (8 * s + c) v) s 0 ∧ sv_sl (sv_fl P (4 * c) 4 (sv_by v)) 16 = sv_pl (upd cells (8 * s + c) v) s 1 := by
  refine sv_pl_of (fun d hd i hi => ?_)
  by_cases e : d = c
  · subst e
    rw [sv_fl_in hi, pk_us]
  · rw [sv_fl_out (by omega), pk_un (by omega)]
    exact sv_pl_to h0 h1 d hd i hi
theorem i_vc_write {k : Nat} {u : SX} {v : SY} (I : i_Rel k u v) (hk : k + 4 ≤ 2048) (v1 : Int32) (v2 : Int32) (v3 : Int32) : wpX_write (fun r u' => wpY_write (fun r' v' => r' = r ∧ i_Rel (k + 4) u' v') v v1 v2 v3) u v1 v2 v3 := by
  refine sv_el (P := fun u v => i_Rel (k + 4) u v → wpX_write (fun r u' => wpY_write (fun r' v' => r' = r ∧ i_Rel (k + 4) u' v') v v1 v2 v3) u v1 v2 v3) I ?_ ?_ (i_up I)
  · intro f_generation f_renewed f_asideFor f_copyGeneration f_roundsOf f_writesLeft a_sectors a_tags a_used a_telling a_wrapped a_wrappedData a_aside a_copyUsed a_copyTelling a_copyWrapped a_keys a_box a_unbox a_round a_block a_moved a_tweak a_plain a_tag a_difference g_hasCopy g_isStale b_cells b_damaged b_phrases b_copyPhrases κ vol co hv hc H J
    unfold wpX_write wpY_write
    rcases sv_arg 12 (by decide) v1 with hb | ⟨s, hs, rfl⟩
    · exact sv_isSector_b hb (br_t rfl (sv_badSector_b hb (br_f (by decide) ⟨rfl, J⟩)))
    · rcases sv_arg 8 (by decide) v2 with hb | ⟨c, hc8, rfl⟩
      · exact sv_isSector_g hs (br_f (by decide) (sv_isCell_b hb (br_t rfl (sv_badSector_g hs (br_t rfl (sv_badCell_b hb (br_f (by decide) ⟨rfl, J⟩)))))))
      · exact sv_isSector_g hs (br_f (by decide) (sv_isCell_g hc8 (br_f (by decide) (br_t rfl (sv_badSector_g hs (br_t rfl (sv_badCell_g hc8 (br_t rfl (br_t rfl ⟨rfl, J⟩)))))))))
  · intro f_copyGeneration f_isOpen f_roundsOf f_writesLeft a_sectors a_tags a_used a_telling a_wrapped a_wrappedData a_aside a_copyUsed a_copyTelling a_copyWrapped a_keys a_box a_unbox a_round a_block a_moved a_tweak a_plain a_tag a_difference g_hasCopy g_isStale b_cells b_damaged b_phrases b_copyPhrases κ R D F vol co gen t hv hc H h J
    unfold wpX_write wpY_write
    rcases sv_arg 12 (by decide) v1 with hb | ⟨s, hs, rfl⟩
    · exact sv_isSector_b hb (br_t rfl (sv_badSector_b hb (br_f (by decide) ⟨rfl, J⟩)))
    · rcases sv_arg 8 (by decide) v2 with hb | ⟨c, hc8, rfl⟩
      · exact sv_isSector_g hs (br_f (by decide) (sv_isCell_b hb (br_t rfl (sv_badSector_g hs (br_t rfl (sv_badCell_b hb (br_f (by decide) ⟨rfl, J⟩)))))))
      · refine sv_isSector_g hs (br_f (by decide) (sv_isCell_g hc8 (br_f (by decide) (br_c (fun c1 => sv_badSector_g hs (br_t rfl (sv_badCell_g hc8 (br_t rfl (br_t c1 ⟨rfl, J⟩))))) (fun c1 => ?_)))))
        have ec : (nI s).toNatClampNeg = s := nI_clamp (by omega)
        have e8 : (8 : Int32) * nI s + nI c = nI (8 * s + c) := sv_ix 8 s c
        have hSC := h.2.2.2.2.2.2.2.1 s hs
        obtain ⟨VA, VB, h0, h1⟩ := hSC
        obtain ⟨VR, VD, VF⟩ := h.2.2.2.1
        have hKY := h.2.2.2.2.1
        refine sv_isSound hs H VA VB (fun b m rnd tg r H' hr => ?_)
        rcases hr with ⟨er, hr⟩ | ⟨er, hr⟩
        · subst er
          have d0 : b_damaged s = 0 := Classical.byContradiction (fun z => h1 z hr)
          refine br_f (by decide) (sv_keyFor h.2.1 hs (sv_open (sv_kq_5 t s) hs H' VA VB (fun b2 m2 rnd2 ks2 tw2 pl2 H2 g0 g1 => ?_)))
          rw [sv_KY_dk hKY c1] at g0 g1
          obtain ⟨q0, q1⟩ := sv_opened H.1 (sv_dk_V VD VF t s) hs (h.2.2.2.2.2.2.2.1 s hs) d0 g0 g1
          obtain ⟨w0, w1⟩ := sv_pl_put (v := v3) hc8 q0 q1
          refine sv_setPlainCell hc8 (sv_sealNow h.2.1 hs H2 (by rw [w0]; exact sv_pl_V _ _ _) (by rw [w1]; exact sv_pl_V _ _ _) (fun b4 m4 rnd4 ks4 tw4 tg4 wl4 sec4 tags4 H4 z1 z2 z3 z4 => ?_))
          have hKY2 : sv_KY (sv_ks κ 5 (sv_tk a_box (κ (sv_kq t s)))) f_isOpen t R D F := sv_KY_5 hKY
          rw [sv_KY_dk hKY2 c1, w0] at z1
          rw [sv_KY_dk hKY2 c1, w1] at z2
          refine sv_badSector_g hs (br_t rfl (sv_badCell_g hc8 (br_t rfl (br_f c1 ⟨vp_in_nI hs (by decide), ?_⟩))))
          rw [ec, e8, nI_clamp (n := 8 * s + c) (by omega)]
          refine br_t d0 ⟨vp_in_nI (by omega) (by decide), nm_e ⟨rfl, sv_in1 (R := R) (D := D) (F := F) (by omega) hc H4 ?_⟩⟩
          obtain ⟨p1, p2, p3, p4, p5, p6, p7, p8, p9⟩ := h
          exact ⟨p1, p2, by omega, p4, sv_KY_5 (sv_KY_5 p5), p6, p7, sv_SS_set H.1 VD VF p8 hs z1 z2 z3 z4 (fun z hz hn d hd => pk_un (by omega)) d0 (fun _ _ _ => rfl), p9⟩
        · subst er
          have d0 : ¬ b_damaged s = 0 := fun z => hr (h0 z).1
          refine br_t rfl (sv_badSector_g hs (br_t rfl (sv_badCell_g hc8 (br_t rfl (br_f c1 ⟨vp_in_nI hs (by decide), ?_⟩)))))
          rw [ec]
          exact br_f d0 ⟨rfl, sv_in1 (by omega) hc H' (sv_P1_up h)⟩
section
variable {f_isThere f_volumes f_generation f_renewed f_asideFor f_copyOf f_copyGeneration f_isOpen f_roundsOf f_writesLeft : Int32} {a_sectors a_tags a_used a_telling a_wrapped a_wrappedData a_aside a_copyUsed a_copyTelling a_copyWrapped a_keys a_box a_unbox a_round a_block a_moved a_tweak a_plain a_tag a_difference : Nat → Int32}
theorem sv_fill_l {post : Int32 → SX → Prop} {s t : Nat} {val stp fl : Int32} {κ : Nat → Nat → Int32} (ht : t ≤ 12) (hs : s < 12) (H : sv_H a_box a_unbox a_keys a_round f_roundsOf κ) {cells : Nat → Int32} (hcl : ∀ c, c < 8 → cells (8 * s + c) = val + nI c * stp)
    (h : ∀ pl b m rnd ks tw tg wl sec tags, sv_H a_box a_unbox ks rnd (nI (16 * 0)) (sv_ks κ 5 (sv_tk a_box (κ (sv_kq t s)))) → sv_sl sec (32 * s) = sv_ct a_box s (κ (sv_kq t s)) 0 (sv_pl cells s 0) → sv_sl sec (32 * s + 16) = sv_ct a_box s (κ (sv_kq t s)) 1 (sv_pl cells s 1) → sv_sl tags (16 * s) = sv_tg a_box s (sv_sl sec (32 * s)) (sv_sl sec (32 * s + 16)) → (∀ z, z < 12 → z ≠ s → sv_sl sec (32 * z) = sv_sl a_sectors (32 * z) ∧ sv_sl sec (32 * z + 16) = sv_sl a_sectors (32 * z + 16) ∧ sv_sl tags (16 * z) = sv_sl a_tags (16 * z)) → post fl (f_isThere, f_volumes, f_generation, sv_rn t, f_asideFor, f_copyOf, f_copyGeneration, f_isOpen, nI (16 * 0), wl, sec, tags, a_used, a_telling, a_wrapped, a_wrappedData, a_aside, a_copyUsed, a_copyTelling, a_copyWrapped, ks, a_box, a_unbox, rnd, b, m, tw, pl, tg, a_difference)) :
    ∀ d c, c + d = 8 → ∀ pl, (∀ e, e < c → ∀ i, i < 4 → pl (4 * e + i) = sv_by (cells (8 * s + e)) i) → wX_fill_37 post (nI s) val stp fl (d + 1) (nI c) f_isThere f_volumes f_generation (sv_rn t) f_asideFor f_copyOf f_copyGeneration f_isOpen f_roundsOf f_writesLeft a_sectors a_tags a_used a_telling a_wrapped a_wrappedData a_aside a_copyUsed a_copyTelling a_copyWrapped a_keys a_box a_unbox a_round a_block a_moved a_tweak pl a_tag a_difference := by
  intro d
  induction d with
  | zero =>
    intro c hc pl hp
    have c8 : c = 8 := by omega
    subst c8
    obtain ⟨w0, w1⟩ := sv_pl_of hp
    refine br_t (nI_le (Nat.le_refl 8) (by decide)) (sv_sealNow ht hs H (by rw [w0]; exact sv_pl_V _ _ _) (by rw [w1]; exact sv_pl_V _ _ _) (fun b4 m4 rnd4 ks4 tw4 tg4 wl4 sec4 tags4 H4 z1 z2 z3 z4 => ?_))
    rw [w0] at z1
    rw [w1] at z2
    exact h pl b4 m4 rnd4 ks4 tw4 tg4 wl4 sec4 tags4 H4 z1 z2 z3 z4
  | succ d ih =>
    intro c hc pl hp
    have hc8 : c < 8 := by omega
    refine br_f (nI_ge (a := c) (b := 8) hc8 (by decide)) (sv_setPlainCell hc8 (nm_r (nI_1 c) (ih (c + 1) (by omega) _ (fun e he i hi => ?_))))
    by_cases x : e = c
    · subst x
      rw [sv_fl_in hi, hcl e hc8]
    · rw [sv_fl_out (by omega)]
      exact hp e (by omega) i hi
end
section
variable {g_isThere g_isOpen g_left g_hasCopy g_isStale : Int32} {b_cells b_damaged b_used b_phrases b_copyUsed b_copyPhrases : Nat → Int32}
theorem sv_yfill {post : Int32 → SY → Prop} {s : Nat} {val stp : Int32} (hs : s < 12) (h : post (if b_damaged s = 0 then 0 else 1) (g_isThere, g_isOpen, g_left, g_hasCopy, g_isStale, sv_fl b_cells (8 * s) 8 (fun c => val + nI c * stp), upd b_damaged s 0, b_used, b_phrases, b_copyUsed, b_copyPhrases)) : ∃ n, wY_fill_23 post (nI s) val stp g_isThere g_isOpen g_left g_hasCopy g_isStale n 0 b_cells b_damaged b_used b_phrases b_copyUsed b_copyPhrases := by
  have ec : (nI s).toNatClampNeg = s := nI_clamp (by omega)
  refine sv_loop (fun n i x => wY_fill_23 post (nI s) val stp g_isThere g_isOpen g_left g_hasCopy g_isStale n i x b_damaged b_used b_phrases b_copyUsed b_copyPhrases) 8 (8 * s) b_cells (fun c => val + nI c * stp) (fun n => br_t (nI_le (Nat.le_refl 8) (by decide)) ⟨vp_in_nI hs (by decide), ?_⟩) (fun n i hi hw => ?_)
  · rw [ec]
    refine nm_e ⟨vp_in_nI hs (by decide), nm_r (e' := upd b_damaged s 0) rfl (br_c (fun c => ?_) (fun c => ?_))⟩
    · rw [if_pos c] at h; exact h
    · rw [if_neg c] at h; exact h
  · have e : (8 : Int32) * nI s + nI i = nI (8 * s + i) := sv_ix 8 s i
    exact br_f (nI_ge (b := 8) hi (by decide)) ⟨pk_in (8 * s + i) 96 (by omega) e, nm_r (e' := sv_fl b_cells (8 * s) (i + 1) (fun c => val + nI c * stp)) (sv_st e (by omega) rfl) (nm_r (nI_1 i) hw)⟩
end
theorem i_vc_fill {k : Nat} {u : SX} {v : SY} (I : i_Rel k u v) (hk : k + 4 ≤ 2048) (v1 : Int32) (v2 : Int32) (v3 : Int32) : wpX_fill (fun r u' => wpY_fill (fun r' v' => r' = r ∧ i_Rel (k + 4) u' v') v v1 v2 v3) u v1 v2 v3 := by
  refine sv_el (P := fun u v => i_Rel (k + 4) u v → wpX_fill (fun r u' => wpY_fill (fun r' v' => r' = r ∧ i_Rel (k + 4) u' v') v v1 v2 v3) u v1 v2 v3) I ?_ ?_ (i_up I)
  · intro f_generation f_renewed f_asideFor f_copyGeneration f_roundsOf f_writesLeft a_sectors a_tags a_used a_telling a_wrapped a_wrappedData a_aside a_copyUsed a_copyTelling a_copyWrapped a_keys a_box a_unbox a_round a_block a_moved a_tweak a_plain a_tag a_difference g_hasCopy g_isStale b_cells b_damaged b_phrases b_copyPhrases κ vol co hv hc H J
    unfold wpX_fill wpY_fill
    rcases sv_arg 12 (by decide) v1 with hb | ⟨s, hs, rfl⟩
    · exact sv_isSector_b hb (br_t rfl (sv_badSector_b hb (br_f (by decide) ⟨rfl, J⟩)))
    · exact sv_isSector_g hs (br_f (by decide) (br_t rfl (sv_badSector_g hs (br_t rfl (br_t rfl ⟨rfl, J⟩)))))
  · intro f_copyGeneration f_isOpen f_roundsOf f_writesLeft a_sectors a_tags a_used a_telling a_wrapped a_wrappedData a_aside a_copyUsed a_copyTelling a_copyWrapped a_keys a_box a_unbox a_round a_block a_moved a_tweak a_plain a_tag a_difference g_hasCopy g_isStale b_cells b_damaged b_phrases b_copyPhrases κ R D F vol co gen t hv hc H h J
    unfold wpX_fill wpY_fill
    rcases sv_arg 12 (by decide) v1 with hb | ⟨s, hs, rfl⟩
    · exact sv_isSector_b hb (br_t rfl (sv_badSector_b hb (br_f (by decide) ⟨rfl, J⟩)))
    · refine sv_isSector_g hs (br_f (by decide) (br_c (fun c1 => sv_badSector_g hs (br_t rfl (br_t c1 ⟨rfl, J⟩))) (fun c1 => ?_)))
      have hSC := h.2.2.2.2.2.2.2.1 s hs
      obtain ⟨VA, VB, h0, h1⟩ := hSC
      obtain ⟨VR, VD, VF⟩ := h.2.2.2.1
      have hKY := h.2.2.2.2.1
      have hcl : ∀ c, c < 8 → sv_fl b_cells (8 * s) 8 (fun c => v2 + nI c * v3) (8 * s + c) = v2 + nI c * v3 := fun c hc => sv_fl_in hc
      refine sv_isSound hs H VA VB (fun b m rnd tg r H' hr => ?_)
      have go : ∀ fl : Int32, (if b_damaged s = 0 then 0 else 1) = fl → ∃ n, wX_fill_37 (fun r u' => wpY_badSector (fun r_1 => (((r_1 = 0 → (((f_isOpen = 0 → ((fun r' v' => r' = r ∧ i_Rel (k + 4) u' v') (-3) (1, f_isOpen, nI t, g_hasCopy, g_isStale, b_cells, b_damaged, a_used, b_phrases, a_copyUsed, b_copyPhrases))) ∧ (¬ f_isOpen = 0 → (∃ n23 : Nat, wY_fill_23 (fun r' v' => r' = r ∧ i_Rel (k + 4) u' v') (nI s) v2 v3 1 f_isOpen (nI t) g_hasCopy g_isStale n23 0 b_cells b_damaged a_used b_phrases a_copyUsed b_copyPhrases))))) ∧ (¬ r_1 = 0 → ((fun r' v' => r' = r ∧ i_Rel (k + 4) u' v') (-1) (1, f_isOpen, nI t, g_hasCopy, g_isStale, b_cells, b_damaged, a_used, b_phrases, a_copyUsed, b_copyPhrases)))))) (1, f_isOpen, nI t, g_hasCopy, g_isStale, b_cells, b_damaged, a_used, b_phrases, a_copyUsed, b_copyPhrases) (nI s)) (nI s) v2 v3 fl n 0 1 (nI vol) (nI gen) (sv_rn t) (-1) (nI co) f_copyGeneration f_isOpen (nI (16 * 0)) f_writesLeft a_sectors a_tags a_used a_telling a_wrapped a_wrappedData a_aside a_copyUsed a_copyTelling a_copyWrapped a_keys a_box a_unbox rnd b m a_tweak a_plain tg a_difference := by
        intro fl efl
        refine ⟨9, sv_fill_l h.2.1 hs H' hcl (fun pl4 b4 m4 rnd4 ks4 tw4 tg4 wl4 sec4 tags4 H4 z1 z2 z3 z4 => ?_) 8 0 rfl a_plain (fun e he => absurd he (Nat.not_lt_zero e))⟩
        rw [sv_KY_dk hKY c1] at z1 z2
        refine sv_badSector_g hs (br_t rfl (br_f c1 (sv_yfill hs ⟨efl, sv_in1 (R := R) (D := D) (F := F) (by omega) hc H4 ?_⟩)))
        obtain ⟨p1, p2, p3, p4, p5, p6, p7, p8, p9⟩ := h
        exact ⟨p1, p2, by omega, p4, sv_KY_5 p5, p6, p7, sv_SS_set H.1 VD VF p8 hs z1 z2 z3 z4 (fun z hz hn d hd => sv_fl_out (by omega)) pk_us (fun z hz hn => pk_un hn), p9⟩
      rcases hr with ⟨er, hr⟩ | ⟨er, hr⟩
      · subst er
        have d0 : b_damaged s = 0 := Classical.byContradiction (fun z => h1 z hr)
        exact br_f (by decide) (go 0 (if_pos d0))
      · subst er
        have d0 : ¬ b_damaged s = 0 := fun z => hr (h0 z).1
        exact br_t rfl (go 1 (if_neg d0))
end
section
def sv_ds (rd : Nat → Nat → Int32) : Nat → Int32
  | 0 => 0
  | i + 1 => sv_ds rd i + nI (i + 1) * rd (i / 8) (i % 8)
def sv_ss (rd : Nat → Int32) (s : Nat) : Nat → Int32
  | 0 => 0
  | c + 1 => sv_ss rd s c + nI (8 * s + c + 1) * rd c
theorem sv_ds_ss (rd : Nat → Nat → Int32) (s : Nat) : ∀ c, c ≤ 8 → sv_ds rd (8 * s + c) = sv_ds rd (8 * s) + sv_ss (rd s) s c := by
  intro c
  induction c with
  | zero => intro _; exact (Int32.add_zero _).symm
  | succ c ih =>
    intro hc
    show sv_ds rd (8 * s + c) + nI (8 * s + c + 1) * rd ((8 * s + c) / 8) ((8 * s + c) % 8) = sv_ds rd (8 * s) + (sv_ss (rd s) s c + nI (8 * s + c + 1) * rd s c)
    rw [ih (by omega), show (8 * s + c) / 8 = s by omega, show (8 * s + c) % 8 = c by omega, Int32.add_assoc]
theorem sv_ss_0 {rd : Nat → Int32} (s : Nat) (h : ∀ c, rd c = 0) : ∀ c, sv_ss rd s c = 0 := by
  intro c
  induction c with
  | zero => rfl
  | succ c ih =>
    show sv_ss rd s c + nI (8 * s + c + 1) * rd c = 0
    rw [ih, h c, Int32.mul_zero, Int32.add_zero]
theorem sv_ds_0 {rd : Nat → Nat → Int32} (h : ∀ s c, rd s c = 0) : ∀ i, sv_ds rd i = 0 := by
  intro i
  induction i with
  | zero => rfl
  | succ i ih =>
    show sv_ds rd i + nI (i + 1) * rd (i / 8) (i % 8) = 0
    rw [ih, h, Int32.mul_zero, Int32.add_zero]
section
variable {g_isThere g_isOpen g_left g_hasCopy g_isStale : Int32} {b_cells b_damaged b_used b_phrases b_copyUsed b_copyPhrases : Nat → Int32}
theorem sv_ydigest {post : Int32 → Prop} (h : post (sv_ds (sv_rd g_isOpen b_cells b_damaged) 96)) : wpY_digest post (g_isThere, g_isOpen, g_left, g_hasCopy, g_isStale, b_cells, b_damaged, b_used, b_phrases, b_copyUsed, b_copyPhrases) := by
  have key : ∀ d i, i + d = 96 → wY_digest_4 post g_isThere g_isOpen g_left g_hasCopy g_isStale b_cells b_damaged b_used b_phrases b_copyUsed b_copyPhrases (d + 1) (sv_ds (sv_rd g_isOpen b_cells b_damaged) i) (nI i) := by
    intro d
    induction d with
    | zero =>
      intro i hi
      have i96 : i = 96 := by omega
      subst i96
      exact br_t (nI_le (Nat.le_refl 96) (by decide)) h
    | succ d ih =>
      intro i hi
      have e1 : nI i / 8 = nI (i / 8) := pk_div (d := 8) (by omega) (by decide) (by decide)
      have e2 : nI i - nI i / 8 * 8 = nI (i % 8) := pk_rem (d := 8) (by omega) (by decide) (by decide)
      refine br_f (nI_ge (a := i) (b := 96) (by omega) (by decide)) ⟨by decide, by decide, ?_⟩
      rw [e2, e1]
      refine sv_yread (by omega) (by omega) (nm_r (e' := sv_ds (sv_rd g_isOpen b_cells b_damaged) (i + 1)) ?_ (nm_r (nI_1 i) (ih (i + 1) (by omega))))
      rw [nI_1]
      rfl
  have k0 := key 96 0 rfl
  rw [nI_0] at k0
  exact ⟨97, k0⟩
end
section
variable {f_isThere f_volumes f_generation f_renewed f_asideFor f_copyOf f_copyGeneration f_isOpen f_roundsOf f_writesLeft : Int32} {a_sectors a_tags a_used a_telling a_wrapped a_wrappedData a_aside a_copyUsed a_copyTelling a_copyWrapped a_keys a_box a_unbox a_round a_block a_moved a_tweak a_plain a_tag a_difference : Nat → Int32}
theorem sv_secSum {post : Int32 → SX → Prop} {κ : Nat → Nat → Int32} {t s : Nat} {rd : Nat → Int32} (ht : t ≤ 12) (hs : s < 12) (H : sv_H a_box a_unbox a_keys a_round f_roundsOf κ) (hA : sv_V (sv_sl a_sectors (32 * s))) (hB : sv_V (sv_sl a_sectors (32 * s + 16)))
    (hp : ∀ pl, sv_sl pl 0 = sv_pt a_box a_unbox s (κ (sv_kq t s)) 0 (sv_sl a_sectors (32 * s)) → sv_sl pl 16 = sv_pt a_box a_unbox s (κ (sv_kq t s)) 1 (sv_sl a_sectors (32 * s + 16)) → ∀ c, c < 8 → sv_jn (fun i => pl (4 * c + i)) = rd c)
    (h : ∀ b m rnd ks tw pl ro, sv_H a_box a_unbox ks rnd ro (sv_ks κ 5 (sv_tk a_box (κ (sv_kq t s)))) → post (sv_ss rd s 8) (f_isThere, f_volumes, f_generation, sv_rn t, f_asideFor, f_copyOf, f_copyGeneration, f_isOpen, ro, f_writesLeft, a_sectors, a_tags, a_used, a_telling, a_wrapped, a_wrappedData, a_aside, a_copyUsed, a_copyTelling, a_copyWrapped, ks, a_box, a_unbox, rnd, b, m, tw, pl, a_tag, a_difference)) : wpX_sectorSum post (f_isThere, f_volumes, f_generation, sv_rn t, f_asideFor, f_copyOf, f_copyGeneration, f_isOpen, f_roundsOf, f_writesLeft, a_sectors, a_tags, a_used, a_telling, a_wrapped, a_wrappedData, a_aside, a_copyUsed, a_copyTelling, a_copyWrapped, a_keys, a_box, a_unbox, a_round, a_block, a_moved, a_tweak, a_plain, a_tag, a_difference) (nI s) := by
  unfold wpX_sectorSum
  refine sv_keyFor ht hs (sv_open (sv_kq_5 t s) hs H hA hB (fun b m rnd ks tw pl H1 h0 h1 => ?_))
  have hr := hp pl h0 h1
  have key : ∀ d c, c + d = 8 → wX_sectorSum_17 post (nI s) f_isThere f_volumes f_generation (sv_rn t) f_asideFor f_copyOf f_copyGeneration f_isOpen (nI (16 * sv_kq t s)) f_writesLeft a_sectors a_tags a_used a_telling a_wrapped a_wrappedData a_aside a_copyUsed a_copyTelling a_copyWrapped ks a_box a_unbox rnd b m tw pl a_tag a_difference (d + 1) (sv_ss rd s c) (nI c) := by
    intro d
    induction d with
    | zero =>
      intro c hc
      have c8 : c = 8 := by omega
      subst c8
      exact br_t (nI_le (Nat.le_refl 8) (by decide)) (h b m rnd ks tw pl _ H1)
    | succ d ih =>
      intro c hc
      have hc8 : c < 8 := by omega
      have e : (8 : Int32) * nI s + nI c + 1 = nI (8 * s + c + 1) := by
        have := sv_ix 8 s c
        rw [show (8 : Int32) * nI s + nI c = nI (8 * s + c) from this, nI_1]
      refine br_f (nI_ge (a := c) (b := 8) hc8 (by decide)) (sv_plainCell hc8 (nm_r (e' := sv_ss rd s (c + 1)) ?_ (nm_r (nI_1 c) (ih (c + 1) (by omega)))))
      rw [hr c hc8, e]
      rfl
  have k0 := key 8 0 rfl
  rw [nI_0] at k0
  exact ⟨9, k0⟩
theorem sv_xdigest {post : Int32 → SX → Prop} {t : Nat} {R D F cells dmg : Nat → Int32} (ht : t ≤ 12) (hop : f_isOpen ≠ 0) (VD : sv_V D) (VF : sv_V F) (hSS : sv_SS a_box a_sectors a_tags cells dmg t D F)
    (h : ∀ b m rnd ks tw pl tg ro κ, sv_H a_box a_unbox ks rnd ro κ → sv_KY κ f_isOpen t R D F → post (sv_ds (sv_rd f_isOpen cells dmg) 96) (f_isThere, f_volumes, f_generation, sv_rn t, f_asideFor, f_copyOf, f_copyGeneration, f_isOpen, ro, f_writesLeft, a_sectors, a_tags, a_used, a_telling, a_wrapped, a_wrappedData, a_aside, a_copyUsed, a_copyTelling, a_copyWrapped, ks, a_box, a_unbox, rnd, b, m, tw, pl, tg, a_difference)) :
    ∀ d s, s + d = 12 → ∀ b m rnd ks tw pl tg ro κ, sv_H a_box a_unbox ks rnd ro κ → sv_KY κ f_isOpen t R D F → wX_digest_4 post (d + 1) (sv_ds (sv_rd f_isOpen cells dmg) (8 * s)) (nI s) f_isThere f_volumes f_generation (sv_rn t) f_asideFor f_copyOf f_copyGeneration f_isOpen ro f_writesLeft a_sectors a_tags a_used a_telling a_wrapped a_wrappedData a_aside a_copyUsed a_copyTelling a_copyWrapped ks a_box a_unbox rnd b m tw pl tg a_difference := by
  intro d
  induction d with
  | zero =>
    intro s hs b m rnd ks tw pl tg ro κ H K
    have s12 : s = 12 := by omega
    subst s12
    exact br_t (nI_le (Nat.le_refl 12) (by decide)) (h b m rnd ks tw pl tg ro κ H K)
  | succ d ih =>
    intro s hs b m rnd ks tw pl tg ro κ H K
    have hs12 : s < 12 := by omega
    have hSC := hSS s hs12
    obtain ⟨VA, VB, h0, h1⟩ := hSC
    have e8 := sv_ds_ss (sv_rd f_isOpen cells dmg) s 8 (Nat.le_refl 8)
    rw [show 8 * s + 8 = 8 * (s + 1) by omega] at e8
    refine br_f (nI_ge (a := s) (b := 12) hs12 (by decide)) (br_f hop (sv_isSound hs12 H VA VB (fun b1 m1 rnd1 tg1 r H1 hr => ?_)))
    rcases hr with ⟨er, hr⟩ | ⟨er, hr⟩
    · subst er
      have d0 : dmg s = 0 := Classical.byContradiction (fun z => h1 z hr)
      refine br_f (by decide) (sv_secSum (rd := sv_rd f_isOpen cells dmg s) ht hs12 H1 VA VB (fun pl2 g0 g1 c hc => ?_) (fun b3 m3 rnd3 ks3 tw3 pl3 ro3 H3 => ?_))
      · rw [sv_KY_dk K hop] at g0 g1
        obtain ⟨q0, q1⟩ := sv_opened H.1 (sv_dk_V VD VF t s) hs12 (hSS s hs12) d0 g0 g1
        unfold sv_rd
        rw [if_neg hop, if_pos d0]
        exact sv_pl_cell q0 q1 hc
      · exact nm_r e8.symm (nm_r (nI_1 s) (ih (s + 1) (by omega) b3 m3 rnd3 ks3 tw3 pl3 tg1 ro3 _ H3 (sv_KY_5 K)))
    · subst er
      have d0 : ¬ dmg s = 0 := fun z => hr (h0 z).1
      have z := sv_ss_0 (rd := sv_rd f_isOpen cells dmg s) s (fun c => (if_neg hop).trans (if_neg d0)) 8
      rw [z, Int32.add_zero] at e8
      rw [← e8]
      exact br_t rfl (nm_r (nI_1 s) (ih (s + 1) (by omega) b1 m1 rnd1 ks tw pl tg1 _ _ H1 K))
end
theorem i_vc_digest {k : Nat} {u : SX} {v : SY} (I : i_Rel k u v) (hk : k + 4 ≤ 2048) : wpX_digest (fun r u' => wpY_digest (fun r' => r' = r ∧ i_Rel (k + 4) u' v) v) u := by
  refine sv_el (P := fun u v => i_Rel (k + 4) u v → wpX_digest (fun r u' => wpY_digest (fun r' => r' = r ∧ i_Rel (k + 4) u' v) v) u) I ?_ ?_ (i_up I)
  · intro f_generation f_renewed f_asideFor f_copyGeneration f_roundsOf f_writesLeft a_sectors a_tags a_used a_telling a_wrapped a_wrappedData a_aside a_copyUsed a_copyTelling a_copyWrapped a_keys a_box a_unbox a_round a_block a_moved a_tweak a_plain a_tag a_difference g_hasCopy g_isStale b_cells b_damaged b_phrases b_copyPhrases κ vol co hv hc H J
    exact ⟨1, br_f (by decide) (br_t rfl (sv_ydigest ⟨sv_ds_0 (fun s c => if_pos rfl) 96, J⟩))⟩
  · intro f_copyGeneration f_isOpen f_roundsOf f_writesLeft a_sectors a_tags a_used a_telling a_wrapped a_wrappedData a_aside a_copyUsed a_copyTelling a_copyWrapped a_keys a_box a_unbox a_round a_block a_moved a_tweak a_plain a_tag a_difference g_hasCopy g_isStale b_cells b_damaged b_phrases b_copyPhrases κ R D F vol co gen t hv hc H h J
    by_cases c : f_isOpen = 0
    · exact ⟨1, br_f (by decide) (br_t c (sv_ydigest ⟨sv_ds_0 (fun s c1 => if_pos c) 96, J⟩))⟩
    · refine ⟨13, ?_⟩
      exact sv_xdigest (R := R) h.2.1 c h.2.2.2.1.2.1 h.2.2.2.1.2.2 h.2.2.2.2.2.2.2.1 (fun b m rnd ks tw pl tg ro κ' H' K' => sv_ydigest ⟨rfl, sv_in1 (by omega) hc H' (sv_P1_k h (fun _ => K'))⟩) 12 0 rfl _ _ _ _ _ _ _ _ κ H h.2.2.2.2.1
end
section
theorem sv_SL_set {bx : Nat → Int32} {vol : Int32} {R us tl wr ph tl' wr' : Nat → Int32} {s : Nat} {p : Int32} (hs : s < 4) (h : sv_SL bx vol R us tl wr ph) (hn : ∀ z, z < 4 → us z ≠ 0 → z ≠ s → ph z ≠ p)
    (h1 : sv_sl tl' (16 * s) = sv_dq bx p vol 2) (h2 : ∀ z, z < 4 → z ≠ s → sv_sl tl' (16 * z) = sv_sl tl (16 * z)) (h3 : sv_sl wr' (16 * s) = sv_E bx (sv_mk bx p vol) R) (h4 : ∀ z, z < 4 → z ≠ s → sv_sl wr' (16 * z) = sv_sl wr (16 * z)) : sv_SL bx vol R (upd us s 1) tl' wr' (upd ph s p) := by
  obtain ⟨a1, a2, a3, a4⟩ := h
  refine ⟨fun z hz => ?_, ⟨s, hs, by rw [pk_us]; decide⟩, fun x y hx hy ux uy e => ?_, fun z hz uz => ?_⟩
  · by_cases c : z = s
    · subst c; rw [pk_us]; exact Or.inr rfl
    · rw [pk_un c]; exact a1 z hz
  · by_cases cx : x = s
    · by_cases cy : y = s
      · omega
      · subst cx
        rw [pk_un cy] at uy
        rw [pk_us, pk_un cy] at e
        exact absurd e.symm (hn y hy uy cy)
    · rw [pk_un cx] at ux
      by_cases cy : y = s
      · subst cy
        rw [pk_us, pk_un cx] at e
        exact absurd e (hn x hx ux cx)
      · rw [pk_un cy] at uy
        rw [pk_un cx, pk_un cy] at e
        exact a3 x y hx hy ux uy e
  · by_cases c : z = s
    · subst c
      rw [pk_us]
      exact ⟨h1, h3⟩
    · rw [pk_un c] at uz
      rw [pk_un c, h2 z hz c, h4 z hz c]
      exact a4 z hz uz
theorem sv_SL_del {bx : Nat → Int32} {vol : Int32} {R us tl wr ph tl' wr' : Nat → Int32} {s : Nat} (h : sv_SL bx vol R us tl wr ph) (hw : ∃ z, z < 4 ∧ z ≠ s ∧ us z ≠ 0)
    (h2 : ∀ z, z < 4 → z ≠ s → sv_sl tl' (16 * z) = sv_sl tl (16 * z)) (h4 : ∀ z, z < 4 → z ≠ s → sv_sl wr' (16 * z) = sv_sl wr (16 * z)) : sv_SL bx vol R (upd us s 0) tl' wr' ph := by
  obtain ⟨a1, a2, a3, a4⟩ := h
  have un : ∀ z, upd us s 0 z ≠ 0 → z ≠ s ∧ us z ≠ 0 := fun z hz => by
    by_cases c : z = s
    · subst c; rw [pk_us] at hz; exact absurd rfl hz
    · rw [pk_un c] at hz; exact ⟨c, hz⟩
  refine ⟨fun z hz => ?_, ?_, fun x y hx hy ux uy e => a3 x y hx hy (un x ux).2 (un y uy).2 e, fun z hz uz => ?_⟩
  · by_cases c : z = s
    · subst c; rw [pk_us]; exact Or.inl rfl
    · rw [pk_un c]; exact a1 z hz
  · obtain ⟨z, hz, zn, zu⟩ := hw
    exact ⟨z, hz, by rw [pk_un zn]; exact zu⟩
  · obtain ⟨zn, zu⟩ := un z uz
    rw [h2 z hz zn, h4 z hz zn]
    exact a4 z hz zu
theorem sv_uc_one {us : Nat → Int32} {s : Nat} (hs : s < 4) (hu : us s ≠ 0) (h : sv_uc us 4 ≠ 1) : ∃ z, z < 4 ∧ z ≠ s ∧ us z ≠ 0 := by
  refine Classical.byContradiction (fun hn => h ?_)
  have z : ∀ z, z < 4 → z ≠ s → us z = 0 := fun z hz zn => Classical.byContradiction (fun w => hn ⟨z, hz, zn, w⟩)
  have e : ∀ i, i < 4 → sv_uc us (i + 1) = if i = s then sv_uc us i + 1 else sv_uc us i := fun i hi => by
    show (if us i = 0 then sv_uc us i else sv_uc us i + 1) = _
    by_cases c : i = s
    · subst c; rw [if_neg hu, if_pos rfl]
    · rw [if_pos (z i hi c), if_neg c]
  rw [e 3 (by omega), e 2 (by omega), e 1 (by omega), e 0 (by omega), show sv_uc us 0 = 0 from rfl]
  rcases (by omega : s = 0 ∨ s = 1 ∨ s = 2 ∨ s = 3) with rfl | rfl | rfl | rfl <;> decide
theorem sv_uc_pos {us : Nat → Int32} (h : ∃ s, s < 4 ∧ us s ≠ 0) : 0 < sv_uc us 4 := by
  obtain ⟨s, hs, hu⟩ := h
  have m : ∀ i, sv_uc us i ≤ sv_uc us (i + 1) := fun i => by
    show _ ≤ (if us i = 0 then sv_uc us i else sv_uc us i + 1)
    by_cases c : us i = 0
    · rw [if_pos c]; omega
    · rw [if_neg c]; omega
  have m1 : sv_uc us 1 ≤ sv_uc us 2 := m 1
  have m2 : sv_uc us 2 ≤ sv_uc us 3 := m 2
  have m3 : sv_uc us 3 ≤ sv_uc us 4 := m 3
  rcases (by omega : s = 0 ∨ s = 1 ∨ s = 2 ∨ s = 3) with rfl | rfl | rfl | rfl
  · have e : sv_uc us 1 = sv_uc us 0 + 1 := if_neg hu
    omega
  · have e : sv_uc us 2 = sv_uc us 1 + 1 := if_neg hu
    omega
  · have e : sv_uc us 3 = sv_uc us 2 + 1 := if_neg hu
    omega
  · have e : sv_uc us 4 = sv_uc us 3 + 1 := if_neg hu
    omega
def sv_ff (us : Nat → Int32) : Nat → Nat → Nat
  | 0 => fun s => s
  | d + 1 => fun s => if us s = 0 then s else sv_ff us d (s + 1)
section
variable {f_isThere f_volumes f_generation f_renewed f_asideFor f_copyOf f_copyGeneration f_isOpen f_roundsOf f_writesLeft : Int32} {a_sectors a_tags a_used a_telling a_wrapped a_wrappedData a_aside a_copyUsed a_copyTelling a_copyWrapped a_keys a_box a_unbox a_round a_block a_moved a_tweak a_plain a_tag a_difference : Nat → Int32}
theorem sv_xadd {post : Int32 → SX → Prop} {p : Int32} : ∀ d s, s + d = 4 → (sv_ff a_used d s = 4 → post (-7) (f_isThere, f_volumes, f_generation, f_renewed, f_asideFor, f_copyOf, f_copyGeneration, f_isOpen, f_roundsOf, f_writesLeft, a_sectors, a_tags, a_used, a_telling, a_wrapped, a_wrappedData, a_aside, a_copyUsed, a_copyTelling, a_copyWrapped, a_keys, a_box, a_unbox, a_round, a_block, a_moved, a_tweak, a_plain, a_tag, a_difference)) → (∀ z, z = sv_ff a_used d s → z < 4 → a_used z = 0 → wpX_fillSlot (fun u => match u with | (f_isThere, f_volumes, f_generation, f_renewed, f_asideFor, f_copyOf, f_copyGeneration, f_isOpen, f_roundsOf, f_writesLeft, a_sectors, a_tags, a_used, a_telling, a_wrapped, a_wrappedData, a_aside, a_copyUsed, a_copyTelling, a_copyWrapped, a_keys, a_box, a_unbox, a_round, a_block, a_moved, a_tweak, a_plain, a_tag, a_difference) => post (nI z) (f_isThere, f_volumes, f_generation, f_renewed, f_asideFor, f_copyOf, f_copyGeneration, f_isOpen, f_roundsOf, f_writesLeft, a_sectors, a_tags, a_used, a_telling, a_wrapped, a_wrappedData, a_aside, a_copyUsed, a_copyTelling, a_copyWrapped, a_keys, a_box, a_unbox, a_round, a_block, a_moved, a_tweak, a_plain, a_tag, a_difference)) (f_isThere, f_volumes, f_generation, f_renewed, f_asideFor, f_copyOf, f_copyGeneration, f_isOpen, f_roundsOf, f_writesLeft, a_sectors, a_tags, a_used, a_telling, a_wrapped, a_wrappedData, a_aside, a_copyUsed, a_copyTelling, a_copyWrapped, a_keys, a_box, a_unbox, a_round, a_block, a_moved, a_tweak, a_plain, a_tag, a_difference) (nI z) p) → wX_addKey_23 post p f_isThere f_volumes f_generation f_renewed f_asideFor f_copyOf f_copyGeneration f_isOpen f_roundsOf f_writesLeft a_sectors a_tags a_used a_telling a_wrapped a_wrappedData a_aside a_copyUsed a_copyTelling a_copyWrapped a_keys a_box a_unbox a_round a_block a_moved a_tweak a_plain a_tag a_difference (d + 1) (nI s) := by
  intro d
  induction d with
  | zero =>
    intro s hs h4 _
    have s4 : s = 4 := by omega
    subst s4
    exact br_t (nI_le (Nat.le_refl 4) (by decide)) (h4 rfl)
  | succ d ih =>
    intro s hs h4 hz
    have hs4 : s < 4 := by omega
    refine br_f (nI_ge (a := s) (b := 4) hs4 (by decide)) ⟨vp_in_nI hs4 (by decide), ?_⟩
    rw [nI_clamp (n := s) (by omega)]
    refine br_c (fun c => ?_) (fun c => nm_r (nI_1 s) (ih (s + 1) (by omega) ?_ ?_))
    · rw [show sv_ff a_used (d + 1) s = s from if_pos c] at hz
      exact hz s rfl hs4 c
    · rw [show sv_ff a_used (d + 1) s = sv_ff a_used d (s + 1) from if_neg c] at h4
      exact h4
    · rw [show sv_ff a_used (d + 1) s = sv_ff a_used d (s + 1) from if_neg c] at hz
      exact hz
end
section
variable {g_isThere g_isOpen g_left g_hasCopy g_isStale : Int32} {b_cells b_damaged b_used b_phrases b_copyUsed b_copyPhrases : Nat → Int32}
theorem sv_yadd {post : Int32 → SY → Prop} {p : Int32} : ∀ d s, s + d = 4 → (sv_ff b_used d s = 4 → post (-7) (g_isThere, g_isOpen, g_left, g_hasCopy, g_isStale, b_cells, b_damaged, b_used, b_phrases, b_copyUsed, b_copyPhrases)) → (sv_ff b_used d s < 4 → post (nI (sv_ff b_used d s)) (g_isThere, g_isOpen, g_left, g_hasCopy, g_isStale, b_cells, b_damaged, upd b_used (sv_ff b_used d s) 1, upd b_phrases (sv_ff b_used d s) p, b_copyUsed, b_copyPhrases)) → wY_addKey_23 post p g_isThere g_isOpen g_left g_hasCopy g_isStale b_cells b_damaged b_used b_phrases b_copyUsed b_copyPhrases (d + 1) (nI s) := by
  intro d
  induction d with
  | zero =>
    intro s hs h4 _
    have s4 : s = 4 := by omega
    subst s4
    exact br_t (nI_le (Nat.le_refl 4) (by decide)) (h4 rfl)
  | succ d ih =>
    intro s hs h4 hz
    have hs4 : s < 4 := by omega
    have hi : vp_in (nI s) 4 := vp_in_nI hs4 (by decide)
    refine br_f (nI_ge (a := s) (b := 4) hs4 (by decide)) ⟨hi, ?_⟩
    rw [nI_clamp (n := s) (by omega)]
    refine br_c (fun c => ⟨hi, ?_⟩) (fun c => nm_r (nI_1 s) (ih (s + 1) (by omega) ?_ ?_))
    · rw [show sv_ff b_used (d + 1) s = s from if_pos c] at hz
      exact nm_e ⟨hi, nm_e (hz hs4)⟩
    · rw [show sv_ff b_used (d + 1) s = sv_ff b_used d (s + 1) from if_neg c] at h4
      exact h4
    · rw [show sv_ff b_used (d + 1) s = sv_ff b_used d (s + 1) from if_neg c] at hz
      exact hz
end
theorem i_vc_addKey {k : Nat} {u : SX} {v : SY} (I : i_Rel k u v) (hk : k + 4 ≤ 2048) (v1 : Int32) : wpX_addKey (fun r u' => wpY_addKey (fun r' v' => r' = r ∧ i_Rel (k + 4) u' v') v v1) u v1 := by
  refine sv_el (P := fun u v => i_Rel (k + 4) u v → wpX_addKey (fun r u' => wpY_addKey (fun r' v' => r' = r ∧ i_Rel (k + 4) u' v') v v1) u v1) I ?_ ?_ (i_up I)
  · intro f_generation f_renewed f_asideFor f_copyGeneration f_roundsOf f_writesLeft a_sectors a_tags a_used a_telling a_wrapped a_wrappedData a_aside a_copyUsed a_copyTelling a_copyWrapped a_keys a_box a_unbox a_round a_block a_moved a_tweak a_plain a_tag a_difference g_hasCopy g_isStale b_cells b_damaged b_phrases b_copyPhrases κ vol co hv hc H J
    exact br_t rfl (br_t rfl ⟨rfl, J⟩)
  · intro f_copyGeneration f_isOpen f_roundsOf f_writesLeft a_sectors a_tags a_used a_telling a_wrapped a_wrappedData a_aside a_copyUsed a_copyTelling a_copyWrapped a_keys a_box a_unbox a_round a_block a_moved a_tweak a_plain a_tag a_difference g_hasCopy g_isStale b_cells b_damaged b_phrases b_copyPhrases κ R D F vol co gen t hv hc H h J
    have hSL := h.2.2.2.2.2.2.1
    have hKY := h.2.2.2.2.1
    refine br_c (fun c => br_t c ⟨rfl, J⟩) (fun c => ?_)
    refine sv_findSlot (ph := b_phrases) H hSL.1 (fun s hs hu => (hSL.2.2.2 s hs hu).1) (fun b m rnd H' => ?_)
    rcases sv_fd_spec a_used b_phrases v1 4 0 with ⟨e, hn⟩ | ⟨s, hs, e, hu, hp⟩
    · have c0 : sv_fd a_used b_phrases v1 4 0 < 0 := by rw [e]; decide
      refine br_t c0 ⟨5, sv_xadd 4 0 rfl (fun f4 => br_f c (sv_find (br_t c0 ⟨5, sv_yadd 4 0 rfl (fun _ => ⟨rfl, sv_in1 (by omega) hc H' (sv_P1_up h)⟩) (fun z => absurd f4 (by omega))⟩))) (fun z ez f4 fu => ?_)⟩
      subst ez
      refine sv_fillSlot f4 H' (fun b2 m2 rnd2 ks2 tl2 wr2 H2 z1 z2 z3 z4 => br_f c (sv_find (br_t c0 ⟨5, sv_yadd 4 0 rfl (fun z => absurd f4 (by omega)) (fun _ => ⟨rfl, sv_in1 (R := R) (D := D) (F := F) (by omega) hc H2 ?_⟩)⟩)))
      rw [(hKY c).1] at z3
      obtain ⟨p1, p2, p3, p4, p5, p6, p7, p8, p9⟩ := h
      exact ⟨p1, p2, by omega, p4, sv_KY_1 p5, p6, sv_SL_set f4 p7 (fun z hz hu _ => hn z (by omega) (by omega) hu) z1 z2 z3 z4, p8, p9⟩
    · have c0 : ¬ sv_fd a_used b_phrases v1 4 0 < 0 := by rw [e]; exact nI_pos (by omega)
      exact br_f c0 (br_f c (sv_find (br_f c0 ⟨rfl, sv_in1 (by omega) hc H' (sv_P1_up h)⟩)))
theorem sv_upd_id {a : Nat → Int32} {k : Nat} {x : Int32} (h : a k = x) : upd a k x = a := by
  funext j
  unfold upd
  by_cases c : j = k
  · rw [if_pos c, c, h]
  · rw [if_neg c]
theorem i_vc_changeKey {k : Nat} {u : SX} {v : SY} (I : i_Rel k u v) (hk : k + 4 ≤ 2048) (v1 : Int32) (v2 : Int32) : wpX_changeKey (fun r u' => wpY_changeKey (fun r' v' => r' = r ∧ i_Rel (k + 4) u' v') v v1 v2) u v1 v2 := by
  refine sv_el (P := fun u v => i_Rel (k + 4) u v → wpX_changeKey (fun r u' => wpY_changeKey (fun r' v' => r' = r ∧ i_Rel (k + 4) u' v') v v1 v2) u v1 v2) I ?_ ?_ (i_up I)
  · intro f_generation f_renewed f_asideFor f_copyGeneration f_roundsOf f_writesLeft a_sectors a_tags a_used a_telling a_wrapped a_wrappedData a_aside a_copyUsed a_copyTelling a_copyWrapped a_keys a_box a_unbox a_round a_block a_moved a_tweak a_plain a_tag a_difference g_hasCopy g_isStale b_cells b_damaged b_phrases b_copyPhrases κ vol co hv hc H J
    unfold wpX_changeKey wpY_changeKey
    rcases sv_arg 4 (by decide) v1 with hb | ⟨s, hs, rfl⟩
    · exact sv_isSlot_b hb (br_t rfl (sv_badSlot_b hb (br_f (by decide) ⟨rfl, J⟩)))
    · exact sv_isSlot_g hs (br_f (by decide) (br_t rfl (sv_badSlot_g hs (br_t rfl (br_t rfl ⟨rfl, J⟩)))))
  · intro f_copyGeneration f_isOpen f_roundsOf f_writesLeft a_sectors a_tags a_used a_telling a_wrapped a_wrappedData a_aside a_copyUsed a_copyTelling a_copyWrapped a_keys a_box a_unbox a_round a_block a_moved a_tweak a_plain a_tag a_difference g_hasCopy g_isStale b_cells b_damaged b_phrases b_copyPhrases κ R D F vol co gen t hv hc H h J
    unfold wpX_changeKey wpY_changeKey
    rcases sv_arg 4 (by decide) v1 with hb | ⟨s, hs, rfl⟩
    · exact sv_isSlot_b hb (br_t rfl (sv_badSlot_b hb (br_f (by decide) ⟨rfl, J⟩)))
    · have hi : vp_in (nI s) 4 := vp_in_nI hs (by decide)
      have ec : (nI s).toNatClampNeg = s := nI_clamp (by omega)
      have hSL := h.2.2.2.2.2.2.1
      have hKY := h.2.2.2.2.1
      refine sv_isSlot_g hs (br_f (by decide) (br_c (fun c1 => sv_badSlot_g hs (br_t rfl (br_t c1 ⟨rfl, J⟩))) (fun c1 => ⟨hi, ?_⟩)))
      rw [ec]
      refine br_c (fun c2 => sv_badSlot_g hs (br_t rfl (br_f c1 ⟨hi, br_t c2 ⟨rfl, J⟩⟩))) (fun c2 => ?_)
      refine sv_findSlot (ph := b_phrases) H hSL.1 (fun s hs hu => (hSL.2.2.2 s hs hu).1) (fun b m rnd H' => ?_)
      rcases sv_fd_spec a_used b_phrases v2 4 0 with ⟨e, hn⟩ | ⟨z, hz, e, hu, hp⟩
      · have c0 : sv_fd a_used b_phrases v2 4 0 < 0 := by rw [e]; decide
        have c3 : ¬ sv_fd a_used b_phrases v2 4 0 = nI s := fun w => nI_pos (n := s) (by omega) (by rw [← w]; exact c0)
        refine br_t c0 (sv_fillSlot hs H' (fun b2 m2 rnd2 ks2 tl2 wr2 H2 z1 z2 z3 z4 => sv_badSlot_g hs (br_t rfl (br_f c1 ⟨hi, br_f c2 (sv_find (br_f c3 (br_t c0 ⟨hi, nm_e ⟨rfl, ?_⟩⟩)))⟩))))
        have u1 : a_used s = 1 := (hSL.1 s hs).resolve_left c2
        rw [sv_upd_id u1]
        refine sv_in1 (R := R) (D := D) (F := F) (by omega) hc H2 ?_
        rw [(hKY c1).1] at z3
        obtain ⟨p1, p2, p3, p4, p5, p6, p7, p8, p9⟩ := h
        have p7' := sv_SL_set hs p7 (fun z hz hu _ => hn z (by omega) (by omega) hu) z1 z2 z3 z4
        rw [sv_upd_id u1] at p7'
        exact ⟨p1, p2, by omega, p4, sv_KY_1 p5, p6, p7', p8, p9⟩
      · have c0 : ¬ sv_fd a_used b_phrases v2 4 0 < 0 := by rw [e]; exact nI_pos (by omega)
        refine br_f c0 (br_c (fun c3 => ?_) (fun c3 => ?_))
        · exact sv_badSlot_g hs (br_t rfl (br_f c1 ⟨hi, br_f c2 (sv_find (br_t c3 ⟨rfl, sv_in1 (by omega) hc H' (sv_P1_up h)⟩))⟩))
        · exact sv_badSlot_g hs (br_t rfl (br_f c1 ⟨hi, br_f c2 (sv_find (br_f c3 (br_f c0 ⟨rfl, sv_in1 (by omega) hc H' (sv_P1_up h)⟩)))⟩))
section
variable {f_isThere f_volumes f_generation f_renewed f_asideFor f_copyOf f_copyGeneration f_isOpen f_roundsOf f_writesLeft : Int32} {a_sectors a_tags a_used a_telling a_wrapped a_wrappedData a_aside a_copyUsed a_copyTelling a_copyWrapped a_keys a_box a_unbox a_round a_block a_moved a_tweak a_plain a_tag a_difference : Nat → Int32}
theorem sv_rm_l {post : Int32 → SX → Prop} {s : Nat} (hs : s < 4) (h : post (nI (sv_uc a_used 4)) (f_isThere, f_volumes, f_generation, f_renewed, f_asideFor, f_copyOf, f_copyGeneration, f_isOpen, f_roundsOf, f_writesLeft, a_sectors, a_tags, a_used, sv_fl a_telling (16 * s) 16 (fun _ => 0), sv_fl a_wrapped (16 * s) 16 (fun _ => 0), a_wrappedData, a_aside, a_copyUsed, a_copyTelling, a_copyWrapped, a_keys, a_box, a_unbox, a_round, a_block, a_moved, a_tweak, a_plain, a_tag, a_difference)) :
    ∀ d i, i + d = 16 → wX_removeKey_54 post (nI s) f_isThere f_volumes f_generation f_renewed f_asideFor f_copyOf f_copyGeneration f_isOpen f_roundsOf f_writesLeft (d + 1) (nI (16 * s + i)) a_sectors a_tags a_used (sv_fl a_telling (16 * s) i (fun _ => 0)) (sv_fl a_wrapped (16 * s) i (fun _ => 0)) a_wrappedData a_aside a_copyUsed a_copyTelling a_copyWrapped a_keys a_box a_unbox a_round a_block a_moved a_tweak a_plain a_tag a_difference := by
  have e : (16 : Int32) * nI s + 16 = nI (16 * s + 16) := sv_ix 16 s 16
  intro d
  induction d with
  | zero =>
    intro i hi
    have i16 : i = 16 := by omega
    subst i16
    exact br_t (by rw [e]; exact nI_le (Nat.le_refl _) (by omega)) (sv_usedSlots h)
  | succ d ih =>
    intro i hi
    have hin : vp_in (nI (16 * s + i)) 64 := vp_in_nI (by omega) (by decide)
    refine br_f (by rw [e]; exact nI_ge (by omega) (by omega)) ⟨hin, nm_r (e' := sv_fl a_telling (16 * s) (i + 1) (fun _ => 0)) (sv_st rfl (by omega) rfl) ⟨hin, nm_r (e' := sv_fl a_wrapped (16 * s) (i + 1) (fun _ => 0)) (sv_st rfl (by omega) rfl) (nm_r (nI_1 (16 * s + i)) (ih (i + 1) (by omega)))⟩⟩
theorem sv_rm {post : Int32 → SX → Prop} {s : Nat} (hs : s < 4) (h : post (nI (sv_uc a_used 4)) (f_isThere, f_volumes, f_generation, f_renewed, f_asideFor, f_copyOf, f_copyGeneration, f_isOpen, f_roundsOf, f_writesLeft, a_sectors, a_tags, a_used, sv_fl a_telling (16 * s) 16 (fun _ => 0), sv_fl a_wrapped (16 * s) 16 (fun _ => 0), a_wrappedData, a_aside, a_copyUsed, a_copyTelling, a_copyWrapped, a_keys, a_box, a_unbox, a_round, a_block, a_moved, a_tweak, a_plain, a_tag, a_difference)) : ∃ n, wX_removeKey_54 post (nI s) f_isThere f_volumes f_generation f_renewed f_asideFor f_copyOf f_copyGeneration f_isOpen f_roundsOf f_writesLeft n (nI (16 * s + 0)) a_sectors a_tags a_used a_telling a_wrapped a_wrappedData a_aside a_copyUsed a_copyTelling a_copyWrapped a_keys a_box a_unbox a_round a_block a_moved a_tweak a_plain a_tag a_difference := by
  have k0 := sv_rm_l hs h 16 0 rfl
  rw [sv_fl_0, sv_fl_0] at k0
  exact ⟨17, k0⟩
end
theorem i_vc_removeKey {k : Nat} {u : SX} {v : SY} (I : i_Rel k u v) (hk : k + 4 ≤ 2048) (v1 : Int32) : wpX_removeKey (fun r u' => wpY_removeKey (fun r' v' => r' = r ∧ i_Rel (k + 4) u' v') v v1) u v1 := by
  refine sv_el (P := fun u v => i_Rel (k + 4) u v → wpX_removeKey (fun r u' => wpY_removeKey (fun r' v' => r' = r ∧ i_Rel (k + 4) u' v') v v1) u v1) I ?_ ?_ (i_up I)
  · intro f_generation f_renewed f_asideFor f_copyGeneration f_roundsOf f_writesLeft a_sectors a_tags a_used a_telling a_wrapped a_wrappedData a_aside a_copyUsed a_copyTelling a_copyWrapped a_keys a_box a_unbox a_round a_block a_moved a_tweak a_plain a_tag a_difference g_hasCopy g_isStale b_cells b_damaged b_phrases b_copyPhrases κ vol co hv hc H J
    unfold wpX_removeKey wpY_removeKey
    rcases sv_arg 4 (by decide) v1 with hb | ⟨s, hs, rfl⟩
    · exact sv_isSlot_b hb (br_t rfl (sv_badSlot_b hb (br_f (by decide) ⟨rfl, J⟩)))
    · exact sv_isSlot_g hs (br_f (by decide) (br_t rfl (sv_badSlot_g hs (br_t rfl (br_t rfl ⟨rfl, J⟩)))))
  · intro f_copyGeneration f_isOpen f_roundsOf f_writesLeft a_sectors a_tags a_used a_telling a_wrapped a_wrappedData a_aside a_copyUsed a_copyTelling a_copyWrapped a_keys a_box a_unbox a_round a_block a_moved a_tweak a_plain a_tag a_difference g_hasCopy g_isStale b_cells b_damaged b_phrases b_copyPhrases κ R D F vol co gen t hv hc H h J
    unfold wpX_removeKey wpY_removeKey
    rcases sv_arg 4 (by decide) v1 with hb | ⟨s, hs, rfl⟩
    · exact sv_isSlot_b hb (br_t rfl (sv_badSlot_b hb (br_f (by decide) ⟨rfl, J⟩)))
    · have hi : vp_in (nI s) 4 := vp_in_nI hs (by decide)
      have ec : (nI s).toNatClampNeg = s := nI_clamp (by omega)
      have u4 := sv_uc_le a_used 4
      refine sv_isSlot_g hs (br_f (by decide) (br_c (fun c1 => sv_badSlot_g hs (br_t rfl (br_t c1 ⟨rfl, J⟩))) (fun c1 => ⟨hi, ?_⟩)))
      rw [ec]
      refine br_c (fun c2 => sv_badSlot_g hs (br_t rfl (br_f c1 ⟨hi, br_t c2 ⟨rfl, J⟩⟩))) (fun c2 => sv_usedSlots ?_)
      refine br_c (fun c3 => sv_badSlot_g hs (br_t rfl (br_f c1 ⟨hi, br_f c2 (sv_countSlots (br_t c3 ⟨rfl, J⟩))⟩))) (fun c3 => ⟨hi, nm_r (e' := upd a_used s 0) rfl ?_⟩)
      have e16 : (16 : Int32) * nI s = nI (16 * s + 0) := pk_mul 16 s
      have n1 : sv_uc a_used 4 ≠ 1 := fun w => c3 (by rw [w]; rfl)
      refine nm_r e16 (sv_rm hs ?_)
      · refine sv_badSlot_g hs (br_t rfl (br_f c1 ⟨hi, ?_⟩))
        refine br_f c2 (sv_countSlots (br_f c3 ⟨hi, nm_r (e' := upd a_used s 0) rfl (sv_countSlots ⟨rfl, sv_in1 (R := R) (D := D) (F := F) (by omega) hc H ?_⟩)⟩))
        obtain ⟨p1, p2, p3, p4, p5, p6, p7, p8, p9⟩ := h
        exact ⟨p1, p2, by omega, p4, p5, p6, sv_SL_del p7 (sv_uc_one hs c2 n1) (fun z hz hn => sv_sl_out (by omega)) (fun z hz hn => sv_sl_out (by omega)), p8, p9⟩
end
section
theorem sv_SL_ext {bx : Nat → Int32} {vol : Int32} {R us tl wr ph us' tl' wr' ph' : Nat → Int32} (h : sv_SL bx vol R us tl wr ph) (h1 : ∀ s, s < 4 → us' s = us s) (h2 : ∀ s, s < 4 → sv_sl tl' (16 * s) = sv_sl tl (16 * s)) (h3 : ∀ s, s < 4 → sv_sl wr' (16 * s) = sv_sl wr (16 * s)) (h4 : ∀ s, s < 4 → ph' s = ph s) : sv_SL bx vol R us' tl' wr' ph' := by
  obtain ⟨a1, ⟨w, hw, uw⟩, a3, a4⟩ := h
  refine ⟨fun s hs => ?_, ⟨w, hw, by rw [h1 w hw]; exact uw⟩, fun x y hx hy ux uy e => ?_, fun s hs us => ?_⟩
  · rw [h1 s hs]; exact a1 s hs
  · rw [h1 x hx] at ux
    rw [h1 y hy] at uy
    rw [h4 x hx, h4 y hy] at e
    exact a3 x y hx hy ux uy e
  · rw [h1 s hs] at us
    rw [h2 s hs, h3 s hs, h4 s hs]
    exact a4 s hs us
theorem sv_f4 {a g : Nat → Int32} : ∀ s, s < 4 → sv_fl a 0 4 g s = g s := fun s hs => by
  have := sv_fl_in (a := a) (o := 0) (g := g) hs
  rw [Nat.zero_add] at this
  exact this
theorem sv_f64 {a g : Nat → Int32} : ∀ s, s < 4 → sv_sl (sv_fl a 0 64 g) (16 * s) = sv_sl g (16 * s) := fun s hs => sv_sl_eq (fun j hj => by
  have := sv_fl_in (a := a) (o := 0) (g := g) (n := 64) (j := 16 * s + j) (by omega)
  rw [Nat.zero_add] at this
  exact this)
theorem sv_ng {n : Nat} (h : n < 2 ^ 31) : ¬ (-1 : Int32) = nI n := fun e => by
  have : (-1 : Int32).toInt = (nI n).toInt := by rw [e]
  rw [nI_toInt h, show (-1 : Int32).toInt = -1 from by decide] at this
  omega
section
variable {f_isThere f_volumes f_generation f_renewed f_asideFor f_copyOf f_copyGeneration f_isOpen f_roundsOf f_writesLeft : Int32} {a_sectors a_tags a_used a_telling a_wrapped a_wrappedData a_aside a_copyUsed a_copyTelling a_copyWrapped a_keys a_box a_unbox a_round a_block a_moved a_tweak a_plain a_tag a_difference : Nat → Int32}
theorem sv_xsave {post : Int32 → SX → Prop} (hu : ∀ s, s < 4 → a_used s = 0 ∨ a_used s = 1) (h : post (nI (sv_uc a_used 4)) (f_isThere, f_volumes, f_generation, f_renewed, f_asideFor, f_copyOf, f_copyGeneration, f_isOpen, f_roundsOf, f_writesLeft, a_sectors, a_tags, a_used, a_telling, a_wrapped, a_wrappedData, a_aside, sv_fl a_copyUsed 0 4 a_used, sv_fl a_copyTelling 0 64 a_telling, sv_fl a_copyWrapped 0 64 a_wrapped, a_keys, a_box, a_unbox, a_round, a_block, a_moved, a_tweak, a_plain, a_tag, a_difference)) : ∃ n, wX_saveSlots_39 post f_isThere f_volumes f_generation f_renewed f_asideFor f_copyOf f_copyGeneration f_isOpen f_roundsOf f_writesLeft n 0 a_sectors a_tags a_used a_telling a_wrapped a_wrappedData a_aside a_copyUsed a_copyTelling a_copyWrapped a_keys a_box a_unbox a_round a_block a_moved a_tweak a_plain a_tag a_difference := by
  refine sv_loop (fun n i x => wX_saveSlots_39 post f_isThere f_volumes f_generation f_renewed f_asideFor f_copyOf f_copyGeneration f_isOpen f_roundsOf f_writesLeft n i a_sectors a_tags a_used a_telling a_wrapped a_wrappedData a_aside x a_copyTelling a_copyWrapped a_keys a_box a_unbox a_round a_block a_moved a_tweak a_plain a_tag a_difference) 4 0 a_copyUsed a_used (fun n => br_t (nI_le (Nat.le_refl 4) (by decide)) ?_) (fun n i hi hw => ?_)
  · have key : ∀ d i, i + d = 64 → wX_saveSlots_64 post f_isThere f_volumes f_generation f_renewed f_asideFor f_copyOf f_copyGeneration f_isOpen f_roundsOf f_writesLeft (d + 1) (nI i) a_sectors a_tags a_used a_telling a_wrapped a_wrappedData a_aside (sv_fl a_copyUsed 0 4 a_used) (sv_fl a_copyTelling 0 i a_telling) (sv_fl a_copyWrapped 0 i a_wrapped) a_keys a_box a_unbox a_round a_block a_moved a_tweak a_plain a_tag a_difference := by
      intro d
      induction d with
      | zero =>
        intro i hi
        have i64 : i = 64 := by omega
        subst i64
        exact br_t (nI_le (Nat.le_refl 64) (by decide)) (sv_usedSlots h)
      | succ d ih =>
        intro i hi
        have hin : vp_in (nI i) 64 := vp_in_nI (by omega) (by decide)
        refine br_f (nI_ge (a := i) (b := 64) (by omega) (by decide)) ⟨hin, hin, nm_r (e' := sv_fl a_copyTelling 0 (i + 1) a_telling) (sv_st0 (by omega) (by rw [nI_clamp (by omega)])) ⟨hin, hin, nm_r (e' := sv_fl a_copyWrapped 0 (i + 1) a_wrapped) (sv_st0 (by omega) (by rw [nI_clamp (by omega)])) (nm_r (nI_1 i) (ih (i + 1) (by omega)))⟩⟩
    have k0 := key 64 0 rfl
    rw [sv_fl_0, sv_fl_0, nI_0] at k0
    exact ⟨65, k0⟩
  · have hin : vp_in (nI i) 4 := vp_in_nI hi (by decide)
    refine br_f (nI_ge (b := 4) hi (by decide)) ⟨hin, hin, nm_r (e' := sv_fl a_copyUsed 0 (i + 1) a_used) (sv_st0 (by omega) ?_) (nm_r (nI_1 i) hw)⟩
    rw [nI_clamp (by omega)]
    exact sv_nb (hu i hi)
theorem sv_xrest {post : Int32 → SX → Prop} {κ : Nat → Nat → Int32} (H : sv_H a_box a_unbox a_keys a_round f_roundsOf κ) (hu : ∀ s, s < 4 → a_copyUsed s = 0 ∨ a_copyUsed s = 1) (h : ∀ ks, sv_H a_box a_unbox ks a_round (-1) sv_kz → post (nI (sv_uc (sv_fl a_used 0 4 a_copyUsed) 4)) (f_isThere, f_volumes, f_generation, f_renewed, f_asideFor, f_copyOf, f_copyGeneration, 0, (-1), f_writesLeft, a_sectors, a_tags, sv_fl a_used 0 4 a_copyUsed, sv_fl a_telling 0 64 a_copyTelling, sv_fl a_wrapped 0 64 a_copyWrapped, a_wrappedData, a_aside, a_copyUsed, a_copyTelling, a_copyWrapped, ks, a_box, a_unbox, a_round, a_block, a_moved, a_tweak, a_plain, a_tag, a_difference)) : ∃ n, wX_restoreSlots_44 post f_isThere f_volumes f_generation f_renewed f_asideFor f_copyOf f_copyGeneration f_isOpen f_roundsOf f_writesLeft n 0 a_sectors a_tags a_used a_telling a_wrapped a_wrappedData a_aside a_copyUsed a_copyTelling a_copyWrapped a_keys a_box a_unbox a_round a_block a_moved a_tweak a_plain a_tag a_difference := by
  refine sv_loop (fun n i x => wX_restoreSlots_44 post f_isThere f_volumes f_generation f_renewed f_asideFor f_copyOf f_copyGeneration f_isOpen f_roundsOf f_writesLeft n i a_sectors a_tags x a_telling a_wrapped a_wrappedData a_aside a_copyUsed a_copyTelling a_copyWrapped a_keys a_box a_unbox a_round a_block a_moved a_tweak a_plain a_tag a_difference) 4 0 a_used a_copyUsed (fun n => br_t (nI_le (Nat.le_refl 4) (by decide)) ?_) (fun n i hi hw => ?_)
  · have key : ∀ d i, i + d = 64 → wX_restoreSlots_69 post f_isThere f_volumes f_generation f_renewed f_asideFor f_copyOf f_copyGeneration f_isOpen f_roundsOf f_writesLeft (d + 1) (nI i) a_sectors a_tags (sv_fl a_used 0 4 a_copyUsed) (sv_fl a_telling 0 i a_copyTelling) (sv_fl a_wrapped 0 i a_copyWrapped) a_wrappedData a_aside a_copyUsed a_copyTelling a_copyWrapped a_keys a_box a_unbox a_round a_block a_moved a_tweak a_plain a_tag a_difference := by
      intro d
      induction d with
      | zero =>
        intro i hi
        have i64 : i = 64 := by omega
        subst i64
        exact br_t (nI_le (Nat.le_refl 64) (by decide)) (sv_forget H (fun ks H' => sv_usedSlots (h ks H')))
      | succ d ih =>
        intro i hi
        have hin : vp_in (nI i) 64 := vp_in_nI (by omega) (by decide)
        refine br_f (nI_ge (a := i) (b := 64) (by omega) (by decide)) ⟨hin, hin, nm_r (e' := sv_fl a_telling 0 (i + 1) a_copyTelling) (sv_st0 (by omega) (by rw [nI_clamp (by omega)])) ⟨hin, hin, nm_r (e' := sv_fl a_wrapped 0 (i + 1) a_copyWrapped) (sv_st0 (by omega) (by rw [nI_clamp (by omega)])) (nm_r (nI_1 i) (ih (i + 1) (by omega)))⟩⟩
    have k0 := key 64 0 rfl
    rw [sv_fl_0, sv_fl_0, nI_0] at k0
    exact ⟨65, k0⟩
  · have hin : vp_in (nI i) 4 := vp_in_nI hi (by decide)
    refine br_f (nI_ge (b := 4) hi (by decide)) ⟨hin, hin, nm_r (e' := sv_fl a_used 0 (i + 1) a_copyUsed) (sv_st0 (by omega) ?_) (nm_r (nI_1 i) hw)⟩
    rw [nI_clamp (by omega)]
    exact sv_nb (hu i hi)
end
section
variable {g_isThere g_isOpen g_left g_hasCopy g_isStale : Int32} {b_cells b_damaged b_used b_phrases b_copyUsed b_copyPhrases : Nat → Int32}
theorem sv_ysave {post : Int32 → SY → Prop} (hu : ∀ s, s < 4 → b_used s = 0 ∨ b_used s = 1) (h : post (nI (sv_uc b_used 4)) (g_isThere, g_isOpen, g_left, g_hasCopy, g_isStale, b_cells, b_damaged, b_used, b_phrases, sv_fl b_copyUsed 0 4 b_used, sv_fl b_copyPhrases 0 4 b_phrases)) : ∃ n, wY_saveSlots_33 post g_isThere g_isOpen g_left g_hasCopy g_isStale n 0 b_cells b_damaged b_used b_phrases b_copyUsed b_copyPhrases := by
  have key : ∀ d i, i + d = 4 → wY_saveSlots_33 post g_isThere g_isOpen g_left g_hasCopy g_isStale (d + 1) (nI i) b_cells b_damaged b_used b_phrases (sv_fl b_copyUsed 0 i b_used) (sv_fl b_copyPhrases 0 i b_phrases) := by
    intro d
    induction d with
    | zero =>
      intro i hi
      have i4 : i = 4 := by omega
      subst i4
      exact br_t (nI_le (Nat.le_refl 4) (by decide)) (sv_countSlots h)
    | succ d ih =>
      intro i hi
      have hin : vp_in (nI i) 4 := vp_in_nI (by omega) (by decide)
      refine br_f (nI_ge (a := i) (b := 4) (by omega) (by decide)) ⟨hin, hin, nm_r (e' := sv_fl b_copyUsed 0 (i + 1) b_used) (sv_st0 (by omega) (by rw [nI_clamp (by omega)]; exact sv_nb (hu i (by omega)))) ⟨hin, hin, nm_r (e' := sv_fl b_copyPhrases 0 (i + 1) b_phrases) (sv_st0 (by omega) (by rw [nI_clamp (by omega)])) (nm_r (nI_1 i) (ih (i + 1) (by omega)))⟩⟩
  have k0 := key 4 0 rfl
  rw [sv_fl_0, sv_fl_0, nI_0] at k0
  exact ⟨5, k0⟩
theorem sv_yrest {post : Int32 → SY → Prop} (hu : ∀ s, s < 4 → b_copyUsed s = 0 ∨ b_copyUsed s = 1) (h : post (nI (sv_uc (sv_fl b_used 0 4 b_copyUsed) 4)) (g_isThere, 0, g_left, g_hasCopy, g_isStale, b_cells, b_damaged, sv_fl b_used 0 4 b_copyUsed, sv_fl b_phrases 0 4 b_copyPhrases, b_copyUsed, b_copyPhrases)) : ∃ n, wY_restoreSlots_36 post g_isThere g_isOpen g_left g_hasCopy g_isStale n 0 b_cells b_damaged b_used b_phrases b_copyUsed b_copyPhrases := by
  have key : ∀ d i, i + d = 4 → wY_restoreSlots_36 post g_isThere g_isOpen g_left g_hasCopy g_isStale (d + 1) (nI i) b_cells b_damaged (sv_fl b_used 0 i b_copyUsed) (sv_fl b_phrases 0 i b_copyPhrases) b_copyUsed b_copyPhrases := by
    intro d
    induction d with
    | zero =>
      intro i hi
      have i4 : i = 4 := by omega
      subst i4
      exact br_t (nI_le (Nat.le_refl 4) (by decide)) (sv_countSlots h)
    | succ d ih =>
      intro i hi
      have hin : vp_in (nI i) 4 := vp_in_nI (by omega) (by decide)
      refine br_f (nI_ge (a := i) (b := 4) (by omega) (by decide)) ⟨hin, hin, nm_r (e' := sv_fl b_used 0 (i + 1) b_copyUsed) (sv_st0 (by omega) (by rw [nI_clamp (by omega)]; exact sv_nb (hu i (by omega)))) ⟨hin, hin, nm_r (e' := sv_fl b_phrases 0 (i + 1) b_copyPhrases) (sv_st0 (by omega) (by rw [nI_clamp (by omega)])) (nm_r (nI_1 i) (ih (i + 1) (by omega)))⟩⟩
  have k0 := key 4 0 rfl
  rw [sv_fl_0, sv_fl_0, nI_0] at k0
  exact ⟨5, k0⟩
end
theorem i_vc_saveSlots {k : Nat} {u : SX} {v : SY} (I : i_Rel k u v) (hk : k + 4 ≤ 2048) : wpX_saveSlots (fun r u' => wpY_saveSlots (fun r' v' => r' = r ∧ i_Rel (k + 4) u' v') v) u := by
  refine sv_el (P := fun u v => i_Rel (k + 4) u v → wpX_saveSlots (fun r u' => wpY_saveSlots (fun r' v' => r' = r ∧ i_Rel (k + 4) u' v') v) u) I ?_ ?_ (i_up I)
  · intro f_generation f_renewed f_asideFor f_copyGeneration f_roundsOf f_writesLeft a_sectors a_tags a_used a_telling a_wrapped a_wrappedData a_aside a_copyUsed a_copyTelling a_copyWrapped a_keys a_box a_unbox a_round a_block a_moved a_tweak a_plain a_tag a_difference g_hasCopy g_isStale b_cells b_damaged b_phrases b_copyPhrases κ vol co hv hc H J
    exact br_t rfl (br_t rfl ⟨rfl, J⟩)
  · intro f_copyGeneration f_isOpen f_roundsOf f_writesLeft a_sectors a_tags a_used a_telling a_wrapped a_wrappedData a_aside a_copyUsed a_copyTelling a_copyWrapped a_keys a_box a_unbox a_round a_block a_moved a_tweak a_plain a_tag a_difference g_hasCopy g_isStale b_cells b_damaged b_phrases b_copyPhrases κ R D F vol co gen t hv hc H h J
    have hSL := h.2.2.2.2.2.2.1
    have hSL' : sv_SL a_box (nI vol) R (sv_fl a_copyUsed 0 4 a_used) (sv_fl a_copyTelling 0 64 a_telling) (sv_fl a_copyWrapped 0 64 a_wrapped) (sv_fl b_copyPhrases 0 4 b_phrases) := sv_SL_ext hSL sv_f4 sv_f64 sv_f64 sv_f4
    obtain ⟨p1, p2, p3, p4, p5, p6, p7, p8, p9⟩ := h
    by_cases c : t = 0
    · subst c
      refine br_f (by decide) (br_t sv_rn_neg (sv_xsave hSL.1 (br_f (by decide) (br_t (by decide) (sv_ysave hSL.1 ⟨rfl, sv_in1 (R := R) (D := D) (F := F) (co := vol) (by omega) (Nat.le_refl vol) H ?_⟩)))))
      exact ⟨p1, p2, by omega, p4, p5, p6, p7, p8, Or.inr ⟨by decide, rfl, hSL', ⟨fun _ => rfl, fun _ => rfl⟩, Or.inr ⟨gen, Nat.le_refl gen, rfl⟩⟩⟩
    · refine br_f (by decide) (br_f (sv_rn_pos c) (sv_xsave hSL.1 (br_f (by decide) (br_f (nI_nle (by omega) (by omega)) (sv_ysave hSL.1 ⟨rfl, sv_in1 (R := R) (D := D) (F := F) (co := vol) (by omega) (Nat.le_refl vol) H ?_⟩)))))
      exact ⟨p1, p2, by omega, p4, p5, p6, p7, p8, Or.inr ⟨by decide, rfl, hSL', ⟨fun z => absurd z (by decide), fun z => absurd z (sv_ng (by omega))⟩, Or.inl rfl⟩⟩
theorem i_vc_restoreSlots {k : Nat} {u : SX} {v : SY} (I : i_Rel k u v) (hk : k + 4 ≤ 2048) : wpX_restoreSlots (fun r u' => wpY_restoreSlots (fun r' v' => r' = r ∧ i_Rel (k + 4) u' v') v) u := by
  refine sv_el (P := fun u v => i_Rel (k + 4) u v → wpX_restoreSlots (fun r u' => wpY_restoreSlots (fun r' v' => r' = r ∧ i_Rel (k + 4) u' v') v) u) I ?_ ?_ (i_up I)
  · intro f_generation f_renewed f_asideFor f_copyGeneration f_roundsOf f_writesLeft a_sectors a_tags a_used a_telling a_wrapped a_wrappedData a_aside a_copyUsed a_copyTelling a_copyWrapped a_keys a_box a_unbox a_round a_block a_moved a_tweak a_plain a_tag a_difference g_hasCopy g_isStale b_cells b_damaged b_phrases b_copyPhrases κ vol co hv hc H J
    exact br_t rfl (br_t rfl ⟨rfl, J⟩)
  · intro f_copyGeneration f_isOpen f_roundsOf f_writesLeft a_sectors a_tags a_used a_telling a_wrapped a_wrappedData a_aside a_copyUsed a_copyTelling a_copyWrapped a_keys a_box a_unbox a_round a_block a_moved a_tweak a_plain a_tag a_difference g_hasCopy g_isStale b_cells b_damaged b_phrases b_copyPhrases κ R D F vol co gen t hv hc H h J
    obtain ⟨p1, p2, p3, p4, p5, p6, p7, p8, p9⟩ := h
    rcases p9 with ⟨h0, hlt⟩ | ⟨h0, hco, hSL, hst, hcg⟩
    · have n1 : ¬ nI co = nI vol := fun z => by
        have := (nI_eq (by omega) (by omega)).mp z
        omega
      exact br_f (by decide) (br_f n1 (br_f (by decide) (br_t h0 ⟨rfl, J⟩)))
    · by_cases c : t = 0
      · subst c
        refine br_f (by decide) (br_t (by rw [hco]) (br_f (by decide) (br_c (fun e => ?_) (fun e => ?_))))
        · refine sv_xrest H hSL.1 (fun ks H' => br_f (by decide) (br_f h0 (br_t (hst.mpr e) (br_t (by decide) (sv_yrest hSL.1 ⟨rfl, sv_in1 (R := R) (D := D) (F := F) (by omega) hc H' ?_⟩)))))
          exact ⟨Or.inl rfl, p2, by omega, p4, fun z => absurd rfl z, p6, sv_SL_ext hSL sv_f4 sv_f64 sv_f64 sv_f4, p8, Or.inr ⟨h0, hco, hSL, hst, hcg⟩⟩
        · exact br_f (by decide) (br_f h0 (br_f (fun z => e (hst.mp z)) ⟨rfl, J⟩))
      · have rp : 0 ≤ sv_rn t := by
          unfold sv_rn
          rw [if_neg c]
          exact nI_pos' (by omega)
        refine br_f (by decide) (br_t (by rw [hco]) (br_t rp (br_f (by decide) (br_f h0 (br_c (fun e => ?_) (fun e => ⟨rfl, J⟩))))))
        exact br_f (nI_nle (by omega) (by omega)) ⟨rfl, J⟩
end
section
theorem sv_sl_ui {a : Nat → Int32} {p k : Nat} {x : Int32} (hk : k < 16) : sv_sl (upd a (p + k) x) p = upd (sv_sl a p) k x := by
  funext j
  by_cases hj : j < 16
  · rw [sv_sl_lt hj]
    unfold upd
    by_cases c : j = k
    · rw [if_pos (by omega), if_pos c]
    · rw [if_neg (by omega), if_neg c, sv_sl_lt hj]
  · rw [sv_sl_ge hj, pk_un (by omega), sv_sl_ge hj]
theorem sv_sl_uo {a : Nat → Int32} {p i : Nat} {x : Int32} (h : i < p ∨ p + 16 ≤ i) : sv_sl (upd a i x) p = sv_sl a p := sv_sl_eq (fun j hj => pk_un (by omega))
def sv_bit (n : Nat) : Int32 := (1 : Int32) <<< ((nI n &&& 7) &&& 31)
theorem sv_bit8 : ∀ j, j < 8 → (1 : Int32) <<< (nI j &&& 31) = nI (2 ^ j) ∧ ¬ (1 : Int32) <<< (nI j &&& 31) = 0 ∧ 2 ^ j < 256 := by decide +kernel
theorem sv_bit_e {n : Nat} (hn : n < 384) : sv_b (sv_bit n) ∧ sv_bit n ≠ 0 := by
  unfold sv_bit
  rw [pk_andN (n := n) (by omega) (m := 7) 3 (by decide)]
  obtain ⟨e, h0, hl⟩ := sv_bit8 (n % 2 ^ 3) (by omega)
  exact ⟨⟨_, hl, e⟩, h0⟩
theorem sv_flip {B : Nat → Int32} {k : Nat} {x : Int32} (hx : x ≠ 0) : upd B k (B k ^^^ x) ≠ B := fun e => by
  have := congrFun e k
  rw [pk_us] at this
  have h2 : B k ^^^ (B k ^^^ x) = B k ^^^ B k := by rw [this]
  rw [sv_x_can', Int32.xor_self] at h2
  exact hx h2
section
variable {f_isThere f_volumes f_generation f_renewed f_asideFor f_copyOf f_copyGeneration f_isOpen f_roundsOf f_writesLeft : Int32} {a_sectors a_tags a_used a_telling a_wrapped a_wrappedData a_aside a_copyUsed a_copyTelling a_copyWrapped a_keys a_box a_unbox a_round a_block a_moved a_tweak a_plain a_tag a_difference : Nat → Int32}
theorem sv_dmg48 {post : Int32 → SX → Prop} {s n : Nat} {z0 z1 : Int32} (hs : s < 12) (hn : n < 384) (hz : z1 + z0 = nI n)
    (h1 : n / 8 < 32 → post 0 (f_isThere, f_volumes, f_generation, f_renewed, f_asideFor, f_copyOf, f_copyGeneration, f_isOpen, f_roundsOf, f_writesLeft, upd a_sectors (32 * s + n / 8) (a_sectors (32 * s + n / 8) ^^^ sv_bit n), a_tags, a_used, a_telling, a_wrapped, a_wrappedData, a_aside, a_copyUsed, a_copyTelling, a_copyWrapped, a_keys, a_box, a_unbox, a_round, a_block, a_moved, a_tweak, a_plain, a_tag, a_difference))
    (h2 : 32 ≤ n / 8 → post 0 (f_isThere, f_volumes, f_generation, f_renewed, f_asideFor, f_copyOf, f_copyGeneration, f_isOpen, f_roundsOf, f_writesLeft, a_sectors, upd a_tags (16 * s + (n / 8 - 32)) (a_tags (16 * s + (n / 8 - 32)) ^^^ sv_bit n), a_used, a_telling, a_wrapped, a_wrappedData, a_aside, a_copyUsed, a_copyTelling, a_copyWrapped, a_keys, a_box, a_unbox, a_round, a_block, a_moved, a_tweak, a_plain, a_tag, a_difference)) : wX_damage_48 post (nI s) z0 z1 f_isThere f_volumes f_generation f_renewed f_asideFor f_copyOf f_copyGeneration f_isOpen f_roundsOf f_writesLeft a_sectors a_tags a_used a_telling a_wrapped a_wrappedData a_aside a_copyUsed a_copyTelling a_copyWrapped a_keys a_box a_unbox a_round a_block a_moved a_tweak a_plain a_tag a_difference := by
  have e3 : nI n >>> ((3 : Int32) &&& 31) = nI (n / 8) := pk_shrN (by omega) _ 3 (by decide)
  have ea : (32 : Int32) * nI s + nI (n / 8) = nI (32 * s + n / 8) := sv_ix 32 s (n / 8)
  refine nm_r hz (nm_r e3 (pk_le 32 (n / 8) (fun c => ?_) (fun c => ?_)))
  · have eb : (16 : Int32) * nI s + nI (n / 8) - 32 = nI (16 * s + (n / 8 - 32)) := by
      have h0 : (16 : Int32) * nI s + nI (n / 8) = nI (16 * s + n / 8) := sv_ix 16 s (n / 8)
      rw [h0]
      have := pk_sub (a := 16 * s + n / 8) (b := 32) (by omega)
      rw [show 16 * s + n / 8 - 32 = 16 * s + (n / 8 - 32) by omega] at this
      exact this
    rw [eb, nI_clamp (n := 16 * s + (n / 8 - 32)) (by omega)]
    have hi : vp_in (nI (16 * s + (n / 8 - 32))) 192 := vp_in_nI (by omega) (by decide)
    exact ⟨hi, hi, nm_e (h2 c)⟩
  · rw [ea, nI_clamp (n := 32 * s + n / 8) (by omega)]
    have hi : vp_in (nI (32 * s + n / 8)) 384 := vp_in_nI (by omega) (by decide)
    exact ⟨hi, hi, nm_e (h1 c)⟩
theorem sv_areSame {post : Int32 → Prop} {s o : Nat} (hs : s < 4) (ho : o < 4) (h : sv_sl a_telling (16 * s) ≠ sv_sl a_telling (16 * o)) (p : post 0) : wpX_areSame post (f_isThere, f_volumes, f_generation, f_renewed, f_asideFor, f_copyOf, f_copyGeneration, f_isOpen, f_roundsOf, f_writesLeft, a_sectors, a_tags, a_used, a_telling, a_wrapped, a_wrappedData, a_aside, a_copyUsed, a_copyTelling, a_copyWrapped, a_keys, a_box, a_unbox, a_round, a_block, a_moved, a_tweak, a_plain, a_tag, a_difference) (nI s) (nI o) := by
  refine sv_cmp (fun n i => wX_areSame_2 post (nI s) (nI o) f_isThere f_volumes f_generation f_renewed f_asideFor f_copyOf f_copyGeneration f_isOpen f_roundsOf f_writesLeft a_sectors a_tags a_used a_telling a_wrapped a_wrappedData a_aside a_copyUsed a_copyTelling a_copyWrapped a_keys a_box a_unbox a_round a_block a_moved a_tweak a_plain a_tag a_difference n i) 16 (fun i => a_telling (16 * s + i) = a_telling (16 * o + i)) False (post 0) (fun w => h (sv_sl_eq w)) (fun _ => p) (fun w n => absurd w id) (fun n i hi hw hb => ?_)
  have e1 : (16 : Int32) * nI s + nI i = nI (16 * s + i) := sv_ix 16 s i
  have e2 : (16 : Int32) * nI o + nI i = nI (16 * o + i) := sv_ix 16 o i
  refine br_f (nI_ge (b := 16) hi (by decide)) ⟨pk_in (16 * s + i) 64 (by omega) e1, pk_in (16 * o + i) 64 (by omega) e2, ?_⟩
  rw [e1, e2, nI_clamp (n := 16 * s + i) (by omega), nI_clamp (n := 16 * o + i) (by omega)]
  exact ⟨fun c => nm_r (nI_1 i) (hw c), hb⟩
theorem sv_faults_l {post : Int32 → Prop} (hd : ∀ s o, s < 4 → o < s → a_used s ≠ 0 → a_used o ≠ 0 → sv_sl a_telling (16 * s) ≠ sv_sl a_telling (16 * o)) (h : post 0) : ∃ n, wX_faults_56 post f_isThere f_volumes f_generation f_renewed f_asideFor f_copyOf f_copyGeneration f_isOpen f_roundsOf f_writesLeft a_sectors a_tags a_used a_telling a_wrapped a_wrappedData a_aside a_copyUsed a_copyTelling a_copyWrapped a_keys a_box a_unbox a_round a_block a_moved a_tweak a_plain a_tag a_difference n 0 0 := by
  have key : ∀ d s, s + d = 4 → wX_faults_56 post f_isThere f_volumes f_generation f_renewed f_asideFor f_copyOf f_copyGeneration f_isOpen f_roundsOf f_writesLeft a_sectors a_tags a_used a_telling a_wrapped a_wrappedData a_aside a_copyUsed a_copyTelling a_copyWrapped a_keys a_box a_unbox a_round a_block a_moved a_tweak a_plain a_tag a_difference (d + 1) 0 (nI s) := by
    intro d
    induction d with
    | zero =>
      intro s hs
      have s4 : s = 4 := by omega
      subst s4
      exact br_t (nI_le (Nat.le_refl 4) (by decide)) h
    | succ d ih =>
      intro s hs
      have hs4 : s < 4 := by omega
      refine br_f (nI_ge (a := s) (b := 4) hs4 (by decide)) ?_
      have inner : ∀ e o, o + e = s → wX_faults_63 post (wX_faults_56 post f_isThere f_volumes f_generation f_renewed f_asideFor f_copyOf f_copyGeneration f_isOpen f_roundsOf f_writesLeft a_sectors a_tags a_used a_telling a_wrapped a_wrappedData a_aside a_copyUsed a_copyTelling a_copyWrapped a_keys a_box a_unbox a_round a_block a_moved a_tweak a_plain a_tag a_difference (d + 1)) (nI s) f_isThere f_volumes f_generation f_renewed f_asideFor f_copyOf f_copyGeneration f_isOpen f_roundsOf f_writesLeft a_sectors a_tags a_used a_telling a_wrapped a_wrappedData a_aside a_copyUsed a_copyTelling a_copyWrapped a_keys a_box a_unbox a_round a_block a_moved a_tweak a_plain a_tag a_difference (e + 1) 0 (nI o) := by
        intro e
        induction e with
        | zero =>
          intro o ho
          have os : o = s := by omega
          subst os
          exact br_t (nI_le (Nat.le_refl o) (by omega)) (nm_r (nI_1 o) (ih (o + 1) (by omega)))
        | succ e ihe =>
          intro o ho
          have kk := ihe (o + 1) (by omega)
          refine br_f (nI_ge (a := o) (b := s) (by omega) (by omega)) ⟨vp_in_nI hs4 (by decide), ?_⟩
          rw [nI_clamp (n := s) (by omega), nI_clamp (n := o) (by omega)]
          refine br_c (fun c => nm_r (Int32.add_zero 0) (nm_r (nI_1 o) kk)) (fun c => ⟨vp_in_nI (by omega) (by decide), br_c (fun c2 => nm_r (Int32.add_zero 0) (nm_r (nI_1 o) kk)) (fun c2 => ?_)⟩)
          exact sv_areSame hs4 (by omega) (hd s o hs4 (by omega) c c2) (br_t rfl (nm_r (Int32.add_zero 0) (nm_r (nI_1 o) kk)))
      have k0 := inner s 0 (by omega)
      rw [nI_0] at k0
      exact ⟨s + 1, k0⟩
  have k0 := key 4 0 rfl
  rw [nI_0] at k0
  exact ⟨5, k0⟩
end
/-- a sector that was sound becomes damaged -/
theorem sv_SS_dmg {bx sec tags cells dmg sec' tags' D F : Nat → Int32} {t s : Nat} (h : sv_SS bx sec tags cells dmg t D F) (hA : sv_V (sv_sl sec' (32 * s))) (hB : sv_V (sv_sl sec' (32 * s + 16))) (hT : sv_sl tags' (16 * s) ≠ sv_tg bx s (sv_sl sec' (32 * s)) (sv_sl sec' (32 * s + 16)))
    (ho : ∀ z, z < 12 → z ≠ s → sv_sl sec' (32 * z) = sv_sl sec (32 * z) ∧ sv_sl sec' (32 * z + 16) = sv_sl sec (32 * z + 16) ∧ sv_sl tags' (16 * z) = sv_sl tags (16 * z)) : sv_SS bx sec' tags' cells (upd dmg s 1) t D F := by
  intro z hz
  by_cases c : z = s
  · subst c
    rw [pk_us]
    exact ⟨hA, hB, fun w => absurd w (by decide), fun _ => hT⟩
  · obtain ⟨o1, o2, o3⟩ := ho z hz c
    rw [o1, o2, o3, pk_un c]
    exact h z hz
theorem sv_rem384 (p : Int32) : ∃ n : Nat, n < 384 ∧ ((0 ≤ p - p / 384 * 384 → (p - p / 384 * 384) + 0 = nI n) ∧ (¬ 0 ≤ p - p / 384 * 384 → (p - p / 384 * 384) + 384 = nI n)) := by
  have e := rem_toInt p 384
  have b := tmod_bounds (a := p.toInt) (M := 384) (by decide)
  have m : (384 : Int32).toInt = 384 := by decide
  have z : (0 : Int32).toInt = 0 := by decide
  rw [m] at e
  generalize p - p / 384 * 384 = x at e ⊢
  rw [← e] at b
  by_cases c : 0 ≤ x
  · have c' := c
    rw [Int32.le_iff_toInt_le, z] at c'
    refine ⟨x.toInt.toNat, by omega, fun _ => ?_, fun w => absurd c w⟩
    apply Int32.toInt_inj.mp
    rw [Int32.add_zero, nI_toInt (by omega)]
    omega
  · have c' := c
    rw [Int32.le_iff_toInt_le, z] at c'
    refine ⟨(x.toInt + 384).toNat, by omega, fun w => absurd w c, fun _ => ?_⟩
    apply Int32.toInt_inj.mp
    rw [Int32.toInt_add, m, nI_toInt (by omega), Int.bmod_eq_of_le (by omega) (by omega)]
    omega
theorem i_vc_damage {k : Nat} {u : SX} {v : SY} (I : i_Rel k u v) (hk : k + 4 ≤ 2048) (v1 : Int32) (v2 : Int32) : wpX_damage (fun r u' => wpY_damage (fun r' v' => r' = r ∧ i_Rel (k + 4) u' v') v v1 v2) u v1 v2 := by
  refine sv_el (P := fun u v => i_Rel (k + 4) u v → wpX_damage (fun r u' => wpY_damage (fun r' v' => r' = r ∧ i_Rel (k + 4) u' v') v v1 v2) u v1 v2) I ?_ ?_ (i_up I)
  · intro f_generation f_renewed f_asideFor f_copyGeneration f_roundsOf f_writesLeft a_sectors a_tags a_used a_telling a_wrapped a_wrappedData a_aside a_copyUsed a_copyTelling a_copyWrapped a_keys a_box a_unbox a_round a_block a_moved a_tweak a_plain a_tag a_difference g_hasCopy g_isStale b_cells b_damaged b_phrases b_copyPhrases κ vol co hv hc H J
    unfold wpX_damage wpY_damage
    rcases sv_arg 12 (by decide) v1 with hb | ⟨s, hs, rfl⟩
    · exact sv_isSector_b hb (br_t rfl (sv_badSector_b hb (br_f (by decide) ⟨rfl, J⟩)))
    · exact sv_isSector_g hs (br_f (by decide) (br_t rfl (sv_badSector_g hs (br_t rfl (br_t rfl ⟨rfl, J⟩)))))
  · intro f_copyGeneration f_isOpen f_roundsOf f_writesLeft a_sectors a_tags a_used a_telling a_wrapped a_wrappedData a_aside a_copyUsed a_copyTelling a_copyWrapped a_keys a_box a_unbox a_round a_block a_moved a_tweak a_plain a_tag a_difference g_hasCopy g_isStale b_cells b_damaged b_phrases b_copyPhrases κ R D F vol co gen t hv hc H h J
    unfold wpX_damage wpY_damage
    rcases sv_arg 12 (by decide) v1 with hb | ⟨s, hs, rfl⟩
    · exact sv_isSector_b hb (br_t rfl (sv_badSector_b hb (br_f (by decide) ⟨rfl, J⟩)))
    · obtain ⟨VA, VB, h0, h1⟩ := h.2.2.2.2.2.2.2.1 s hs
      have ec : (nI s).toNatClampNeg = s := nI_clamp (by omega)
      have hi : vp_in (nI s) 12 := vp_in_nI hs (by decide)
      refine sv_isSector_g hs (br_f (by decide) (br_f (by decide) (sv_isSound hs H VA VB (fun b m rnd tg r H' hr => ?_))))
      rcases hr with ⟨er, hr⟩ | ⟨er, hr⟩
      · subst er
        have d0 : b_damaged s = 0 := Classical.byContradiction (fun z => h1 z hr)
        obtain ⟨n, hn, n1, n2⟩ := sv_rem384 v2
        obtain ⟨bb, b0⟩ := sv_bit_e hn
        have go : ∀ z0, (v2 - v2 / 384 * 384) + z0 = nI n → wX_damage_48 (fun r u' => wpY_badSector (fun r_1 => (((r_1 = 0 → ((((1 : Int32) = 0 → ((fun r' v' => r' = r ∧ i_Rel (k + 4) u' v') (-2) (1, f_isOpen, nI t, g_hasCopy, g_isStale, b_cells, b_damaged, a_used, b_phrases, a_copyUsed, b_copyPhrases))) ∧ (¬ (1 : Int32) = 0 → (vp_in (nI s) 12 ∧ ((((b_damaged (nI s).toNatClampNeg) = 0 → (vp_in (nI s) 12 ∧ ∀ a_damaged_18 : Nat → Int32, a_damaged_18 = upd b_damaged (nI s).toNatClampNeg (vp_nar .boolean 1) → ((fun r' v' => r' = r ∧ i_Rel (k + 4) u' v') 0 (1, f_isOpen, nI t, g_hasCopy, g_isStale, b_cells, a_damaged_18, a_used, b_phrases, a_copyUsed, b_copyPhrases)))) ∧ (¬ (b_damaged (nI s).toNatClampNeg) = 0 → ((fun r' v' => r' = r ∧ i_Rel (k + 4) u' v') (-5) (1, f_isOpen, nI t, g_hasCopy, g_isStale, b_cells, b_damaged, a_used, b_phrases, a_copyUsed, b_copyPhrases)))))))))) ∧ (¬ r_1 = 0 → ((fun r' v' => r' = r ∧ i_Rel (k + 4) u' v') (-1) (1, f_isOpen, nI t, g_hasCopy, g_isStale, b_cells, b_damaged, a_used, b_phrases, a_copyUsed, b_copyPhrases)))))) (1, f_isOpen, nI t, g_hasCopy, g_isStale, b_cells, b_damaged, a_used, b_phrases, a_copyUsed, b_copyPhrases) (nI s)) (nI s) z0 (v2 - v2 / 384 * 384) 1 (nI vol) (nI gen) (sv_rn t) (-1) (nI co) f_copyGeneration f_isOpen (nI (16 * 0)) f_writesLeft a_sectors a_tags a_used a_telling a_wrapped a_wrappedData a_aside a_copyUsed a_copyTelling a_copyWrapped a_keys a_box a_unbox rnd b m a_tweak a_plain tg a_difference := by
          intro z0 hz
          obtain ⟨p1, p2, p3, p4, p5, p6, p7, p8, p9⟩ := h
          refine sv_dmg48 hs hn hz (fun c => ?_) (fun c => ?_)
          · refine sv_badSector_g hs (br_t rfl (br_f (by decide) ⟨hi, ?_⟩))
            rw [ec]
            refine br_t d0 ⟨hi, nm_r (e' := upd b_damaged s 1) rfl ⟨rfl, sv_in1 (R := R) (D := D) (F := F) (by omega) hc H' ⟨p1, p2, by omega, p4, p5, p6, p7, ?_, p9⟩⟩⟩
            by_cases c2 : n / 8 < 16
            · have eA : sv_sl (upd a_sectors (32 * s + n / 8) (a_sectors (32 * s + n / 8) ^^^ sv_bit n)) (32 * s) = upd (sv_sl a_sectors (32 * s)) (n / 8) (sv_sl a_sectors (32 * s) (n / 8) ^^^ sv_bit n) := by rw [sv_sl_ui c2, sv_sl_lt c2]
              have eB : sv_sl (upd a_sectors (32 * s + n / 8) (a_sectors (32 * s + n / 8) ^^^ sv_bit n)) (32 * s + 16) = sv_sl a_sectors (32 * s + 16) := sv_sl_uo (by omega)
              have VA' : sv_V (upd (sv_sl a_sectors (32 * s)) (n / 8) (sv_sl a_sectors (32 * s) (n / 8) ^^^ sv_bit n)) := sv_upd_V VA c2 (sv_b_xor (VA _).1 bb)
              refine sv_SS_dmg p8 (by rw [eA]; exact VA') (by rw [eB]; exact VB) ?_ (fun z hz zn => ⟨sv_sl_uo (by omega), sv_sl_uo (by omega), rfl⟩)
              rw [eA, eB, hr]
              exact fun w => sv_flip b0 (sv_tg_iA H.1 hs VA VA' VB w).symm
            · have e16 : 32 * s + n / 8 = (32 * s + 16) + (n / 8 - 16) := by omega
              rw [e16]
              have c3 : n / 8 - 16 < 16 := by omega
              have eA : sv_sl (upd a_sectors (32 * s + 16 + (n / 8 - 16)) (a_sectors (32 * s + 16 + (n / 8 - 16)) ^^^ sv_bit n)) (32 * s) = sv_sl a_sectors (32 * s) := sv_sl_uo (by omega)
              have eB : sv_sl (upd a_sectors (32 * s + 16 + (n / 8 - 16)) (a_sectors (32 * s + 16 + (n / 8 - 16)) ^^^ sv_bit n)) (32 * s + 16) = upd (sv_sl a_sectors (32 * s + 16)) (n / 8 - 16) (sv_sl a_sectors (32 * s + 16) (n / 8 - 16) ^^^ sv_bit n) := by rw [sv_sl_ui c3, sv_sl_lt c3]
              have VB' : sv_V (upd (sv_sl a_sectors (32 * s + 16)) (n / 8 - 16) (sv_sl a_sectors (32 * s + 16) (n / 8 - 16) ^^^ sv_bit n)) := sv_upd_V VB c3 (sv_b_xor (VB _).1 bb)
              refine sv_SS_dmg p8 (by rw [eA]; exact VA) (by rw [eB]; exact VB') ?_ (fun z hz zn => ⟨sv_sl_uo (by omega), sv_sl_uo (by omega), rfl⟩)
              rw [eA, eB, hr]
              exact fun w => sv_flip b0 (sv_tg_iB H.1 hs VA VB VB' w).symm
          · have c3 : n / 8 - 32 < 16 := by omega
            refine sv_badSector_g hs (br_t rfl (br_f (by decide) ⟨hi, ?_⟩))
            rw [ec]
            refine br_t d0 ⟨hi, nm_r (e' := upd b_damaged s 1) rfl ⟨rfl, sv_in1 (R := R) (D := D) (F := F) (by omega) hc H' ⟨p1, p2, by omega, p4, p5, p6, p7, ?_, p9⟩⟩⟩
            refine sv_SS_dmg p8 VA VB ?_ (fun z hz zn => ⟨rfl, rfl, sv_sl_uo (by omega)⟩)
            rw [sv_sl_ui c3, sv_sl_g (a := a_tags) (o := 16 * s) c3, ← hr]
            exact sv_flip b0
        refine br_f (by decide) ⟨by decide, nm_e (br_c (fun c => go 0 (n1 c)) (fun c => go 384 (n2 c)))⟩
      · subst er
        have d0 : ¬ b_damaged s = 0 := fun z => hr (h0 z).1
        refine br_t rfl (sv_badSector_g hs (br_t rfl (br_f (by decide) ⟨hi, ?_⟩)))
        rw [ec]
        exact br_f d0 ⟨rfl, sv_in1 (by omega) hc H' (sv_P1_up h)⟩
theorem i_vc_faults {k : Nat} {u : SX} {v : SY} (I : i_Rel k u v) (hk : k + 4 ≤ 2048) : wpX_faults (fun r => wpY_faults (fun r' => r' = r ∧ i_Rel (k + 4) u v) v) u := by
  refine sv_el (P := fun u v => i_Rel (k + 4) u v → wpX_faults (fun r => wpY_faults (fun r' => r' = r ∧ i_Rel (k + 4) u v) v) u) I ?_ ?_ (i_up I)
  · intro f_generation f_renewed f_asideFor f_copyGeneration f_roundsOf f_writesLeft a_sectors a_tags a_used a_telling a_wrapped a_wrappedData a_aside a_copyUsed a_copyTelling a_copyWrapped a_keys a_box a_unbox a_round a_block a_moved a_tweak a_plain a_tag a_difference g_hasCopy g_isStale b_cells b_damaged b_phrases b_copyPhrases κ vol co hv hc H J
    exact br_t rfl ⟨rfl, J⟩
  · intro f_copyGeneration f_isOpen f_roundsOf f_writesLeft a_sectors a_tags a_used a_telling a_wrapped a_wrappedData a_aside a_copyUsed a_copyTelling a_copyWrapped a_keys a_box a_unbox a_round a_block a_moved a_tweak a_plain a_tag a_difference g_hasCopy g_isStale b_cells b_damaged b_phrases b_copyPhrases κ R D F vol co gen t hv hc H h J
    have hSL := h.2.2.2.2.2.2.1
    have up := sv_uc_pos hSL.2.1
    have u4 := sv_uc_le a_used 4
    have hd : ∀ s o, s < 4 → o < s → a_used s ≠ 0 → a_used o ≠ 0 → sv_sl a_telling (16 * s) ≠ sv_sl a_telling (16 * o) := by
      intro s o hs ho us uo e
      rw [(hSL.2.2.2 s hs us).1, (hSL.2.2.2 o (by omega) uo).1] at e
      have := hSL.2.2.1 s o hs (by omega) us uo (sv_dq_inj H.1 e)
      omega
    have r1 : ¬ sv_rn t < -1 := by
      unfold sv_rn
      by_cases c : t = 0
      · rw [if_pos c]; decide
      · rw [if_neg c, Int32.lt_iff_toInt_lt, nI_toInt (by omega), show (-1 : Int32).toInt = -1 from by decide]
        omega
    have r2 : ¬ 12 ≤ sv_rn t := by
      unfold sv_rn
      by_cases c : t = 0
      · rw [if_pos c]; decide
      · rw [if_neg c]
        exact nI_ge (b := 12) (by omega) (by decide)
    refine br_f (by decide) (sv_usedSlots (br_f (nI_nle up (by omega)) ?_))
    unfold wX_faults_21
    exact br_f (by decide) (br_f r1 (br_f r2 (nm_r (Int32.add_zero 0) (sv_faults_l hd ⟨rfl, J⟩))))
end
section
section
variable {f_isThere f_volumes f_generation f_renewed f_asideFor f_copyOf f_copyGeneration f_isOpen f_roundsOf f_writesLeft : Int32} {a_sectors a_tags a_used a_telling a_wrapped a_wrappedData a_aside a_copyUsed a_copyTelling a_copyWrapped a_keys a_box a_unbox a_round a_block a_moved a_tweak a_plain a_tag a_difference : Nat → Int32}
theorem sv_pa83 {post : SX → Prop} {s : Nat} {w : Int} (hw1 : -50 ≤ w) (hw2 : w ≤ 50) (h1 : 1 ≤ w → post (f_isThere, f_volumes, f_generation, f_renewed, nI s, f_copyOf, f_copyGeneration, f_isOpen, f_roundsOf, sv_wi (w - 1), a_sectors, a_tags, a_used, a_telling, a_wrapped, a_wrappedData, a_aside, a_copyUsed, a_copyTelling, a_copyWrapped, a_keys, a_box, a_unbox, a_round, a_block, a_moved, a_tweak, a_plain, a_tag, a_difference)) (h0 : w < 1 → post (f_isThere, f_volumes, f_generation, f_renewed, f_asideFor, f_copyOf, f_copyGeneration, f_isOpen, f_roundsOf, sv_wi (w - 1), a_sectors, a_tags, a_used, a_telling, a_wrapped, a_wrappedData, a_aside, a_copyUsed, a_copyTelling, a_copyWrapped, a_keys, a_box, a_unbox, a_round, a_block, a_moved, a_tweak, a_plain, a_tag, a_difference)) : wX_putAside_83 post (nI s) f_isThere f_volumes f_generation f_renewed f_asideFor f_copyOf f_copyGeneration f_isOpen f_roundsOf (sv_wi w) a_sectors a_tags a_used a_telling a_wrapped a_wrappedData a_aside a_copyUsed a_copyTelling a_copyWrapped a_keys a_box a_unbox a_round a_block a_moved a_tweak a_plain a_tag a_difference := by
  unfold wX_putAside_83
  exact sv_mayWrite hw1 hw2 (fun c => br_f (by decide) (h1 c)) (fun c => br_t rfl (h0 c))
theorem sv_pa40 {post : SX → Prop} {s : Nat} {w : Int} (hs : s < 12) (hw1 : -40 ≤ w) (hw2 : w ≤ 40) (h : ∀ asd, (∀ i, i < 32 → asd i = a_aside i) → (1 ≤ w → ∀ i, i < 16 → asd (32 + i) = a_tags (16 * s + i)) → wX_putAside_83 post (nI s) f_isThere f_volumes f_generation f_renewed f_asideFor f_copyOf f_copyGeneration f_isOpen f_roundsOf (sv_wi (w - 1)) a_sectors a_tags a_used a_telling a_wrapped a_wrappedData asd a_copyUsed a_copyTelling a_copyWrapped a_keys a_box a_unbox a_round a_block a_moved a_tweak a_plain a_tag a_difference) : wX_putAside_40 post (nI s) f_isThere f_volumes f_generation f_renewed f_asideFor f_copyOf f_copyGeneration f_isOpen f_roundsOf (sv_wi w) a_sectors a_tags a_used a_telling a_wrapped a_wrappedData a_aside a_copyUsed a_copyTelling a_copyWrapped a_keys a_box a_unbox a_round a_block a_moved a_tweak a_plain a_tag a_difference := by
  unfold wX_putAside_40
  refine sv_mayWrite (by omega) (by omega) (fun c => ?_) (fun c => ?_)
  · refine sv_loop (fun n i x => wX_putAside_47 post (nI s) 1 f_isThere f_volumes f_generation f_renewed f_asideFor f_copyOf f_copyGeneration f_isOpen f_roundsOf (sv_wi (w - 1)) n i a_sectors a_tags a_used a_telling a_wrapped a_wrappedData x a_copyUsed a_copyTelling a_copyWrapped a_keys a_box a_unbox a_round a_block a_moved a_tweak a_plain a_tag a_difference) 16 32 a_aside (fun i => a_tags (16 * s + i)) (fun n => br_t (nI_le (Nat.le_refl 16) (by decide)) (h _ (fun i hi => sv_fl_out (by omega)) (fun _ i hi => sv_fl_in hi))) (fun n i hi hw => ?_)
    have e1 : (16 : Int32) * nI s + nI i = nI (16 * s + i) := sv_ix 16 s i
    have e2 : (32 : Int32) + nI i = nI (32 + i) := nI_add 32 i
    refine br_f (nI_ge (b := 16) hi (by decide)) (br_f (by decide) ⟨pk_in (16 * s + i) 192 (by omega) e1, pk_in (32 + i) 48 (by omega) e2, nm_r (e' := sv_fl a_aside 32 (i + 1) (fun i => a_tags (16 * s + i))) (sv_st e2 (by omega) ?_) (nm_r (nI_1 i) hw)⟩)
    rw [e1, nI_clamp (by omega)]
  · exact ⟨1, br_f (by decide) (br_t rfl (h _ (fun _ _ => rfl) (fun z => absurd z (by omega))))⟩
theorem sv_putAside {post : SX → Prop} {s : Nat} {w : Int} (hs : s < 12) (hw1 : -30 ≤ w) (hw2 : w ≤ 30)
    (h : ∀ asd af, (3 ≤ w ∧ af = nI s ∧ (∀ i, i < 32 → asd i = a_sectors (32 * s + i)) ∧ (∀ i, i < 16 → asd (32 + i) = a_tags (16 * s + i)) ∨ w < 3 ∧ af = f_asideFor) → post (f_isThere, f_volumes, f_generation, f_renewed, af, f_copyOf, f_copyGeneration, f_isOpen, f_roundsOf, sv_wi (w - 1 - 1 - 1), a_sectors, a_tags, a_used, a_telling, a_wrapped, a_wrappedData, asd, a_copyUsed, a_copyTelling, a_copyWrapped, a_keys, a_box, a_unbox, a_round, a_block, a_moved, a_tweak, a_plain, a_tag, a_difference)) : wpX_putAside post (f_isThere, f_volumes, f_generation, f_renewed, f_asideFor, f_copyOf, f_copyGeneration, f_isOpen, f_roundsOf, sv_wi w, a_sectors, a_tags, a_used, a_telling, a_wrapped, a_wrappedData, a_aside, a_copyUsed, a_copyTelling, a_copyWrapped, a_keys, a_box, a_unbox, a_round, a_block, a_moved, a_tweak, a_plain, a_tag, a_difference) (nI s) := by
  unfold wpX_putAside
  have tail : ∀ asd1, (1 ≤ w → ∀ i, i < 32 → asd1 i = a_sectors (32 * s + i)) → wX_putAside_40 post (nI s) f_isThere f_volumes f_generation f_renewed f_asideFor f_copyOf f_copyGeneration f_isOpen f_roundsOf (sv_wi (w - 1)) a_sectors a_tags a_used a_telling a_wrapped a_wrappedData asd1 a_copyUsed a_copyTelling a_copyWrapped a_keys a_box a_unbox a_round a_block a_moved a_tweak a_plain a_tag a_difference := by
    intro asd1 h1
    refine sv_pa40 hs (by omega) (by omega) (fun asd2 h2 h3 => sv_pa83 (by omega) (by omega) (fun c => h asd2 (nI s) (Or.inl ⟨by omega, rfl, fun i hi => ?_, h3 (by omega)⟩)) (fun c => h asd2 f_asideFor (Or.inr ⟨by omega, rfl⟩)))
    rw [h2 i hi]
    exact h1 (by omega) i hi
  refine sv_mayWrite (by omega) (by omega) (fun c => ?_) (fun c => ?_)
  · refine sv_loop (fun n i x => wX_putAside_7 post (nI s) 1 f_isThere f_volumes f_generation f_renewed f_asideFor f_copyOf f_copyGeneration f_isOpen f_roundsOf (sv_wi (w - 1)) n i a_sectors a_tags a_used a_telling a_wrapped a_wrappedData x a_copyUsed a_copyTelling a_copyWrapped a_keys a_box a_unbox a_round a_block a_moved a_tweak a_plain a_tag a_difference) 32 0 a_aside (fun i => a_sectors (32 * s + i)) (fun n => br_t (nI_le (Nat.le_refl 32) (by decide)) (tail _ (fun _ i hi => ?_))) (fun n i hi hw => ?_)
    · have := sv_fl_in (a := a_aside) (o := 0) (g := fun i => a_sectors (32 * s + i)) hi
      rw [Nat.zero_add] at this
      exact this
    · have e1 : (32 : Int32) * nI s + nI i = nI (32 * s + i) := sv_ix 32 s i
      refine br_f (nI_ge (b := 32) hi (by decide)) (br_f (by decide) ⟨pk_in (32 * s + i) 384 (by omega) e1, vp_in_nI (by omega) (by decide), nm_r (e' := sv_fl a_aside 0 (i + 1) (fun i => a_sectors (32 * s + i))) (sv_st0 (by omega) ?_) (nm_r (nI_1 i) hw)⟩)
      rw [e1, nI_clamp (by omega)]
  · exact ⟨1, br_f (by decide) (br_t rfl (tail _ (fun z => absurd z (by omega))))⟩
theorem sv_rnTags {post : SX → Prop} {s : Nat} {T : Nat → Int32} (hs : s < 12) (hT : sv_xor (sv_sl a_tag 0) (sv_sl a_difference 0) = T) (h : ∀ tags, sv_sl tags (16 * s) = T → (∀ z, z < 12 → z ≠ s → sv_sl tags (16 * z) = sv_sl a_tags (16 * z)) → wX_renewNext_117 post f_isThere f_volumes f_generation f_renewed f_asideFor f_copyOf f_copyGeneration f_isOpen f_roundsOf f_writesLeft a_sectors tags a_used a_telling a_wrapped a_wrappedData a_aside a_copyUsed a_copyTelling a_copyWrapped a_keys a_box a_unbox a_round a_block a_moved a_tweak a_plain a_tag a_difference) : ∃ n, wX_renewNext_81 post (nI s) f_isThere f_volumes f_generation f_renewed f_asideFor f_copyOf f_copyGeneration f_isOpen f_roundsOf f_writesLeft n 0 a_sectors a_tags a_used a_telling a_wrapped a_wrappedData a_aside a_copyUsed a_copyTelling a_copyWrapped a_keys a_box a_unbox a_round a_block a_moved a_tweak a_plain a_tag a_difference := by
  refine sv_loop (fun n i x => wX_renewNext_81 post (nI s) f_isThere f_volumes f_generation f_renewed f_asideFor f_copyOf f_copyGeneration f_isOpen f_roundsOf f_writesLeft n i a_sectors x a_used a_telling a_wrapped a_wrappedData a_aside a_copyUsed a_copyTelling a_copyWrapped a_keys a_box a_unbox a_round a_block a_moved a_tweak a_plain a_tag a_difference) 16 (16 * s) a_tags (fun i => a_tag i ^^^ a_difference i) (fun n => br_t (nI_le (Nat.le_refl 16) (by decide)) (h _ ?_ (fun z hz hn => sv_sl_out (by omega)))) (fun n i hi hw => ?_)
  · rw [← hT]
    refine sv_sl_fl (fun j hj => ?_) (fun j hj => ?_)
    · show _ = sv_sl a_tag 0 j ^^^ sv_sl a_difference 0 j
      rw [sv_sl_lt hj, sv_sl_lt hj, Nat.zero_add]
    · show sv_sl a_tag 0 j ^^^ sv_sl a_difference 0 j = 0
      rw [sv_sl_ge hj, sv_sl_ge hj]; rfl
  · have e : (16 : Int32) * nI s + nI i = nI (16 * s + i) := sv_ix 16 s i
    have hin : vp_in (nI i) 16 := vp_in_nI hi (by decide)
    refine br_f (nI_ge (b := 16) hi (by decide)) ⟨hin, hin, pk_in (16 * s + i) 192 (by omega) e, nm_r (e' := sv_fl a_tags (16 * s) (i + 1) (fun i => a_tag i ^^^ a_difference i)) (sv_st e (by omega) ?_) (nm_r (nI_1 i) hw)⟩
    rw [nI_clamp (by omega)]
theorem sv_rnBody {post : SX → Prop} {κ : Nat → Nat → Int32} {s : Nat} {w : Int} (hs : s < 12) (hw0 : 0 ≤ w) (hw8 : w ≤ 8) (H : sv_H a_box a_unbox a_keys a_round f_roundsOf κ) (hA : sv_V (sv_sl a_sectors (32 * s))) (hB : sv_V (sv_sl a_sectors (32 * s + 16)))
    (h : ∀ b m rnd ks tw pl tg df asd af sec tags ro κ', sv_H a_box a_unbox ks rnd ro κ' → (∀ q, q < 5 → κ' q = κ q) → sv_sealed (w - 1 - 1 - 1) a_box s (κ 4) (sv_pt a_box a_unbox s (κ 3) 0 (sv_sl a_sectors (32 * s))) (sv_pt a_box a_unbox s (κ 3) 1 (sv_sl a_sectors (32 * s + 16))) a_sectors sec →
      (6 ≤ w → sv_sl tags (16 * s) = sv_xor (sv_tg a_box s (sv_sl sec (32 * s)) (sv_sl sec (32 * s + 16))) (sv_xor (sv_sl a_tags (16 * s)) (sv_tg a_box s (sv_sl a_sectors (32 * s)) (sv_sl a_sectors (32 * s + 16))))) → (w < 6 → tags = a_tags) → (∀ z, z < 12 → z ≠ s → sv_sl tags (16 * z) = sv_sl a_tags (16 * z)) →
      (3 ≤ w ∧ af = nI s ∧ (∀ i, i < 32 → asd i = a_sectors (32 * s + i)) ∧ (∀ i, i < 16 → asd (32 + i) = a_tags (16 * s + i)) ∨ w < 3 ∧ af = f_asideFor) →
      wX_renewNext_117 post f_isThere f_volumes f_generation (nI s) af f_copyOf f_copyGeneration f_isOpen ro (sv_wi (w - 1 - 1 - 1 - 1 - 1 - 1)) sec tags a_used a_telling a_wrapped a_wrappedData asd a_copyUsed a_copyTelling a_copyWrapped ks a_box a_unbox rnd b m tw pl tg df) : wpX_renewNext post (f_isThere, f_volumes, f_generation, nI s, f_asideFor, f_copyOf, f_copyGeneration, f_isOpen, f_roundsOf, sv_wi w, a_sectors, a_tags, a_used, a_telling, a_wrapped, a_wrappedData, a_aside, a_copyUsed, a_copyTelling, a_copyWrapped, a_keys, a_box, a_unbox, a_round, a_block, a_moved, a_tweak, a_plain, a_tag, a_difference) := by
  unfold wpX_renewNext
  have V3 := H.2.2.1 3 (by omega)
  have V4 := H.2.2.1 4 (by omega)
  refine sv_putAside hs (by omega) (by omega) (fun asd af haf => sv_open (q := 3) (by omega) hs H hA hB (fun b1 m1 rnd1 ks1 tw1 pl1 H1 g0 g1 => sv_findTag hs H1 hA hB (fun b2 m2 rnd2 tg2 H2 h2 => ?_)))
  refine sv_loop (fun n i x => wX_renewNext_24 post (nI s) f_isThere f_volumes f_generation (nI s) af f_copyOf f_copyGeneration f_isOpen (nI (16 * 0)) (sv_wi (w - 1 - 1 - 1)) n i a_sectors a_tags a_used a_telling a_wrapped a_wrappedData asd a_copyUsed a_copyTelling a_copyWrapped ks1 a_box a_unbox rnd2 b2 m2 tw1 pl1 tg2 x) 16 0 a_difference (fun i => a_tags (16 * s + i) ^^^ tg2 i) (fun n => br_t (nI_le (Nat.le_refl 16) (by decide)) ?_) (fun n i hi hw => ?_)
  · have hdf : sv_sl (sv_fl a_difference 0 16 (fun i => a_tags (16 * s + i) ^^^ tg2 i)) 0 = sv_xor (sv_sl a_tags (16 * s)) (sv_tg a_box s (sv_sl a_sectors (32 * s)) (sv_sl a_sectors (32 * s + 16))) := by
      rw [← h2]
      refine sv_sl_fl (fun j hj => ?_) (fun j hj => ?_)
      · show _ = sv_sl a_tags (16 * s) j ^^^ sv_sl tg2 0 j
        rw [sv_sl_lt hj, sv_sl_lt hj, Nat.zero_add]
      · show sv_sl a_tags (16 * s) j ^^^ sv_sl tg2 0 j = 0
        rw [sv_sl_ge hj, sv_sl_ge hj]; rfl
    have VP0 : sv_V (sv_sl pl1 0) := by rw [g0]; exact sv_pt_V H.1 V3 hs 0 hA
    have VP1 : sv_V (sv_sl pl1 16) := by rw [g1]; exact sv_pt_V H.1 V3 hs 1 hB
    refine sv_seal (q := 4) (by omega) hs (by omega) (by omega) H2 VP0 VP1 (fun b3 m3 rnd3 ks3 tw3 sec3 H3 hS => ?_)
    rw [sv_ks_n (p := 4) (by decide)] at hS
    have VA3 : sv_V (sv_sl sec3 (32 * s)) := by
      rcases hS.2.2.2.1 with e | e
      · rw [e]; exact hA
      · rw [e]; exact sv_ct_V H.1 V4 hs 0 VP0
    have VB3 : sv_V (sv_sl sec3 (32 * s + 16)) := by
      rcases hS.2.2.2.2 with e | e
      · rw [e]; exact hB
      · rw [e]; exact sv_ct_V H.1 V4 hs 1 VP1
    rw [g0, g1] at hS
    have hk : ∀ q, q < 5 → sv_ks (sv_ks κ 5 (sv_tk a_box (κ 3))) 5 (sv_tk a_box (sv_ks κ 5 (sv_tk a_box (κ 3)) 4)) q = κ q := fun q hq => by rw [sv_ks_n (by omega), sv_ks_n (by omega)]
    refine sv_mayWrite (by omega) (by omega) (fun c => ?_) (fun c => ?_)
    · refine br_f (by decide) (sv_findTag hs H3 VA3 VB3 (fun b4 m4 rnd4 tg4 H4 h4 => ?_))
      refine sv_rnTags hs (T := sv_xor (sv_tg a_box s (sv_sl sec3 (32 * s)) (sv_sl sec3 (32 * s + 16))) (sv_xor (sv_sl a_tags (16 * s)) (sv_tg a_box s (sv_sl a_sectors (32 * s)) (sv_sl a_sectors (32 * s + 16))))) (by rw [h4, hdf]) (fun tags5 h5 h6 => ?_)
      exact h b4 m4 rnd4 ks3 tw3 pl1 tg4 _ asd af sec3 tags5 _ _ H4 hk hS (fun _ => h5) (fun z => absurd z (by omega)) h6 haf
    · exact br_t rfl (h b3 m3 rnd3 ks3 tw3 pl1 tg2 _ asd af sec3 a_tags _ _ H3 hk hS (fun z => absurd z (by omega)) (fun _ => rfl) (fun _ _ _ => rfl) haf)
  · have e : (16 : Int32) * nI s + nI i = nI (16 * s + i) := sv_ix 16 s i
    have hin : vp_in (nI i) 16 := vp_in_nI hi (by decide)
    refine br_f (nI_ge (b := 16) hi (by decide)) ⟨pk_in (16 * s + i) 192 (by omega) e, hin, hin, nm_r (e' := sv_fl a_difference 0 (i + 1) (fun i => a_tags (16 * s + i) ^^^ tg2 i)) (sv_st0 (by omega) ?_) (nm_r (nI_1 i) hw)⟩
    rw [e, nI_clamp (n := 16 * s + i) (by omega), nI_clamp (by omega)]
def sv_ek (keys : Nat → Int32) (i : Nat) : Nat → Int32 := fun j => if 48 ≤ j ∧ j < 48 + i then keys (j + 16) else if 64 ≤ j ∧ j < 64 + i then 0 else keys j
theorem sv_ek_0 (keys : Nat → Int32) : sv_ek keys 0 = keys := funext fun j => by
  unfold sv_ek
  rw [if_neg (by omega), if_neg (by omega)]
theorem sv_ek_r {keys : Nat → Int32} {i : Nat} (hi : i < 16) : sv_ek keys i (64 + i) = keys (64 + i) := by
  unfold sv_ek
  rw [if_neg (by omega), if_neg (by omega)]
theorem sv_ek_s {keys : Nat → Int32} {i : Nat} (hi : i < 16) : upd (upd (sv_ek keys i) (48 + i) (keys (64 + i))) (64 + i) 0 = sv_ek keys (i + 1) := by
  funext j
  unfold upd sv_ek
  by_cases c1 : j = 64 + i
  · rw [if_pos c1, if_neg (by omega), if_pos (by omega)]
  · rw [if_neg c1]
    by_cases c2 : j = 48 + i
    · rw [if_pos c2, if_pos (by omega)]
      exact congrArg keys (by omega)
    · rw [if_neg c2]
      by_cases c3 : 48 ≤ j ∧ j < 48 + i
      · rw [if_pos c3, if_pos (by omega)]
      · rw [if_neg c3, if_neg (show ¬ (48 ≤ j ∧ j < 48 + (i + 1)) by omega)]
        by_cases c4 : 64 ≤ j ∧ j < 64 + i
        · rw [if_pos c4, if_pos (show 64 ≤ j ∧ j < 64 + (i + 1) by omega)]
        · rw [if_neg c4, if_neg (show ¬ (64 ≤ j ∧ j < 64 + (i + 1)) by omega)]
theorem sv_endRenewing {post : SX → Prop} {κ : Nat → Nat → Int32} (H : sv_H a_box a_unbox a_keys a_round f_roundsOf κ) (h : ∀ ks wd, sv_H a_box a_unbox ks a_round (-1) (sv_ks (sv_ks κ 3 (κ 4)) 4 (fun _ => 0)) → sv_sl wd 0 = sv_sl a_wrappedData 16 → post (f_isThere, f_volumes, f_generation, (-1), f_asideFor, f_copyOf, f_copyGeneration, f_isOpen, (-1), f_writesLeft, a_sectors, a_tags, a_used, a_telling, a_wrapped, wd, a_aside, a_copyUsed, a_copyTelling, a_copyWrapped, ks, a_box, a_unbox, a_round, a_block, a_moved, a_tweak, a_plain, a_tag, a_difference)) : wpX_endRenewing post (f_isThere, f_volumes, f_generation, f_renewed, f_asideFor, f_copyOf, f_copyGeneration, f_isOpen, f_roundsOf, f_writesLeft, a_sectors, a_tags, a_used, a_telling, a_wrapped, a_wrappedData, a_aside, a_copyUsed, a_copyTelling, a_copyWrapped, a_keys, a_box, a_unbox, a_round, a_block, a_moved, a_tweak, a_plain, a_tag, a_difference) := by
  have key : ∀ d i, i + d = 16 → wX_endRenewing_2 post f_isThere f_volumes f_generation f_renewed f_asideFor f_copyOf f_copyGeneration f_isOpen f_roundsOf f_writesLeft (d + 1) (nI i) a_sectors a_tags a_used a_telling a_wrapped (sv_fl a_wrappedData 0 i (fun j => a_wrappedData (16 + j))) a_aside a_copyUsed a_copyTelling a_copyWrapped (sv_ek a_keys i) a_box a_unbox a_round a_block a_moved a_tweak a_plain a_tag a_difference := by
    intro d
    induction d with
    | zero =>
      intro i hi
      have i16 : i = 16 := by omega
      subst i16
      obtain ⟨hbx, hk, hv, h0, _⟩ := H
      refine br_t (nI_le (Nat.le_refl 16) (by decide)) (h _ _ ⟨hbx, fun q hq => ?_, fun q hq => ?_, ?_, Or.inl rfl⟩ ?_)
      · by_cases c4 : q = 4
        · subst c4
          rw [sv_ks_s]
          refine sv_sl_B (fun j hj => ?_) (fun j _ => rfl)
          unfold sv_ek
          rw [if_neg (by omega), if_pos (by omega)]
        · rw [sv_ks_n c4]
          by_cases c3 : q = 3
          · subst c3
            rw [sv_ks_s, ← hk 4 (by omega)]
            refine sv_sl_eq (fun j hj => ?_)
            unfold sv_ek
            rw [if_pos (by omega)]
            exact congrArg a_keys (by omega)
          · rw [sv_ks_n c3, ← hk q hq]
            refine sv_sl_eq (fun j hj => ?_)
            unfold sv_ek
            rw [if_neg (by omega), if_neg (by omega)]
      · by_cases c4 : q = 4
        · subst c4
          rw [sv_ks_s]
          exact fun j => ⟨sv_b_0, fun _ => rfl⟩
        · rw [sv_ks_n c4]
          by_cases c3 : q = 3
          · subst c3; rw [sv_ks_s]; exact hv 4 (by omega)
          · rw [sv_ks_n c3]; exact hv q hq
      · rw [sv_ks_n (by decide), sv_ks_n (by decide), h0]
      · exact sv_sl_fl (fun j hj => sv_sl_g hj) (fun j hj => sv_sl_ge hj)
    | succ d ih =>
      intro i hi
      have hi16 : i < 16 := by omega
      have e64 : (64 : Int32) + nI i = nI (64 + i) := nI_add 64 i
      have e48 : (48 : Int32) + nI i = nI (48 + i) := nI_add 48 i
      have e16 : (16 : Int32) + nI i = nI (16 + i) := nI_add 16 i
      have i64 : vp_in (nI (64 + i)) 96 := vp_in_nI (by omega) (by decide)
      have i48 : vp_in (nI (48 + i)) 96 := vp_in_nI (by omega) (by decide)
      have i16 : vp_in (nI (16 + i)) 32 := vp_in_nI (by omega) (by decide)
      refine br_f (nI_ge (b := 16) hi16 (by decide)) ?_
      rw [e64, e48, e16, nI_clamp (n := 64 + i) (by omega), nI_clamp (n := 48 + i) (by omega), nI_clamp (n := 16 + i) (by omega), sv_ek_r hi16, sv_fl_out (j := 16 + i) (by omega)]
      exact ⟨i64, i48, nm_e ⟨i64, nm_r (sv_ek_s hi16) ⟨i16, vp_in_nI (by omega) (by decide), nm_r (e' := sv_fl a_wrappedData 0 (i + 1) (fun j => a_wrappedData (16 + j))) (sv_st0 (by omega) rfl) (nm_r (nI_1 i) (ih (i + 1) (by omega)))⟩⟩⟩
  have k0 := key 16 0 rfl
  rw [sv_fl_0, sv_ek_0, nI_0] at k0
  exact ⟨17, k0⟩
end
end
section
theorem sv_xor_s (X T : Nat → Int32) : sv_xor X (sv_xor T T) = X := funext fun j => by
  show X j ^^^ (T j ^^^ T j) = X j
  rw [Int32.xor_self, Int32.xor_zero]
theorem sv_xor_n {X T Y : Nat → Int32} (h : T ≠ Y) : sv_xor X (sv_xor T Y) ≠ X := fun e => h (funext fun j => by
  have e1 : X j ^^^ (T j ^^^ Y j) = X j := congrFun e j
  have e2 : X j ^^^ (X j ^^^ (T j ^^^ Y j)) = X j ^^^ X j := by rw [e1]
  rw [sv_x_can', Int32.xor_self] at e2
  have e3 : T j ^^^ (T j ^^^ Y j) = T j ^^^ 0 := by rw [e2]
  rw [sv_x_can', Int32.xor_zero] at e3
  exact e3.symm)
theorem sv_SS_renew {bx ub sec tags cells dmg sec' tags' D F : Nat → Int32} {t s : Nat} {w : Int} (hb : sv_BX bx ub) (hD : sv_V D) (hF : sv_V F) (h : sv_SS bx sec tags cells dmg t D F) (ht : t ≠ 0) (ht2 : t ≤ 12) (es : s = 12 - t) (hw : 2 ≤ w)
    (hS : sv_sealed w bx s F (sv_pt bx ub s D 0 (sv_sl sec (32 * s))) (sv_pt bx ub s D 1 (sv_sl sec (32 * s + 16))) sec sec')
    (hT : sv_sl tags' (16 * s) = sv_xor (sv_tg bx s (sv_sl sec' (32 * s)) (sv_sl sec' (32 * s + 16))) (sv_xor (sv_sl tags (16 * s)) (sv_tg bx s (sv_sl sec (32 * s)) (sv_sl sec (32 * s + 16)))))
    (ho : ∀ z, z < 12 → z ≠ s → sv_sl tags' (16 * z) = sv_sl tags (16 * z)) : sv_SS bx sec' tags' cells dmg (t - 1) (if t = 1 then F else D) F := by
  obtain ⟨s1, s2, _⟩ := hS
  obtain ⟨s3, s4⟩ := s2 hw
  intro z hz
  have ek : sv_dk (if t = 1 then F else D) F (t - 1) z = if z ≤ s then F else D := by
    unfold sv_dk
    by_cases c : t = 1
    · rw [if_pos c, if_neg (by omega), if_pos (by omega)]
    · rw [if_neg c]
      by_cases c2 : z ≤ s
      · rw [if_pos c2, if_pos (by omega)]
      · rw [if_neg c2, if_neg (by omega)]
  by_cases c : z = s
  · subst c
    have e0 : sv_dk D F t z = D := if_neg (by omega)
    obtain ⟨VA, VB, h0, h1⟩ := h z hz
    rw [e0] at h0
    rw [ek, if_pos (Nat.le_refl z)]
    have VP0 := sv_pt_V hb hD hz 0 VA
    have VP1 := sv_pt_V hb hD hz 1 VB
    refine ⟨by rw [s3]; exact sv_ct_V hb hF hz 0 VP0, by rw [s4]; exact sv_ct_V hb hF hz 1 VP1, fun d => ?_, fun d => ?_⟩
    · obtain ⟨q1, q2, q3⟩ := h0 d
      refine ⟨?_, ?_, ?_⟩
      · rw [hT, q1, sv_xor_s]
      · rw [s3, q2, sv_pt_ct hb hD hz 0 (sv_pl_V _ _ _)]
      · rw [s4, q3, sv_pt_ct hb hD hz 1 (sv_pl_V _ _ _)]
    · rw [hT]
      exact sv_xor_n (h1 d)
  · have e0 : sv_dk D F t z = if z ≤ s then F else D := by
      unfold sv_dk
      by_cases c2 : z ≤ s
      · rw [if_pos c2, if_pos (by omega)]
      · rw [if_neg c2, if_neg (by omega)]
    have hz0 := h z hz
    rw [e0] at hz0
    rw [ek, (s1 z hz c).1, (s1 z hz c).2, ho z hz c]
    exact hz0
section
variable {f_isThere f_volumes f_generation f_renewed f_asideFor f_copyOf f_copyGeneration f_isOpen f_roundsOf f_writesLeft : Int32} {a_sectors a_tags a_used a_telling a_wrapped a_wrappedData a_aside a_copyUsed a_copyTelling a_copyWrapped a_keys a_box a_unbox a_round a_block a_moved a_tweak a_plain a_tag a_difference : Nat → Int32}
variable {g_isThere g_isOpen g_left g_hasCopy g_isStale : Int32} {b_cells b_damaged b_used b_phrases b_copyUsed b_copyPhrases : Nat → Int32}
variable {vol co gen t : Nat} {R D F : Nat → Int32} {κ : Nat → Nat → Int32}
theorem sv_renewNext {k : Nat} {post : SX → Prop} (H : sv_H a_box a_unbox a_keys a_round f_roundsOf κ) (p : sv_P1 k R D F vol co gen t κ f_copyGeneration f_isOpen g_hasCopy g_isStale a_sectors a_tags a_used a_telling a_wrapped a_wrappedData a_copyUsed a_copyTelling a_copyWrapped a_box b_cells b_damaged b_phrases b_copyPhrases) (hop : f_isOpen ≠ 0) (ht : t ≠ 0)
    (h : ∀ b m rnd ks tw pl tg df asd sec tags wd ro wl κ' D', sv_H a_box a_unbox ks rnd ro κ' → sv_P1 k R D' F vol co gen (t - 1) κ' f_copyGeneration f_isOpen g_hasCopy g_isStale sec tags a_used a_telling a_wrapped wd a_copyUsed a_copyTelling a_copyWrapped a_box b_cells b_damaged b_phrases b_copyPhrases → post (1, nI vol, nI gen, sv_rn (t - 1), (-1), nI co, f_copyGeneration, f_isOpen, ro, wl, sec, tags, a_used, a_telling, a_wrapped, wd, asd, a_copyUsed, a_copyTelling, a_copyWrapped, ks, a_box, a_unbox, rnd, b, m, tw, pl, tg, df)) : wpX_renewNext post (1, nI vol, nI gen, sv_rn t, (-1), nI co, f_copyGeneration, f_isOpen, f_roundsOf, sv_wi 8, a_sectors, a_tags, a_used, a_telling, a_wrapped, a_wrappedData, a_aside, a_copyUsed, a_copyTelling, a_copyWrapped, a_keys, a_box, a_unbox, a_round, a_block, a_moved, a_tweak, a_plain, a_tag, a_difference) := by
  obtain ⟨p1, p2, p3, ⟨VR, VD, VF⟩, p5, p6, p7, p8, p9⟩ := p
  obtain ⟨k2, k3, k4f⟩ := p5 hop
  have k4 := k4f ht
  obtain ⟨s, es⟩ : ∃ s, s = 12 - t := ⟨_, rfl⟩
  have hs : s < 12 := by omega
  have ers : sv_rn t = nI s := by rw [es]; exact if_neg ht
  obtain ⟨VA, VB, _, _⟩ := p8 s hs
  rw [ers]
  refine sv_rnBody (w := 8) hs (by omega) (by omega) H VA VB (fun b m rnd ks tw pl tg df asd af sec tags ro κ' H' hk hS hT1 _ hT2 _ => ?_)
  rw [k3, k4] at hS
  have hSS := sv_SS_renew H.1 VD VF p8 ht p2 es (by omega) hS (hT1 (by omega)) hT2
  unfold wX_renewNext_117
  refine sv_mayWrite (by omega) (by omega) (fun _ => br_f (by decide) (nm_r (nI_1 s) ?_)) (fun z => absurd z (by omega))
  unfold wX_renewNext_139
  refine pk_eq (s + 1) 12 (fun c => ?_) (fun c => ?_)
  · have t1 : t = 1 := by omega
    subst t1
    refine sv_endRenewing H' (fun ks2 wd2 H2 h2 => ?_)
    refine h b m rnd ks2 tw pl tg df asd sec tags wd2 (-1) _ _ F H2 ?_
    refine ⟨p1, by omega, p3, ⟨VR, VF, VF⟩, fun _ => ⟨?_, ?_, fun z => absurd rfl z⟩, ⟨by rw [h2]; exact p6.2 (by decide), fun z => absurd rfl z⟩, p7, hSS, p9⟩
    · rw [sv_ks_n (by decide), sv_ks_n (by decide), hk 2 (by omega), k2]
    · rw [sv_ks_n (by decide), sv_ks_s, hk 4 (by omega), k4]
  · have e1 : sv_rn (t - 1) = nI (s + 1) := by
      have : 12 - (t - 1) = s + 1 := by omega
      unfold sv_rn
      rw [if_neg (by omega), this]
    have kk := h b m rnd ks tw pl tg df asd sec tags a_wrappedData ro (sv_wi (8 - 1 - 1 - 1 - 1 - 1 - 1 - 1)) κ' D H' (by
      refine ⟨p1, by omega, p3, ⟨VR, VD, VF⟩, fun _ => ⟨?_, ?_, fun _ => ?_⟩, ⟨p6.1, fun _ => p6.2 ht⟩, p7, ?_, p9⟩
      · rw [hk 2 (by omega), k2]
      · rw [hk 3 (by omega), k3]
      · rw [hk 4 (by omega), k4]
      · rw [if_neg (by omega)] at hSS
        exact hSS)
    rw [e1] at kk
    exact kk
/-- the renewing's loop -/
theorem sv_renew_l {k : Nat} {post : Int32 → SX → Prop} {m : Nat} (hm : m < 2 ^ 31) (hop : f_isOpen ≠ 0) : ∀ (t n : Nat), n ≤ m →
    ∀ (f_roundsOf f_writesLeft : Int32) (a_sectors a_tags a_wrappedData a_aside a_keys a_round a_block a_moved a_tweak a_plain a_tag a_difference D : Nat → Int32) (κ : Nat → Nat → Int32),
    (∀ b mv rnd ks tw pl tg df asd sec tags wd ro wl κ' D', sv_H a_box a_unbox ks rnd ro κ' → sv_P1 k R D' F vol co gen (t - (m - n)) κ' f_copyGeneration f_isOpen g_hasCopy g_isStale sec tags a_used a_telling a_wrapped wd a_copyUsed a_copyTelling a_copyWrapped a_box b_cells b_damaged b_phrases b_copyPhrases → post (nI (t - (m - n))) (1, nI vol, nI gen, sv_rn (t - (m - n)), (-1), nI co, f_copyGeneration, f_isOpen, ro, wl, sec, tags, a_used, a_telling, a_wrapped, wd, asd, a_copyUsed, a_copyTelling, a_copyWrapped, ks, a_box, a_unbox, rnd, b, mv, tw, pl, tg, df)) →
    sv_H a_box a_unbox a_keys a_round f_roundsOf κ → sv_P1 k R D F vol co gen t κ f_copyGeneration f_isOpen g_hasCopy g_isStale a_sectors a_tags a_used a_telling a_wrapped a_wrappedData a_copyUsed a_copyTelling a_copyWrapped a_box b_cells b_damaged b_phrases b_copyPhrases →
    wX_renew_23 post (nI m) (t + 1) (nI n) 1 (nI vol) (nI gen) (sv_rn t) (-1) (nI co) f_copyGeneration f_isOpen f_roundsOf f_writesLeft a_sectors a_tags a_used a_telling a_wrapped a_wrappedData a_aside a_copyUsed a_copyTelling a_copyWrapped a_keys a_box a_unbox a_round a_block a_moved a_tweak a_plain a_tag a_difference := by
  intro t
  induction t with
  | zero =>
    intro n hn f_roundsOf f_writesLeft a_sectors a_tags a_wrappedData a_aside a_keys a_round a_block a_moved a_tweak a_plain a_tag a_difference D κ h H p
    rw [show 0 - (m - n) = 0 by omega] at h
    have fin : wX_renew_51 post 1 (nI vol) (nI gen) (sv_rn 0) (-1) (nI co) f_copyGeneration f_isOpen f_roundsOf f_writesLeft a_sectors a_tags a_used a_telling a_wrapped a_wrappedData a_aside a_copyUsed a_copyTelling a_copyWrapped a_keys a_box a_unbox a_round a_block a_moved a_tweak a_plain a_tag a_difference := by
      unfold wX_renew_51
      exact sv_toRenew (by omega) (h _ _ _ _ _ _ _ _ _ _ _ _ _ _ _ _ H p)
    exact br_c (fun _ => fin) (fun _ => br_t sv_rn_neg fin)
  | succ t ih =>
    intro n hn f_roundsOf f_writesLeft a_sectors a_tags a_wrappedData a_aside a_keys a_round a_block a_moved a_tweak a_plain a_tag a_difference D κ h H p
    refine pk_le m n (fun c => ?_) (fun c => br_f (sv_rn_pos (by omega)) ?_)
    · rw [show t + 1 - (m - n) = t + 1 by omega] at h
      unfold wX_renew_51
      exact sv_toRenew p.2.1 (h _ _ _ _ _ _ _ _ _ _ _ _ _ _ _ _ H p)
    · refine sv_renewNext H p hop (by omega) (fun b mv rnd ks tw pl tg df asd sec tags wd ro wl κ' D' H' p' => nm_r (nI_1 n) ?_)
      rw [show t + 1 - (m - n) = t - (m - (n + 1)) by omega] at h
      exact ih (n + 1) (by omega) ro wl sec tags wd asd ks rnd b mv tw pl tg df D' κ' h H' p'
/-- how many are left behind a renewing of v steps -/
def sv_lf (t : Nat) (v : Int32) : Nat := t - v.toNatClampNeg
theorem sv_xrenew {k : Nat} {post : Int32 → SX → Prop} {v : Int32} (hop : f_isOpen ≠ 0) (H : sv_H a_box a_unbox a_keys a_round f_roundsOf κ) (p : sv_P1 k R D F vol co gen t κ f_copyGeneration f_isOpen g_hasCopy g_isStale a_sectors a_tags a_used a_telling a_wrapped a_wrappedData a_copyUsed a_copyTelling a_copyWrapped a_box b_cells b_damaged b_phrases b_copyPhrases)
    (h : ∀ b mv rnd ks tw pl tg df asd sec tags wd ro wl κ' D', sv_H a_box a_unbox ks rnd ro κ' → sv_P1 k R D' F vol co gen (sv_lf t v) κ' f_copyGeneration f_isOpen g_hasCopy g_isStale sec tags a_used a_telling a_wrapped wd a_copyUsed a_copyTelling a_copyWrapped a_box b_cells b_damaged b_phrases b_copyPhrases → post (nI (sv_lf t v)) (1, nI vol, nI gen, sv_rn (sv_lf t v), (-1), nI co, f_copyGeneration, f_isOpen, ro, wl, sec, tags, a_used, a_telling, a_wrapped, wd, asd, a_copyUsed, a_copyTelling, a_copyWrapped, ks, a_box, a_unbox, rnd, b, mv, tw, pl, tg, df)) : ∃ n, wX_renew_23 post v n 0 1 (nI vol) (nI gen) (sv_rn t) (-1) (nI co) f_copyGeneration f_isOpen f_roundsOf f_writesLeft a_sectors a_tags a_used a_telling a_wrapped a_wrappedData a_aside a_copyUsed a_copyTelling a_copyWrapped a_keys a_box a_unbox a_round a_block a_moved a_tweak a_plain a_tag a_difference := by
  by_cases c : v < 0
  · have e : sv_lf t v = t := by
      have : v.toNatClampNeg = v.toInt.toNat := rfl
      rw [Int32.lt_iff_toInt_lt, show (0 : Int32).toInt = 0 from by decide] at c
      unfold sv_lf
      omega
    rw [e] at h
    refine ⟨1, br_t ?_ ?_⟩
    · rw [Int32.lt_iff_toInt_lt] at c
      rw [Int32.le_iff_toInt_le]
      omega
    · unfold wX_renew_51
      exact sv_toRenew p.2.1 (h _ _ _ _ _ _ _ _ _ _ _ _ _ _ _ _ H p)
  · obtain ⟨m, hm, rfl⟩ := nI_of c
    have e : sv_lf t (nI m) = t - (m - 0) := by
      unfold sv_lf
      rw [nI_clamp hm]
      rfl
    rw [e] at h
    have k0 := sv_renew_l hm hop t 0 (by omega) f_roundsOf f_writesLeft a_sectors a_tags a_wrappedData a_aside a_keys a_round a_block a_moved a_tweak a_plain a_tag a_difference D κ h H p
    rw [nI_0] at k0
    exact ⟨t + 1, k0⟩
theorem sv_yrenew {post : Int32 → SY → Prop} {v : Int32} (ht : t ≤ 12) (h : post (nI (sv_lf t v)) (g_isThere, g_isOpen, nI (sv_lf t v), g_hasCopy, g_isStale, b_cells, b_damaged, b_used, b_phrases, b_copyUsed, b_copyPhrases)) : wY_renew_28 post v g_isThere g_isOpen (nI t) g_hasCopy g_isStale b_cells b_damaged b_used b_phrases b_copyUsed b_copyPhrases := by
  unfold wY_renew_28
  have z : (0 : Int32).toInt = 0 := by decide
  refine br_c (fun c => ?_) (fun c => ?_)
  · have e : sv_lf t v = t := by
      have : v.toNatClampNeg = v.toInt.toNat := rfl
      rw [Int32.le_iff_toInt_le, z] at c
      unfold sv_lf
      omega
    rw [e] at h
    exact h
  · have c0 : ¬ v < 0 := fun w => c (by rw [Int32.lt_iff_toInt_lt] at w; rw [Int32.le_iff_toInt_le]; omega)
    obtain ⟨m, hm, rfl⟩ := nI_of c0
    have e : sv_lf t (nI m) = t - m := by
      unfold sv_lf
      rw [nI_clamp hm]
    rw [e] at h
    refine pk_le m t (fun c2 => ?_) (fun c2 => ?_)
    · exact nm_r (pk_sub c2) h
    · rw [show t - m = 0 by omega] at h
      exact h
end
end
section
section
variable {f_isThere f_volumes f_generation f_renewed f_asideFor f_copyOf f_copyGeneration f_isOpen f_roundsOf f_writesLeft : Int32} {a_sectors a_tags a_used a_telling a_wrapped a_wrappedData a_aside a_copyUsed a_copyTelling a_copyWrapped a_keys a_box a_unbox a_round a_block a_moved a_tweak a_plain a_tag a_difference : Nat → Int32}
variable {g_isThere g_isOpen g_left g_hasCopy g_isStale : Int32} {b_cells b_damaged b_used b_phrases b_copyUsed b_copyPhrases : Nat → Int32}
variable {vol co gen t : Nat} {R D F : Nat → Int32} {κ : Nat → Nat → Int32}
theorem sv_begin {k : Nat} {post : SX → Prop} (H : sv_H a_box a_unbox a_keys a_round f_roundsOf κ) (p : sv_P1 k R D F vol co gen 0 κ f_copyGeneration f_isOpen g_hasCopy g_isStale a_sectors a_tags a_used a_telling a_wrapped a_wrappedData a_copyUsed a_copyTelling a_copyWrapped a_box b_cells b_damaged b_phrases b_copyPhrases) (hop : f_isOpen ≠ 0) (hk : k + 4 ≤ 2048)
    (h : ∀ b m rnd ks wd ro κ' F', sv_H a_box a_unbox ks rnd ro κ' → sv_P1 (k + 4) R D F' vol co (gen + 1) 12 κ' f_copyGeneration f_isOpen g_hasCopy 1 a_sectors a_tags a_used a_telling a_wrapped wd a_copyUsed a_copyTelling a_copyWrapped a_box b_cells b_damaged b_phrases b_copyPhrases → post (1, nI vol, nI (gen + 1), sv_rn 12, (-1), nI co, f_copyGeneration, f_isOpen, ro, f_writesLeft, a_sectors, a_tags, a_used, a_telling, a_wrapped, wd, a_aside, a_copyUsed, a_copyTelling, a_copyWrapped, ks, a_box, a_unbox, rnd, b, m, a_tweak, a_plain, a_tag, a_difference)) : wpX_beginRenewing post (1, nI vol, nI gen, sv_rn 0, (-1), nI co, f_copyGeneration, f_isOpen, f_roundsOf, f_writesLeft, a_sectors, a_tags, a_used, a_telling, a_wrapped, a_wrappedData, a_aside, a_copyUsed, a_copyTelling, a_copyWrapped, a_keys, a_box, a_unbox, a_round, a_block, a_moved, a_tweak, a_plain, a_tag, a_difference) := by
  obtain ⟨p1, p2, p3, ⟨VR, VD, VF⟩, p5, p6, p7, p8, p9⟩ := p
  obtain ⟨k2, k3, _⟩ := p5 hop
  unfold wpX_beginRenewing
  refine nm_r (nI_1 gen) (sv_derive H (nI (gen + 1)) 4 (fun b m rnd hb H1 => ?_))
  have VF' := sv_dq_V H.1 (nI (gen + 1)) (nI vol) 4
  refine sv_takeKey (q := 4) (by omega) (by omega) H1 hb VF' (fun ks ro _ H2 => sv_wrapData (q := 4) (p := 1) (by omega) (by omega) H2 (fun b3 m3 rnd3 wd3 H3 z1 z2 => ?_))
  rw [sv_ks_s, sv_ks_n (by decide), k2] at z1
  refine h b3 m3 rnd3 ks wd3 _ _ _ H3 ⟨p1, by omega, by omega, ⟨VR, VD, VF'⟩, fun _ => ⟨?_, ?_, fun _ => sv_ks_s _ _ _⟩, ⟨?_, fun _ => z1⟩, p7, fun s hs => ?_, ?_⟩
  · rw [sv_ks_n (by decide), k2]
  · rw [sv_ks_n (by decide), k3]
  · have e := z2 0 (by omega) (by decide)
    rw [show 16 * 0 = 0 from rfl] at e
    rw [e]
    exact p6.1
  · have e1 : sv_dk D (sv_dq a_box (nI (gen + 1)) (nI vol) 4) 12 s = D := if_neg (by omega)
    have e0 : sv_dk D F 0 s = D := if_neg (by omega)
    have q := p8 s hs
    rw [e0] at q
    rw [e1]
    exact q
  · rcases p9 with c | ⟨c1, c2, c3, c4, c5⟩
    · exact Or.inl c
    · refine Or.inr ⟨c1, c2, c3, ⟨fun z => absurd z (by decide), fun z => ?_⟩, ?_⟩
      · rcases c5 with e | ⟨n, hn, e⟩
        · exact absurd (e.symm.trans z) (sv_ng (by omega))
        · have := (nI_eq (by omega) (by omega)).mp (e.symm.trans z)
          omega
      · rcases c5 with e | ⟨n, hn, e⟩
        · exact Or.inl e
        · exact Or.inr ⟨n, by omega, e⟩
end
theorem i_vc_renew {k : Nat} {u : SX} {v : SY} (I : i_Rel k u v) (hk : k + 4 ≤ 2048) (v1 : Int32) : wpX_renew (fun r u' => wpY_renew (fun r' v' => r' = r ∧ i_Rel (k + 4) u' v') v v1) u v1 := by
  refine sv_el (P := fun u v => i_Rel (k + 4) u v → wpX_renew (fun r u' => wpY_renew (fun r' v' => r' = r ∧ i_Rel (k + 4) u' v') v v1) u v1) I ?_ ?_ (i_up I)
  · intro f_generation f_renewed f_asideFor f_copyGeneration f_roundsOf f_writesLeft a_sectors a_tags a_used a_telling a_wrapped a_wrappedData a_aside a_copyUsed a_copyTelling a_copyWrapped a_keys a_box a_unbox a_round a_block a_moved a_tweak a_plain a_tag a_difference g_hasCopy g_isStale b_cells b_damaged b_phrases b_copyPhrases κ vol co hv hc H J
    exact br_t rfl (br_t rfl ⟨rfl, J⟩)
  · intro f_copyGeneration f_isOpen f_roundsOf f_writesLeft a_sectors a_tags a_used a_telling a_wrapped a_wrappedData a_aside a_copyUsed a_copyTelling a_copyWrapped a_keys a_box a_unbox a_round a_block a_moved a_tweak a_plain a_tag a_difference g_hasCopy g_isStale b_cells b_damaged b_phrases b_copyPhrases κ R D F vol co gen t hv hc H h J
    refine br_c (fun c => br_t c ⟨rfl, J⟩) (fun c => ?_)
    by_cases ct : t = 0
    · subst ct
      refine br_f (by decide) (sv_begin H h c hk (fun b m rnd ks wd ro κ' F' H' p' => ?_))
      refine sv_xrenew c H' p' (fun b2 m2 rnd2 ks2 tw2 pl2 tg2 df2 asd2 sec2 tags2 wd2 ro2 wl2 κ2 D2 H2 p2 => br_f c (br_t rfl (sv_yrenew (t := 12) (by omega) ⟨rfl, sv_in1 (by omega) hc H2 p2⟩)))
    · have rp : 0 ≤ sv_rn t := by
        unfold sv_rn
        rw [if_neg ct]
        exact nI_pos' (by omega)
      have ht := h.2.1
      refine br_t rp (sv_xrenew c H (sv_P1_up h) (fun b2 m2 rnd2 ks2 tw2 pl2 tg2 df2 asd2 sec2 tags2 wd2 ro2 wl2 κ2 D2 H2 p2 => br_f c (br_f (nI_ne0 (by omega) (by omega)) (sv_yrenew ht ⟨rfl, sv_in1 (by omega) hc H2 p2⟩))))
theorem sv_SS_ext {bx sec tags cells dmg sec' tags' D F : Nat → Int32} {t : Nat} (h : sv_SS bx sec tags cells dmg t D F) (ho : ∀ z, z < 12 → sv_sl sec' (32 * z) = sv_sl sec (32 * z) ∧ sv_sl sec' (32 * z + 16) = sv_sl sec (32 * z + 16) ∧ sv_sl tags' (16 * z) = sv_sl tags (16 * z)) : sv_SS bx sec' tags' cells dmg t D F := by
  intro z hz
  obtain ⟨o1, o2, o3⟩ := ho z hz
  rw [o1, o2, o3]
  exact h z hz
section
variable {f_isThere f_volumes f_generation f_renewed f_asideFor f_copyOf f_copyGeneration f_isOpen f_roundsOf f_writesLeft : Int32} {a_sectors a_tags a_used a_telling a_wrapped a_wrappedData a_aside a_copyUsed a_copyTelling a_copyWrapped a_keys a_box a_unbox a_round a_block a_moved a_tweak a_plain a_tag a_difference : Nat → Int32}
theorem sv_bring1 {post : SX → Prop} {s : Nat} (hs : s < 12) (h : post (f_isThere, f_volumes, f_generation, f_renewed, (-1), f_copyOf, f_copyGeneration, f_isOpen, f_roundsOf, f_writesLeft, sv_fl a_sectors (32 * s) 32 a_aside, sv_fl a_tags (16 * s) 16 (fun i => a_aside (32 + i)), a_used, a_telling, a_wrapped, a_wrappedData, a_aside, a_copyUsed, a_copyTelling, a_copyWrapped, a_keys, a_box, a_unbox, a_round, a_block, a_moved, a_tweak, a_plain, a_tag, a_difference)) : wpX_bringBack post (f_isThere, f_volumes, f_generation, f_renewed, nI s, f_copyOf, f_copyGeneration, f_isOpen, f_roundsOf, f_writesLeft, a_sectors, a_tags, a_used, a_telling, a_wrapped, a_wrappedData, a_aside, a_copyUsed, a_copyTelling, a_copyWrapped, a_keys, a_box, a_unbox, a_round, a_block, a_moved, a_tweak, a_plain, a_tag, a_difference) := by
  refine br_t (nI_pos' (by omega)) ?_
  refine sv_loop (fun n i x => wX_bringBack_10 post f_isThere f_volumes f_generation f_renewed (nI s) f_copyOf f_copyGeneration f_isOpen f_roundsOf f_writesLeft n i x a_tags a_used a_telling a_wrapped a_wrappedData a_aside a_copyUsed a_copyTelling a_copyWrapped a_keys a_box a_unbox a_round a_block a_moved a_tweak a_plain a_tag a_difference) 32 (32 * s) a_sectors a_aside (fun n => br_t (nI_le (Nat.le_refl 32) (by decide)) ?_) (fun n i hi hw => ?_)
  · refine sv_loop (fun n i x => wX_bringBack_44 post f_isThere f_volumes f_generation f_renewed (nI s) f_copyOf f_copyGeneration f_isOpen f_roundsOf f_writesLeft n i (sv_fl a_sectors (32 * s) 32 a_aside) x a_used a_telling a_wrapped a_wrappedData a_aside a_copyUsed a_copyTelling a_copyWrapped a_keys a_box a_unbox a_round a_block a_moved a_tweak a_plain a_tag a_difference) 16 (16 * s) a_tags (fun i => a_aside (32 + i)) (fun n => br_t (nI_le (Nat.le_refl 16) (by decide)) h) (fun n i hi hw => ?_)
    have e1 : (16 : Int32) * nI s + nI i = nI (16 * s + i) := sv_ix 16 s i
    have e2 : (32 : Int32) + nI i = nI (32 + i) := nI_add 32 i
    refine br_f (nI_ge (b := 16) hi (by decide)) ⟨pk_in (32 + i) 48 (by omega) e2, pk_in (16 * s + i) 192 (by omega) e1, nm_r (e' := sv_fl a_tags (16 * s) (i + 1) (fun i => a_aside (32 + i))) (sv_st e1 (by omega) ?_) (nm_r (nI_1 i) hw)⟩
    rw [e2, nI_clamp (by omega)]
  · have e1 : (32 : Int32) * nI s + nI i = nI (32 * s + i) := sv_ix 32 s i
    refine br_f (nI_ge (b := 32) hi (by decide)) ⟨vp_in_nI (by omega) (by decide), pk_in (32 * s + i) 384 (by omega) e1, nm_r (e' := sv_fl a_sectors (32 * s) (i + 1) a_aside) (sv_st e1 (by omega) ?_) (nm_r (nI_1 i) hw)⟩
    rw [nI_clamp (by omega)]
theorem sv_crash52 {post : Int32 → SX → Prop} {t : Nat} {κ : Nat → Nat → Int32} {sec0 tags0 : Nat → Int32} (ht : t ≤ 12) (H : sv_H a_box a_unbox a_keys a_round f_roundsOf κ)
    (haf : (f_asideFor = -1 ∧ ∀ z, z < 12 → sv_sl a_sectors (32 * z) = sv_sl sec0 (32 * z) ∧ sv_sl a_sectors (32 * z + 16) = sv_sl sec0 (32 * z + 16) ∧ sv_sl a_tags (16 * z) = sv_sl tags0 (16 * z)) ∨
      (∃ s, s < 12 ∧ f_asideFor = nI s ∧ (∀ i, i < 32 → a_aside i = sec0 (32 * s + i)) ∧ (∀ i, i < 16 → a_aside (32 + i) = tags0 (16 * s + i)) ∧ ∀ z, z < 12 → z ≠ s → sv_sl a_sectors (32 * z) = sv_sl sec0 (32 * z) ∧ sv_sl a_sectors (32 * z + 16) = sv_sl sec0 (32 * z + 16) ∧ sv_sl a_tags (16 * z) = sv_sl tags0 (16 * z)))
    (h : ∀ sec tags ks, sv_H a_box a_unbox ks a_round (-1) sv_kz → (∀ z, z < 12 → sv_sl sec (32 * z) = sv_sl sec0 (32 * z) ∧ sv_sl sec (32 * z + 16) = sv_sl sec0 (32 * z + 16) ∧ sv_sl tags (16 * z) = sv_sl tags0 (16 * z)) → post (nI t) (1, f_volumes, f_generation, sv_rn t, (-1), f_copyOf, f_copyGeneration, 0, (-1), f_writesLeft, sec, tags, a_used, a_telling, a_wrapped, a_wrappedData, a_aside, a_copyUsed, a_copyTelling, a_copyWrapped, ks, a_box, a_unbox, a_round, a_block, a_moved, a_tweak, a_plain, a_tag, a_difference)) : wX_crash_52 post 1 f_volumes f_generation (sv_rn t) f_asideFor f_copyOf f_copyGeneration f_isOpen f_roundsOf f_writesLeft a_sectors a_tags a_used a_telling a_wrapped a_wrappedData a_aside a_copyUsed a_copyTelling a_copyWrapped a_keys a_box a_unbox a_round a_block a_moved a_tweak a_plain a_tag a_difference := by
  unfold wX_crash_52
  rcases haf with ⟨e, ho⟩ | ⟨s, hs, e, h1, h2, ho⟩
  · subst e
    exact br_f (by decide) (sv_forget H (fun ks H' => sv_toRenew ht (h _ _ ks H' ho)))
  · subst e
    refine sv_bring1 hs (sv_forget H (fun ks H' => sv_toRenew ht (h _ _ ks H' (fun z hz => ?_))))
    by_cases c : z = s
    · subst c
      refine ⟨sv_sl_eq (fun j hj => ?_), sv_sl_eq (fun j hj => ?_), sv_sl_eq (fun j hj => ?_)⟩
      · rw [sv_fl_in (by omega), h1 j (by omega)]
      · rw [Nat.add_assoc, sv_fl_in (by omega), h1 (16 + j) (by omega)]
      · rw [sv_fl_in hj, h2 j hj]
    · obtain ⟨o1, o2, o3⟩ := ho z hz c
      rw [sv_sl_out (by omega), sv_sl_out (by omega), sv_sl_out (by omega)]
      exact ⟨o1, o2, o3⟩
end
theorem sv_wi_n {n : Nat} (h : n ≤ 100) : nI n = sv_wi (n : Int) := by
  apply Int32.toInt_inj.mp
  rw [nI_toInt (by omega), sv_wi_t (by omega) (by omega)]
theorem i_vc_crash {k : Nat} {u : SX} {v : SY} (I : i_Rel k u v) (hk : k + 4 ≤ 2048) (v1 : Int32) : wpX_crash (fun r u' => wpY_crash (fun r' v' => r' = r ∧ i_Rel (k + 4) u' v') v v1) u v1 := by
  refine sv_el (P := fun u v => i_Rel (k + 4) u v → wpX_crash (fun r u' => wpY_crash (fun r' v' => r' = r ∧ i_Rel (k + 4) u' v') v v1) u v1) I ?_ ?_ (i_up I)
  · intro f_generation f_renewed f_asideFor f_copyGeneration f_roundsOf f_writesLeft a_sectors a_tags a_used a_telling a_wrapped a_wrappedData a_aside a_copyUsed a_copyTelling a_copyWrapped a_keys a_box a_unbox a_round a_block a_moved a_tweak a_plain a_tag a_difference g_hasCopy g_isStale b_cells b_damaged b_phrases b_copyPhrases κ vol co hv hc H J
    exact br_t rfl (br_t rfl ⟨rfl, J⟩)
  · intro f_copyGeneration f_isOpen f_roundsOf f_writesLeft a_sectors a_tags a_used a_telling a_wrapped a_wrappedData a_aside a_copyUsed a_copyTelling a_copyWrapped a_keys a_box a_unbox a_round a_block a_moved a_tweak a_plain a_tag a_difference g_hasCopy g_isStale b_cells b_damaged b_phrases b_copyPhrases κ R D F vol co gen t hv hc H h J
    have same : ∀ z, z < 12 → sv_sl a_sectors (32 * z) = sv_sl a_sectors (32 * z) ∧ sv_sl a_sectors (32 * z + 16) = sv_sl a_sectors (32 * z + 16) ∧ sv_sl a_tags (16 * z) = sv_sl a_tags (16 * z) := fun z hz => ⟨rfl, rfl, rfl⟩
    have h' := h
    obtain ⟨p1, p2, p3, p4, p5, p6, p7, p8, p9⟩ := h'
    refine br_f (by decide) (br_c (fun c => ?_) (fun c => ?_))
    · exact sv_crash52 p2 H (Or.inl ⟨rfl, same⟩) (fun sec tags ks H' ho => br_f (by decide) ⟨rfl, sv_in1 (R := R) (D := D) (F := F) (by omega) hc H' ⟨Or.inl rfl, p2, by omega, p4, fun z => absurd rfl z, p6, p7, sv_SS_ext p8 ho, p9⟩⟩)
    · by_cases ct : t = 0
      · subst ct
        exact br_t sv_rn_neg (sv_crash52 p2 H (Or.inl ⟨rfl, same⟩) (fun sec tags ks H' ho => br_f (by decide) ⟨rfl, sv_in1 (R := R) (D := D) (F := F) (by omega) hc H' ⟨Or.inl rfl, p2, by omega, p4, fun z => absurd rfl z, p6, p7, sv_SS_ext p8 ho, p9⟩⟩))
      · refine br_f (sv_rn_pos ct) ?_
        obtain ⟨s, es⟩ : ∃ s, s = 12 - t := ⟨_, rfl⟩
        have hs : s < 12 := by omega
        have ers : sv_rn t = nI s := by rw [es]; exact if_neg ct
        obtain ⟨VA, VB, _, _⟩ := p8 s hs
        have go : ∀ w : Int, 0 ≤ w → w ≤ 6 → wX_crash_45 (fun r u' => wpY_crash (fun r' v' => r' = r ∧ i_Rel (k + 4) u' v') (1, f_isOpen, nI t, g_hasCopy, g_isStale, b_cells, b_damaged, a_used, b_phrases, a_copyUsed, b_copyPhrases) v1) (sv_wi w) 1 (nI vol) (nI gen) (sv_rn t) (-1) (nI co) f_copyGeneration f_isOpen f_roundsOf f_writesLeft a_sectors a_tags a_used a_telling a_wrapped a_wrappedData a_aside a_copyUsed a_copyTelling a_copyWrapped a_keys a_box a_unbox a_round a_block a_moved a_tweak a_plain a_tag a_difference := by
          intro w hw0 hw6
          unfold wX_crash_45
          rw [ers]
          refine sv_rnBody (w := w) hs hw0 (by omega) H VA VB (fun b m rnd ks tw pl tg df asd af sec tags ro κ' H' hkq hS hT1 hT0 hT2 haf => ?_)
          unfold wX_renewNext_117
          refine sv_mayWrite (by omega) (by omega) (fun z => absurd z (by omega)) (fun _ => br_t rfl ?_)
          unfold wX_renewNext_139
          refine br_f (fun z => ?_) ?_
          · have := (nI_eq (a := s) (b := 12) (by omega) (by omega)).mp z
            omega
          · show wX_crash_52 _ 1 (nI vol) (nI gen) (nI s) af (nI co) f_copyGeneration f_isOpen ro (sv_wi (w - 1 - 1 - 1 - 1 - 1 - 1 - 1)) sec tags a_used a_telling a_wrapped a_wrappedData asd a_copyUsed a_copyTelling a_copyWrapped ks a_box a_unbox rnd b m tw pl tg df
            rw [← ers]
            refine sv_crash52 (sec0 := a_sectors) (tags0 := a_tags) p2 H' ?_ (fun sec2 tags2 ks2 H2 ho => br_f (by decide) ⟨rfl, sv_in1 (R := R) (D := D) (F := F) (by omega) hc H2 ⟨Or.inl rfl, p2, by omega, p4, fun z => absurd rfl z, p6, p7, sv_SS_ext p8 ho, p9⟩⟩)
            rcases haf with ⟨_, e1, e2, e3⟩ | ⟨c1, e1⟩
            · exact Or.inr ⟨s, hs, e1, e2, e3, fun z hz hn => ⟨(hS.1 z hz hn).1, (hS.1 z hz hn).2, hT2 z hz hn⟩⟩
            · refine Or.inl ⟨e1, fun z hz => ?_⟩
              rw [hS.2.2.1 (by omega), hT0 (by omega)]
              exact same z hz
        refine br_c (fun c0 => ?_) (fun c0 => go 0 (by omega) (by omega))
        have hn0 : ¬ v1 < 0 := Int32.not_lt.mpr c0
        obtain ⟨n, hn, rfl⟩ := nI_of hn0
        refine pk_le n 6 (fun c6 => ?_) (fun c6 => go 6 (by omega) (by omega))
        have g := go (n : Int) (by omega) (by omega)
        rw [← sv_wi_n (by omega)] at g
        exact g
end
section
def sv_LP (n : Nat) : Nat := (247704880781559356684414323119999879637317647180040216102211349143305888774923398537951341803642731683984666991564019150676315804531779449815159115664189418245566988781254625896260912026622159780553349108386186142268315007856282091988200171439146255715840100601167723801170608095743514940052926055042184507632911811387723359914440662207451538163404716729158929845121383729837235901114109841630616474463024741216292666125260571984924724184385554713500007113061044175325657975136216706165622836048350080632971744177780693200859426168487707538171671676645432511882666690861394815764438377708986394032816479809277592321 >>> (8 * n)) % 256
def sv_LQ (n : Nat) : Nat := (127727404692115426734198332805968219844573505114629208686901216293690186132462130931675081705992402874744649337146722143913163583643487276303943818893807190013751092806990287370556889600057311714676499800760749547103353651662433367294783190206880884813569237221343399581497263169989195187996008530110587099785212876728548450345268301970899227233349908984604527389233338265073456776979288885037749793268642272576260293033947624555608176220260351415492203342228236466557716880135026471476615524857486394512952861707819425159769229481997196826278555408639803976402068508913166242851432043694978610662015700264484533761 >>> (8 * n)) % 256
def sv_SB (n : Nat) : Nat := (2869618975290639062594974519597816386035077209210385677284518162336985023502962151465775969507961862820568736543004676439868535775640188584098917533413284844376797297285941524888791401501466624530423689326528054213168201056672989590893583853414110162539122864583953358348775951166211353578440977400428507475679327181038682772945817200201960445064847785221508011893952350688324234443749897213621340677040612747745615276448919507935121141307752692835344166708617454322778699219895865633266409040561742768581056182730443599545881830075941537620590442514083341749674612746994879540562701631131184186066652929592955206755 >>> (8 * n)) % 256
def sv_IS (n : Nat) : Nat := (15785769749828884342349381641981096363179738000380205650940338083111619982568718420166261191398703005748170232611805704157196303061330872280026969925224128193193768962594508714770967646139604422718174787315048227180018877623049221087186576642191304514338137614235628241783007805847129270530950856841486400764657112140097236091222567730363620332611309375046737430203438830593833719428588466121688739068564421474273450162064709239629809347626728710072303178617319436726577534667237755444692000788692193415136619289353224918429728194544458916874716857284226411602766869706570927007876872095880586785662942963508062062930 >>> (8 * n)) % 256
def sv_LG (n : Nat) : Nat := (939374623831894136699086600277250597547650664638770418422125146541797353646788332867483593573384618611044815625336497665827114626705134492515730415652478061620339993830966980270842846318821775850471098591710629241171812800746666233448222972174585295916389942636813666312872914849454985560152530477328703759683306625234997237483834721220409437442253146756845415190424543171129629468776480674528486868811725071010351012234056630775688111116293610821126543142160426617079940511630006820862697466582575257349116925728488930366609138264019883664906661504235885380294353134295748489096855100647154935187045898006656843520 >>> (8 * n)) % 256
def sv_qa (k x : Int32) : Int32 := (x ^^^ (x <<< (k &&& 31))) &&& 255
def sv_q1 (x : Int32) : Int32 := sv_qa 4 (sv_qa 2 (sv_qa 1 x)) ^^^ ((sv_qa 4 (sv_qa 2 (sv_qa 1 x)) >>> ((7 : Int32) &&& 31)) * 9)
def sv_tu (x k : Int32) : Int32 := ((x <<< (k &&& 31)) ||| (x >>> ((8 - k) &&& 31))) &&& 255
def sv_sv (y : Int32) : Int32 := ((((y ^^^ sv_tu y 1) ^^^ sv_tu y 2) ^^^ sv_tu y 3) ^^^ sv_tu y 4) ^^^ 99
theorem sv_T_p : ∀ n, n < 255 → nI (sv_LP n) ^^^ sv_tw (nI (sv_LP n)) = nI (sv_LP (n + 1)) := by decide +kernel
theorem sv_T_q : ∀ n, n < 255 → sv_q1 (nI (sv_LQ n)) = nI (sv_LQ (n + 1)) := by decide +kernel
theorem sv_T_s : ∀ n, n < 255 → sv_sv (nI (sv_LQ (n + 1))) = nI (sv_SB (sv_LP (n + 1))) := by decide +kernel
theorem sv_T_g : ∀ b, b < 256 → b = 0 ∨ (sv_LG b - 1 < 255 ∧ sv_LP (sv_LG b - 1 + 1) = b) := by decide +kernel
theorem sv_T_i : ∀ b, b < 256 → sv_IS (sv_SB b) = b := by decide +kernel
theorem sv_T_j : ∀ b, b < 256 → sv_SB (sv_IS b) = b := by decide +kernel
theorem sv_T_0 : sv_SB 0 = 99 := by decide +kernel
theorem sv_T_1 : nI (sv_LP 0) = 1 ∧ nI (sv_LQ 0) = 1 := by decide +kernel
theorem sv_LP_lt (n : Nat) : sv_LP n < 256 := Nat.mod_lt _ (by decide)
theorem sv_SB_lt (n : Nat) : sv_SB n < 256 := Nat.mod_lt _ (by decide)
theorem sv_IS_lt (n : Nat) : sv_IS n < 256 := Nat.mod_lt _ (by decide)
theorem sv_BX_of {bx ub : Nat → Int32} (h1 : ∀ b, b < 256 → bx b = nI (sv_SB b)) (h2 : ∀ b, b < 256 → ub (sv_SB b) = nI b) : sv_BX bx ub := by
  intro n hn
  have l1 := sv_SB_lt n
  have l2 := sv_IS_lt n
  refine ⟨⟨_, l1, h1 n hn⟩, ⟨_, l2, ?_⟩, ?_⟩
  · have e := h2 (sv_IS n) l2
    rw [sv_T_j n hn] at e
    exact e
  · rw [h1 n hn, nI_clamp (Nat.lt_trans l1 (by decide)), h2 n hn]
section
variable {f_isThere f_volumes f_generation f_renewed f_asideFor f_copyOf f_copyGeneration f_isOpen f_roundsOf f_writesLeft : Int32} {a_sectors a_tags a_used a_telling a_wrapped a_wrappedData a_aside a_copyUsed a_copyTelling a_copyWrapped a_keys a_box a_unbox a_round a_block a_moved a_tweak a_plain a_tag a_difference : Nat → Int32}
theorem sv_unboxes {post : SX → Prop} (hb : ∀ b, b < 256 → a_box b = nI (sv_SB b)) (h : ∀ ub, sv_BX a_box ub → post (f_isThere, f_volumes, f_generation, f_renewed, f_asideFor, f_copyOf, f_copyGeneration, f_isOpen, f_roundsOf, f_writesLeft, a_sectors, a_tags, a_used, a_telling, a_wrapped, a_wrappedData, a_aside, a_copyUsed, a_copyTelling, a_copyWrapped, a_keys, a_box, ub, a_round, a_block, a_moved, a_tweak, a_plain, a_tag, a_difference)) : ∃ n, wX_makeBoxes_110 post f_isThere f_volumes f_generation f_renewed f_asideFor f_copyOf f_copyGeneration f_isOpen f_roundsOf f_writesLeft n 0 a_sectors a_tags a_used a_telling a_wrapped a_wrappedData a_aside a_copyUsed a_copyTelling a_copyWrapped a_keys a_box a_unbox a_round a_block a_moved a_tweak a_plain a_tag a_difference := by
  refine sv_loopS (fun n i x => wX_makeBoxes_110 post f_isThere f_volumes f_generation f_renewed f_asideFor f_copyOf f_copyGeneration f_isOpen f_roundsOf f_writesLeft n i a_sectors a_tags a_used a_telling a_wrapped a_wrappedData a_aside a_copyUsed a_copyTelling a_copyWrapped a_keys a_box x a_round a_block a_moved a_tweak a_plain a_tag a_difference) (fun i x => ∀ b, b < i → x (sv_SB b) = nI b) 256 a_unbox (fun b hb => absurd hb (Nat.not_lt_zero b)) (fun n x hx => br_t (nI_le (Nat.le_refl 256) (by decide)) (h x (sv_BX_of hb hx))) (fun n i x hi hI hw => ?_)
  have l1 := sv_SB_lt i
  refine br_f (nI_ge (b := 256) hi (by decide)) ⟨vp_in_nI hi (by decide), ?_⟩
  rw [nI_clamp (n := i) (Nat.lt_trans hi (by decide)), hb i hi, nI_clamp (n := sv_SB i) (Nat.lt_trans l1 (by decide))]
  refine ⟨vp_in_nI l1 (by decide), nm_e (nm_r (nI_1 i) (hw _ (fun b hb2 => ?_)))⟩
  by_cases c : sv_SB b = sv_SB i
  · have e : b = i := by rw [← sv_T_i b (by omega), c, sv_T_i i hi]
    rw [c, pk_us, e]
  · rw [pk_un c]
    exact hI b (by
      have : b ≠ i := fun z => c (by rw [z])
      omega)
theorem sv_makeBoxes {post : SX → Prop} (h : ∀ bx ub, sv_BX bx ub → post (f_isThere, f_volumes, f_generation, f_renewed, f_asideFor, f_copyOf, f_copyGeneration, f_isOpen, f_roundsOf, f_writesLeft, a_sectors, a_tags, a_used, a_telling, a_wrapped, a_wrappedData, a_aside, a_copyUsed, a_copyTelling, a_copyWrapped, a_keys, bx, ub, a_round, a_block, a_moved, a_tweak, a_plain, a_tag, a_difference)) : wpX_makeBoxes post (f_isThere, f_volumes, f_generation, f_renewed, f_asideFor, f_copyOf, f_copyGeneration, f_isOpen, f_roundsOf, f_writesLeft, a_sectors, a_tags, a_used, a_telling, a_wrapped, a_wrappedData, a_aside, a_copyUsed, a_copyTelling, a_copyWrapped, a_keys, a_box, a_unbox, a_round, a_block, a_moved, a_tweak, a_plain, a_tag, a_difference) := by
  have key : ∀ d n, n + d = 255 → ∀ bx, (∀ m, m < n → bx (sv_LP (m + 1)) = nI (sv_SB (sv_LP (m + 1)))) → wX_makeBoxes_6 post f_isThere f_volumes f_generation f_renewed f_asideFor f_copyOf f_copyGeneration f_isOpen f_roundsOf f_writesLeft (d + 1) (nI (sv_LP n)) (nI (sv_LQ n)) (nI n) a_sectors a_tags a_used a_telling a_wrapped a_wrappedData a_aside a_copyUsed a_copyTelling a_copyWrapped a_keys bx a_unbox a_round a_block a_moved a_tweak a_plain a_tag a_difference := by
    intro d
    induction d with
    | zero =>
      intro n hn bx hb
      have n255 : n = 255 := by omega
      subst n255
      refine br_t (nI_le (Nat.le_refl 255) (by decide)) (nm_e (sv_unboxes (fun b hb2 => ?_) (fun ub hu => h _ ub hu)))
      rcases sv_T_g b hb2 with e | ⟨e1, e2⟩
      · subst e
        rw [pk_us, sv_T_0]
        rfl
      · by_cases c : b = 0
        · subst c
          rw [pk_us, sv_T_0]
          rfl
        · rw [pk_un c]
          have := hb _ e1
          rw [e2] at this
          exact this
    | succ d ih =>
      intro n hn bx hb
      have hn255 : n < 255 := by omega
      have l1 := sv_LP_lt (n + 1)
      refine br_f (nI_ge (a := n) (b := 255) hn255 (by decide)) (nm_r (sv_T_p n hn255) (nm_e (nm_e (nm_e (nm_r (e' := nI (sv_LQ (n + 1))) (sv_T_q n hn255) ⟨vp_in_nI l1 (by decide), ?_⟩)))))
      refine nm_r (e' := upd bx (sv_LP (n + 1)) (nI (sv_SB (sv_LP (n + 1))))) ?_ (nm_r (nI_1 n) (ih (n + 1) (by omega) _ (fun m hm => ?_)))
      · rw [nI_clamp (Nat.lt_trans l1 (by decide)), ← sv_T_s n hn255]
        rfl
      · by_cases c : sv_LP (m + 1) = sv_LP (n + 1)
        · rw [c, pk_us]
        · rw [pk_un c]
          exact hb m (by
            have : m ≠ n := fun z => c (by rw [z])
            omega)
  have k0 := key 255 0 rfl a_box (fun m hm => absurd hm (Nat.not_lt_zero m))
  rw [sv_T_1.1, sv_T_1.2, nI_0] at k0
  exact ⟨256, k0⟩
end
theorem i_vc0 : wpX_init (fun u => wpY_init (fun v => i_Rel 0 u v)) := by
  unfold wpX_init
  refine sv_makeBoxes (fun bx ub hb => ?_)
  refine sv_loop (fun n i x => wX_init_188 (fun u => wpY_init (fun v => i_Rel 0 u v)) 0 0 0 (-1) (-1) 0 0 0 (-1) 0 n i (fun _ => 0) (fun _ => 0) (fun _ => 0) (fun _ => 0) (fun _ => 0) (fun _ => 0) (fun _ => 0) (fun _ => 0) (fun _ => 0) (fun _ => 0) x bx ub (fun _ => 0) (fun _ => 0) (fun _ => 0) (fun _ => 0) (fun _ => 0) (fun _ => 0) (fun _ => 0)) 16 0 (fun _ => 0) (fun i => ((17 * nI i) + 3) &&& 255) (fun n => br_t (nI_le (Nat.le_refl 16) (by decide)) ?_) (fun n i hi hw => ?_)
  · refine sv_in0 (f_writesLeft := 0) (a_aside := fun _ => 0) (a_block := fun _ => 0) (a_moved := fun _ => 0) (a_tweak := fun _ => 0) (a_plain := fun _ => 0) (a_tag := fun _ => 0) (a_difference := fun _ => 0) (vol := 0) (co := 0) (κ := sv_kz) (by omega) (by omega) ⟨hb, fun q hq => ?_, fun q _ => sv_kz_V q, rfl, Or.inl rfl⟩
    by_cases c : q = 0
    · subst c
      exact sv_sl_fl (fun j hj => (if_pos hj).symm) (fun j hj => if_neg hj)
    · rw [sv_sl_out (by omega)]
      refine sv_sl_B (fun j hj => ?_) (fun j hj => ?_)
      · unfold sv_kz; rw [if_neg c]
      · unfold sv_kz; rw [if_neg c]
  · have e : (0 : Int32) + nI i = nI (0 + i) := nI_add 0 i
    exact br_f (nI_ge (b := 16) hi (by decide)) ⟨pk_in (0 + i) 96 (by omega) e, nm_r (e' := sv_fl (fun _ => 0) 0 (i + 1) (fun i => ((17 * nI i) + 3) &&& 255)) (sv_st e (by omega) rfl) (nm_r (nI_1 i) hw)⟩
end
section
theorem sv_by_0 : ∀ i, i < 4 → sv_by 0 i = 0 := by decide +kernel
theorem sv_pl_0 {cells P : Nat → Int32} {s : Nat} (h : ∀ c, c < 8 → cells (8 * s + c) = 0) (hP : ∀ j, j < 32 → P j = 0) : sv_sl P 0 = sv_pl cells s 0 ∧ sv_sl P 16 = sv_pl cells s 1 := sv_pl_of (fun c hc i hi => by rw [h c hc, hP _ (by omega), sv_by_0 i hi])
section
variable {f_isThere f_volumes f_generation f_renewed f_asideFor f_copyOf f_copyGeneration f_isOpen f_roundsOf f_writesLeft : Int32} {a_sectors a_tags a_used a_telling a_wrapped a_wrappedData a_aside a_copyUsed a_copyTelling a_copyWrapped a_keys a_box a_unbox a_round a_block a_moved a_tweak a_plain a_tag a_difference : Nat → Int32}
/-- the twelve sectors, sealed empty -/
theorem sv_fmt_l {post : Int32 → SX → Prop} {D cells : Nat → Int32} (VD : sv_V D) (hbx : sv_BX a_box a_unbox) (hc : ∀ j, j < 96 → cells j = 0) (hP : ∀ j, j < 32 → a_plain j = 0)
    (h : ∀ b m rnd ks tw tg wl sec tags, sv_H a_box a_unbox ks rnd (-1) sv_kz → (∀ z, z < 12 → sv_sl sec (32 * z) = sv_ct a_box z D 0 (sv_pl cells z 0) ∧ sv_sl sec (32 * z + 16) = sv_ct a_box z D 1 (sv_pl cells z 1) ∧ sv_sl tags (16 * z) = sv_tg a_box z (sv_sl sec (32 * z)) (sv_sl sec (32 * z + 16))) → post 0 (f_isThere, f_volumes, f_generation, sv_rn 0, f_asideFor, f_copyOf, f_copyGeneration, 0, (-1), wl, sec, tags, a_used, a_telling, a_wrapped, a_wrappedData, a_aside, a_copyUsed, a_copyTelling, a_copyWrapped, ks, a_box, a_unbox, rnd, b, m, tw, a_plain, tg, a_difference)) :
    ∀ d s, s + d = 12 → ∀ b m rnd ks tw tg wl sec tags ro κ, sv_H a_box a_unbox ks rnd ro κ → κ 3 = D → (∀ z, z < s → sv_sl sec (32 * z) = sv_ct a_box z D 0 (sv_pl cells z 0) ∧ sv_sl sec (32 * z + 16) = sv_ct a_box z D 1 (sv_pl cells z 1) ∧ sv_sl tags (16 * z) = sv_tg a_box z (sv_sl sec (32 * z)) (sv_sl sec (32 * z + 16))) → wX_format_117 post (d + 1) (nI s) f_isThere f_volumes f_generation (sv_rn 0) f_asideFor f_copyOf f_copyGeneration f_isOpen ro wl sec tags a_used a_telling a_wrapped a_wrappedData a_aside a_copyUsed a_copyTelling a_copyWrapped ks a_box a_unbox rnd b m tw a_plain tg a_difference := by
  intro d
  induction d with
  | zero =>
    intro s hs b m rnd ks tw tg wl sec tags ro κ H k3 hI
    have s12 : s = 12 := by omega
    subst s12
    exact br_t (nI_le (Nat.le_refl 12) (by decide)) (sv_forget H (fun ks2 H2 => h b m rnd ks2 tw tg wl sec tags H2 hI))
  | succ d ih =>
    intro s hs b m rnd ks tw tg wl sec tags ro κ H k3 hI
    have hs12 : s < 12 := by omega
    obtain ⟨w0, w1⟩ := sv_pl_0 (cells := cells) (P := a_plain) (s := s) (fun c hc8 => hc _ (by omega)) hP
    refine br_f (nI_ge (a := s) (b := 12) hs12 (by decide)) (sv_sealNow (t := 0) (by omega) hs12 H (by rw [w0]; exact sv_pl_V _ _ _) (by rw [w1]; exact sv_pl_V _ _ _) (fun b4 m4 rnd4 ks4 tw4 tg4 wl4 sec4 tags4 H4 z1 z2 z3 z4 => nm_r (nI_1 s) ?_))
    have ek : sv_kq 0 s = 3 := if_neg (fun z => z.1 rfl)
    rw [ek, k3, w0] at z1
    rw [ek, k3, w1] at z2
    refine ih (s + 1) (by omega) b4 m4 rnd4 ks4 tw4 tg4 wl4 sec4 tags4 _ _ H4 (by rw [sv_ks_n (by decide), k3]) (fun z hz => ?_)
    by_cases c : z = s
    · subst c
      exact ⟨z1, z2, z3⟩
    · obtain ⟨o1, o2, o3⟩ := z4 z (by omega) c
      rw [o1, o2, o3]
      exact hI z (by omega)
theorem sv_xformat {post : Int32 → SX → Prop} {κ : Nat → Nat → Int32} {p : Int32} {vol : Nat} {cells : Nat → Int32} (H : sv_H a_box a_unbox a_keys a_round f_roundsOf κ) (hc : ∀ j, j < 96 → cells j = 0)
    (h : ∀ b m rnd ks tw tg wl sec tags tl wr wd pl R D, sv_V R → sv_V D → sv_H a_box a_unbox ks rnd (-1) sv_kz → (∀ z, z < 12 → sv_sl sec (32 * z) = sv_ct a_box z D 0 (sv_pl cells z 0) ∧ sv_sl sec (32 * z + 16) = sv_ct a_box z D 1 (sv_pl cells z 1) ∧ sv_sl tags (16 * z) = sv_tg a_box z (sv_sl sec (32 * z)) (sv_sl sec (32 * z + 16))) → sv_sl wd 0 = sv_E a_box R D → sv_sl tl (16 * 0) = sv_dq a_box p (nI (vol + 1)) 2 → sv_sl wr (16 * 0) = sv_E a_box (sv_mk a_box p (nI (vol + 1))) R → post 0 (1, nI (vol + 1), nI 1, sv_rn 0, (-1), f_copyOf, f_copyGeneration, 0, (-1), wl, sec, tags, upd (sv_fl a_used 0 4 (fun _ => 0)) 0 1, tl, wr, wd, a_aside, a_copyUsed, a_copyTelling, a_copyWrapped, ks, a_box, a_unbox, rnd, b, m, tw, pl, tg, a_difference)) : wpX_format post (f_isThere, nI vol, f_generation, f_renewed, f_asideFor, f_copyOf, f_copyGeneration, f_isOpen, f_roundsOf, f_writesLeft, a_sectors, a_tags, a_used, a_telling, a_wrapped, a_wrappedData, a_aside, a_copyUsed, a_copyTelling, a_copyWrapped, a_keys, a_box, a_unbox, a_round, a_block, a_moved, a_tweak, a_plain, a_tag, a_difference) p := by
  unfold wpX_format
  refine sv_forget H (fun ks0 H0 => nm_r (nI_1 vol) ?_)
  refine sv_loop (fun n i x => wX_format_36 post p 1 (nI (vol + 1)) 1 (-1) (-1) f_copyOf f_copyGeneration 0 (-1) f_writesLeft n i a_sectors a_tags x a_telling a_wrapped a_wrappedData a_aside a_copyUsed a_copyTelling a_copyWrapped ks0 a_box a_unbox a_round a_block a_moved a_tweak a_plain a_tag a_difference) 4 0 a_used (fun _ => 0) (fun n => br_t (nI_le (Nat.le_refl 4) (by decide)) ?_) (fun n i hi hw => ?_)
  · have VR := sv_dq_V H.1 p (nI (vol + 1)) 3
    have VD := sv_dq_V H.1 1 (nI (vol + 1)) 4
    refine sv_derive H0 p 3 (fun b1 m1 rnd1 h1 H1 => sv_takeKey (q := 2) (by omega) (by omega) H1 h1 VR (fun ks2 ro2 _ H2 => sv_derive H2 1 4 (fun b3 m3 rnd3 h3 H3 => sv_takeKey (q := 3) (by omega) (by omega) H3 h3 VD (fun ks4 ro4 _ H4 => sv_wrapData (q := 3) (p := 0) (by omega) (by omega) H4 (fun b5 m5 rnd5 wd5 H5 h5 _ => sv_fillSlot (s := 0) (by omega) H5 (fun b6 m6 rnd6 ks6 tl6 wr6 H6 h6 _ h7 _ => ?_))))))
    rw [sv_ks_s, sv_ks_n (p := 2) (by decide), sv_ks_s] at h5
    rw [sv_ks_n (p := 2) (by decide), sv_ks_s] at h7
    refine sv_loop (fun n i x => wX_format_96 post 1 (nI (vol + 1)) 1 (-1) (-1) f_copyOf f_copyGeneration 0 (nI (16 * 1)) f_writesLeft n i a_sectors a_tags (upd (sv_fl a_used 0 4 (fun _ => 0)) 0 1) tl6 wr6 wd5 a_aside a_copyUsed a_copyTelling a_copyWrapped ks6 a_box a_unbox rnd6 b6 m6 a_tweak x a_tag a_difference) 32 0 a_plain (fun _ => 0) (fun n => br_t (nI_le (Nat.le_refl 32) (by decide)) ?_) (fun n i hi hw => ?_)
    · refine ⟨13, sv_fmt_l (D := sv_dq a_box 1 (nI (vol + 1)) 4) (cells := cells) VD H.1 hc (fun j hj => ?_) (fun b8 m8 rnd8 ks8 tw8 tg8 wl8 sec8 tags8 H8 h8 => h b8 m8 rnd8 ks8 tw8 tg8 wl8 sec8 tags8 tl6 wr6 wd5 _ _ _ VR VD H8 h8 h5 h6 h7) 12 0 rfl b6 m6 rnd6 ks6 a_tweak a_tag f_writesLeft a_sectors a_tags _ _ H6 ?_ (fun z hz => absurd hz (Nat.not_lt_zero z))⟩
      · have e := sv_fl_in (a := a_plain) (o := 0) (g := fun _ => (0 : Int32)) hj
        rw [Nat.zero_add] at e
        exact e
      · rw [sv_ks_n (by decide), sv_ks_s]
    · exact br_f (nI_ge (b := 32) hi (by decide)) ⟨vp_in_nI hi (by decide), nm_r (e' := sv_fl a_plain 0 (i + 1) (fun _ => 0)) (sv_st0 (by omega) rfl) (nm_r (nI_1 i) hw)⟩
  · exact br_f (nI_ge (b := 4) hi (by decide)) ⟨vp_in_nI hi (by decide), nm_r (e' := sv_fl a_used 0 (i + 1) (fun _ => 0)) (sv_st0 (by omega) rfl) (nm_r (nI_1 i) hw)⟩
end
section
variable {g_isThere g_isOpen g_left g_hasCopy g_isStale : Int32} {b_cells b_damaged b_used b_phrases b_copyUsed b_copyPhrases : Nat → Int32}
theorem sv_yformat {post : Int32 → SY → Prop} {p : Int32} (h : post 0 (1, 0, 0, 0, g_isStale, sv_fl b_cells 0 96 (fun _ => 0), sv_fl b_damaged 0 12 (fun _ => 0), sv_fl b_used 0 4 (fun s => if s = 0 then 1 else 0), upd b_phrases 0 p, b_copyUsed, b_copyPhrases)) : wpY_format post (g_isThere, g_isOpen, g_left, g_hasCopy, g_isStale, b_cells, b_damaged, b_used, b_phrases, b_copyUsed, b_copyPhrases) p := by
  unfold wpY_format
  refine sv_loop (fun n i x => wY_format_22 post p 1 0 0 0 g_isStale n i x b_damaged b_used b_phrases b_copyUsed b_copyPhrases) 96 0 b_cells (fun _ => 0) (fun n => br_t (nI_le (Nat.le_refl 96) (by decide)) ?_) (fun n i hi hw => br_f (nI_ge (b := 96) hi (by decide)) ⟨vp_in_nI hi (by decide), nm_r (e' := sv_fl b_cells 0 (i + 1) (fun _ => 0)) (sv_st0 (by omega) rfl) (nm_r (nI_1 i) hw)⟩)
  refine sv_loop (fun n i x => wY_format_43 post p 1 0 0 0 g_isStale n i (sv_fl b_cells 0 96 (fun _ => 0)) x b_used b_phrases b_copyUsed b_copyPhrases) 12 0 b_damaged (fun _ => 0) (fun n => br_t (nI_le (Nat.le_refl 12) (by decide)) ?_) (fun n i hi hw => br_f (nI_ge (b := 12) hi (by decide)) ⟨vp_in_nI hi (by decide), nm_r (e' := sv_fl b_damaged 0 (i + 1) (fun _ => 0)) (sv_st0 (by omega) rfl) (nm_r (nI_1 i) hw)⟩)
  refine sv_loop (fun n i x => wY_format_64 post p 1 0 0 0 g_isStale n i (sv_fl b_cells 0 96 (fun _ => 0)) (sv_fl b_damaged 0 12 (fun _ => 0)) x b_phrases b_copyUsed b_copyPhrases) 4 0 b_used (fun s => if s = 0 then 1 else 0) (fun n => br_t (nI_le (Nat.le_refl 4) (by decide)) (nm_e h)) (fun n i hi hw => br_f (nI_ge (b := 4) hi (by decide)) (pk_eq i 0 (fun c => ?_) (fun c => ?_)))
  · exact ⟨vp_in_nI hi (by decide), nm_r (e' := sv_fl b_used 0 (i + 1) (fun s => if s = 0 then 1 else 0)) (sv_st0 (by omega) (if_pos c).symm) (nm_r (nI_1 i) hw)⟩
  · exact ⟨vp_in_nI hi (by decide), nm_r (e' := sv_fl b_used 0 (i + 1) (fun s => if s = 0 then 1 else 0)) (sv_st0 (by omega) (if_neg c).symm) (nm_r (nI_1 i) hw)⟩
end
theorem sv_fmt_used (us : Nat → Int32) : upd (sv_fl us 0 4 (fun _ => 0)) 0 1 = sv_fl us 0 4 (fun s => if s = 0 then 1 else 0) := by
  funext j
  unfold upd sv_fl
  by_cases c : j = 0
  · subst c
    rw [if_pos rfl, if_pos (by omega)]
    rfl
  · rw [if_neg c]
    by_cases c2 : 0 ≤ j ∧ j < 0 + 4
    · rw [if_pos c2, if_pos c2]
      exact (if_neg c).symm
    · rw [if_neg c2, if_neg c2]
section
variable {f_isThere f_volumes f_generation f_renewed f_asideFor f_copyOf f_copyGeneration f_isOpen f_roundsOf f_writesLeft : Int32} {a_sectors a_tags a_used a_telling a_wrapped a_wrappedData a_aside a_copyUsed a_copyTelling a_copyWrapped a_keys a_box a_unbox a_round a_block a_moved a_tweak a_plain a_tag a_difference : Nat → Int32}
variable {g_isThere g_isOpen g_left g_hasCopy g_isStale : Int32} {b_cells b_damaged b_used b_phrases b_copyUsed b_copyPhrases : Nat → Int32}
variable {vol co : Nat} {κ : Nat → Nat → Int32}
theorem sv_format {k : Nat} {v1 : Int32} (hv : 4 * vol ≤ k) (hc : co ≤ vol) (H : sv_H a_box a_unbox a_keys a_round f_roundsOf κ) : wpX_format (fun r u' => wpY_format (fun r' v' => r' = r ∧ i_Rel (k + 4) u' v') (g_isThere, g_isOpen, g_left, g_hasCopy, g_isStale, b_cells, b_damaged, a_used, b_phrases, a_copyUsed, b_copyPhrases) v1) (f_isThere, nI vol, f_generation, f_renewed, f_asideFor, nI co, f_copyGeneration, f_isOpen, f_roundsOf, f_writesLeft, a_sectors, a_tags, a_used, a_telling, a_wrapped, a_wrappedData, a_aside, a_copyUsed, a_copyTelling, a_copyWrapped, a_keys, a_box, a_unbox, a_round, a_block, a_moved, a_tweak, a_plain, a_tag, a_difference) v1 := by
  have z0 : ∀ j, j < 96 → sv_fl b_cells 0 96 (fun _ => 0) j = 0 := fun j hj => by
    have e := sv_fl_in (a := b_cells) (o := 0) (g := fun _ => (0 : Int32)) hj
    rw [Nat.zero_add] at e
    exact e
  have d0 : ∀ j, j < 12 → sv_fl b_damaged 0 12 (fun _ => 0) j = 0 := fun j hj => by
    have e := sv_fl_in (a := b_damaged) (o := 0) (g := fun _ => (0 : Int32)) hj
    rw [Nat.zero_add] at e
    exact e
  have u0 : ∀ j, j < 4 → sv_fl a_used 0 4 (fun s => if s = 0 then 1 else 0) j = if j = 0 then 1 else 0 := sv_f4
  refine sv_xformat (cells := sv_fl b_cells 0 96 (fun _ => 0)) H z0 (fun b m rnd ks tw tg wl sec tags tl wr wd pl R D VR VD H' hS hW hTl hWr => sv_yformat ⟨rfl, ?_⟩)
  rw [sv_fmt_used]
  refine sv_in1 (t := 0) (R := R) (D := D) (F := D) (vol := vol + 1) (gen := 1) (by omega) (by omega) H' ⟨Or.inl rfl, by omega, by omega, ⟨VR, VD, VD⟩, fun z => absurd rfl z, ⟨hW, fun z => absurd rfl z⟩, ⟨fun s hs => ?_, ⟨0, by omega, ?_⟩, fun x y hx hy ux uy _ => ?_, fun s hs us => ?_⟩, fun s hs => ?_, Or.inl ⟨rfl, by omega⟩⟩
  · rw [u0 s hs]
    by_cases c : s = 0
    · rw [if_pos c]; exact Or.inr rfl
    · rw [if_neg c]; exact Or.inl rfl
  · rw [u0 0 (by omega)]
    decide
  · rw [u0 x hx] at ux
    rw [u0 y hy] at uy
    have ex : x = 0 := Classical.byContradiction (fun z => ux (if_neg z))
    have ey : y = 0 := Classical.byContradiction (fun z => uy (if_neg z))
    omega
  · rw [u0 s hs] at us
    have es : s = 0 := Classical.byContradiction (fun z => us (if_neg z))
    subst es
    rw [pk_us]
    exact ⟨hTl, hWr⟩
  · obtain ⟨q1, q2, q3⟩ := hS s hs
    have e0 : sv_dk D D 0 s = D := if_neg (by omega)
    rw [e0, d0 s hs]
    exact ⟨by rw [q1]; exact sv_ct_V H.1 VD hs 0 (sv_pl_V _ _ _), by rw [q2]; exact sv_ct_V H.1 VD hs 1 (sv_pl_V _ _ _), fun _ => ⟨q3, q1, q2⟩, fun z => absurd rfl z⟩
end
theorem i_vc_format {k : Nat} {u : SX} {v : SY} (I : i_Rel k u v) (hk : k + 4 ≤ 2048) (v1 : Int32) : wpX_format (fun r u' => wpY_format (fun r' v' => r' = r ∧ i_Rel (k + 4) u' v') v v1) u v1 := by
  refine sv_el (P := fun u v => wpX_format (fun r u' => wpY_format (fun r' v' => r' = r ∧ i_Rel (k + 4) u' v') v v1) u v1) I ?_ ?_
  · intro f_generation f_renewed f_asideFor f_copyGeneration f_roundsOf f_writesLeft a_sectors a_tags a_used a_telling a_wrapped a_wrappedData a_aside a_copyUsed a_copyTelling a_copyWrapped a_keys a_box a_unbox a_round a_block a_moved a_tweak a_plain a_tag a_difference g_hasCopy g_isStale b_cells b_damaged b_phrases b_copyPhrases κ vol co hv hc H
    exact sv_format hv hc H
  · intro f_copyGeneration f_isOpen f_roundsOf f_writesLeft a_sectors a_tags a_used a_telling a_wrapped a_wrappedData a_aside a_copyUsed a_copyTelling a_copyWrapped a_keys a_box a_unbox a_round a_block a_moved a_tweak a_plain a_tag a_difference g_hasCopy g_isStale b_cells b_damaged b_phrases b_copyPhrases κ R D F vol co gen t hv hc H h
    exact sv_format hv hc H
end
