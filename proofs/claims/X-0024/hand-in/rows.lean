section
/-! pure rows to paste: stores, nI and lN arithmetic, masks, shifts, narrowing, branches by naturals (pk_le, pk_lt, pk_eq), loops (lp1 .. lp16: the measure of the state; rp1 ..: recursion), negatives. Take what you need -/
theorem pk_us {f : Nat → Int32} {k : Nat} {x : Int32} : upd f k x k = x := if_pos rfl
theorem pk_un {f : Nat → Int32} {k j : Nat} {x : Int32} (h : j ≠ k) : upd f k x j = f j := if_neg h
theorem pk_uLs {f : Nat → Int64} {k : Nat} {x : Int64} : vp_updL f k x k = x := if_pos rfl
theorem pk_uLn {f : Nat → Int64} {k j : Nat} {x : Int64} (h : j ≠ k) : vp_updL f k x j = f j := if_neg h
theorem pk_sub {a b : Nat} (h : b ≤ a) : nI a - nI b = nI (a - b) := by
  obtain ⟨c, rfl⟩ : ∃ c, a = c + b := ⟨a - b, by omega⟩
  rw [← nI_add, Int32.add_sub_cancel, Nat.add_sub_cancel]
theorem pk_m1 (n : Nat) : nI (n + 1) + (-1) = nI n := by
  rw [← nI_1, Int32.add_assoc, show (1 : Int32) + (-1) = 0 from rfl, Int32.add_zero]
theorem pk_mul (a b : Nat) : nI a * nI b = nI (a * b) := (Int32.ofNat_mul a b).symm
theorem pk_div {a d : Nat} (ha : a < 2 ^ 31) (h0 : 0 < d) (hd : d < 2 ^ 31) : nI a / nI d = nI (a / d) := by
  apply Int32.toInt_inj.mp
  rw [lg_idiv_nonneg (by rw [nI_toInt ha]; omega) (by rw [nI_toInt hd]; omega), nI_toInt ha, nI_toInt hd, nI_toInt (Nat.lt_of_le_of_lt (Nat.div_le_self a d) ha)]
  first | rfl | exact (Int.natCast_ediv _ _).symm
theorem pk_rem {a d : Nat} (ha : a < 2 ^ 31) (h0 : 0 < d) (hd : d < 2 ^ 31) : nI a - nI a / nI d * nI d = nI (a % d) := by
  rw [pk_div ha h0 hd, pk_mul, pk_sub (Nat.div_mul_le_self a d)]
  exact congrArg nI (by have := Nat.div_add_mod' a d; omega)
theorem pk_sub_toInt {a b : Nat} (ha : a < 2 ^ 30) (hb : b < 2 ^ 30) : (nI a - nI b).toInt = (a : Int) - b := by
  rw [Int32.toInt_sub, nI_toInt (by omega), nI_toInt (by omega)]
  exact Int.bmod_eq_of_le (by omega) (by omega)
theorem pk_sneg {a b : Nat} (hb : b < 2 ^ 30) (h : a < b) : nI a - nI b < 0 := by
  rw [Int32.lt_iff_toInt_lt, pk_sub_toInt (by omega) hb, show (0 : Int32).toInt = 0 from by decide]
  omega
theorem pk_ix (x : Int32) {n : Nat} (hn : n < 2 ^ 31) : x < 0 ∨ nI n ≤ x ∨ ∃ j : Nat, j < n ∧ x = nI j := by
  by_cases h : x < 0
  · exact Or.inl h
  · obtain ⟨j, hj, rfl⟩ := nI_of h
    by_cases h2 : j < n
    · exact Or.inr (Or.inr ⟨j, h2, rfl⟩)
    · exact Or.inr (Or.inl (nI_le (by omega) hj))
theorem pk_le {x y : Int32} {A B : Prop} (a b : Nat) (f : a ≤ b → A) (g : b < a → B) (hx : x = nI a := by rfl) (hy : y = nI b := by rfl) (ha : a < 2 ^ 31 := by omega) (hb : b < 2 ^ 31 := by omega) : (x ≤ y → A) ∧ (¬ x ≤ y → B) := by
  subst hx hy
  rw [nI_leI ha hb]
  exact ⟨f, fun z => g (by omega)⟩
theorem pk_lt {x y : Int32} {A B : Prop} (a b : Nat) (f : a < b → A) (g : b ≤ a → B) (hx : x = nI a := by rfl) (hy : y = nI b := by rfl) (ha : a < 2 ^ 31 := by omega) (hb : b < 2 ^ 31 := by omega) : (x < y → A) ∧ (¬ x < y → B) := by
  subst hx hy
  rw [nI_ltI ha hb]
  exact ⟨f, fun z => g (by omega)⟩
theorem pk_eq {x y : Int32} {A B : Prop} (a b : Nat) (f : a = b → A) (g : a ≠ b → B) (hx : x = nI a := by rfl) (hy : y = nI b := by rfl) (ha : a < 2 ^ 31 := by omega) (hb : b < 2 ^ 31 := by omega) : (x = y → A) ∧ (¬ x = y → B) := by
  subst hx hy
  rw [nI_eq ha hb]
  exact ⟨f, g⟩
theorem pk_in {x : Int32} (n N : Nat) (h : n < N) (hx : x = nI n := by rfl) (hN : N < 2 ^ 31 := by omega) : vp_in x N := by
  subst hx
  exact vp_in_nI h hN
theorem pk_cl {x : Int32} (n : Nat) (hx : x = nI n := by rfl) (h : n < 2 ^ 31 := by omega) : x.toNatClampNeg = n := by
  subst hx
  exact nI_clamp h
theorem pk_tn {n : Nat} (h : n < 2 ^ 32) : (nI n).toBitVec.toNat = n := Nat.mod_eq_of_lt h
theorem pk_and (x : Int32) {m : Int32} (k : Nat) (hm : m.toBitVec.toNat = 2 ^ k - 1) : x &&& m = nI (x.toBitVec.toNat % 2 ^ k) := by
  apply Int32.toBitVec_inj.mp
  apply BitVec.eq_of_toNat_eq
  rw [Int32.toBitVec_and, BitVec.toNat_and, hm, Nat.and_two_pow_sub_one_eq_mod]
  show _ = (BitVec.ofNat 32 _).toNat
  rw [BitVec.toNat_ofNat]
  exact (Nat.mod_eq_of_lt (Nat.lt_of_le_of_lt (Nat.mod_le _ _) x.toBitVec.isLt)).symm
theorem pk_andN {n : Nat} (h : n < 2 ^ 32) {m : Int32} (k : Nat) (hm : m.toBitVec.toNat = 2 ^ k - 1) : nI n &&& m = nI (n % 2 ^ k) := by
  rw [pk_and _ k hm, pk_tn h]
theorem pk_andE (x : Int32) {m : Int32} (k : Nat) (hm : m.toBitVec.toNat = 2 ^ k - 1) : ∃ j : Nat, j < 2 ^ k ∧ x &&& m = nI j := ⟨_, Nat.mod_lt _ (Nat.two_pow_pos k), pk_and x k hm⟩
theorem pk_andIn (x : Int32) {m : Int32} (k : Nat) (hm : m.toBitVec.toNat = 2 ^ k - 1) (hk : k ≤ 30) : vp_in (x &&& m) (2 ^ k) := by
  obtain ⟨j, hj, e⟩ := pk_andE x k hm
  rw [e]
  exact vp_in_nI hj (Nat.lt_of_le_of_lt (Nat.pow_le_pow_right (by decide) hk) (by decide))
theorem pk_shl (a s : Int32) (k : Nat) (hs : (s.toBitVec.smod 32).toNat = k) : (a <<< s).toBitVec.toNat = a.toBitVec.toNat * 2 ^ k % 2 ^ 32 := by
  show (a.toBitVec <<< (s.toBitVec.smod 32).toNat).toNat = _
  rw [hs, BitVec.toNat_shiftLeft, Nat.shiftLeft_eq]
theorem pk_shlN {n : Nat} (s : Int32) (k : Nat) (hs : (s.toBitVec.smod 32).toNat = k) (h : n * 2 ^ k < 2 ^ 32) : nI n <<< s = nI (n * 2 ^ k) := by
  apply Int32.toBitVec_inj.mp
  apply BitVec.eq_of_toNat_eq
  have hn : n < 2 ^ 32 := Nat.lt_of_le_of_lt (Nat.le_mul_of_pos_right n (Nat.two_pow_pos k)) h
  rw [pk_shl _ _ k hs, pk_tn hn, pk_tn h, Nat.mod_eq_of_lt h]
theorem pk_shr (a s : Int32) (k : Nat) (hs : (s.toBitVec.smod 32).toNat = k) : (a >>> s).toInt = a.toInt >>> k := by
  show (a.toBitVec.sshiftRight (s.toBitVec.smod 32).toNat).toInt = _
  rw [hs, BitVec.toInt_sshiftRight]
  rfl
theorem pk_shrN {n : Nat} (h : n < 2 ^ 31) (s : Int32) (k : Nat) (hs : (s.toBitVec.smod 32).toNat = k) : nI n >>> s = nI (n / 2 ^ k) := by
  apply Int32.toInt_inj.mp
  have h2 : n / 2 ^ k ≤ n := Nat.div_le_self _ _
  rw [pk_shr _ _ k hs, nI_toInt h, nI_toInt (by omega), Int.shiftRight_eq_div_pow]
  rfl
theorem pk_ushr (x s : Int32) (k : Nat) (hs : ((s.toUInt32 &&& Int32.toUInt32 31).toBitVec % 32).toNat = k) : (x.toUInt32 >>> (s.toUInt32 &&& Int32.toUInt32 31)).toInt32.toBitVec.toNat = x.toBitVec.toNat / 2 ^ k := by
  have e : (x.toUInt32 >>> (s.toUInt32 &&& Int32.toUInt32 31)).toInt32.toBitVec = x.toBitVec >>> k := by
    rw [← hs]
    exact UInt32.toBitVec_shiftRight _ _
  rw [e, BitVec.toNat_ushiftRight, Nat.shiftRight_eq_div_pow]
theorem pk_ushrN {n : Nat} (hn : n < 2 ^ 32) (s : Int32) (k : Nat) (hs : ((s.toUInt32 &&& Int32.toUInt32 31).toBitVec % 32).toNat = k) : ((nI n).toUInt32 >>> (s.toUInt32 &&& Int32.toUInt32 31)).toInt32 = nI (n / 2 ^ k) := by
  apply Int32.toBitVec_inj.mp
  apply BitVec.eq_of_toNat_eq
  rw [pk_ushr _ s k hs, pk_tn hn, pk_tn (Nat.lt_of_le_of_lt (Nat.div_le_self _ _) hn)]
theorem pk_nb (z : Int32) : narrow .byte (.int z.toInt8.toInt32) = .int z.toInt8.toInt32 := congrArg Value.int (by simp)
theorem pk_ns (z : Int32) : narrow .short (.int z.toInt16.toInt32) = .int z.toInt16.toInt32 := congrArg Value.int (by simp)
theorem pk_fb (r : Int32) : fits .byte (.int r.toInt8.toInt32) = true := by
  have ⟨a, b⟩ := lg_i2b_range r
  have h1 : (-128 : Int32).toInt = -128 := by decide
  have h2 : (127 : Int32).toInt = 127 := by decide
  simp only [fits, Bool.and_eq_true, decide_eq_true_eq, Int32.le_iff_toInt_le, h1, h2]
  omega
theorem pk_fs (r : Int32) : fits .short (.int r.toInt16.toInt32) = true := by
  have ⟨a, b⟩ := lg_i2s_range r
  have h1 : (-32768 : Int32).toInt = -32768 := by decide
  have h2 : (32767 : Int32).toInt = 32767 := by decide
  simp only [fits, Bool.and_eq_true, decide_eq_true_eq, Int32.le_iff_toInt_le, h1, h2]
  omega
theorem pk_charN {q : Nat} (hq : q < 65536) : narrow .char (.int (nI q)) = .int (nI q) ∧ fits .char (.int (nI q)) = true := by
  constructor
  · have e : (nI q).toUInt32.toUInt16.toUInt32.toInt32 = nI q := by
      apply Int32.toBitVec_inj.mp
      apply BitVec.eq_of_toNat_eq
      show (nI q).toUInt32.toUInt16.toUInt32.toNat = q % 2 ^ 32
      rw [UInt16.toNat_toUInt32, UInt32.toNat_toUInt16, show (nI q).toUInt32.toNat = q % 2 ^ 32 from rfl]
      omega
    exact congrArg Value.int e
  · have a : (0 : Int32) ≤ nI q := nI_pos' (by omega)
    have b : nI q ≤ 65535 := nI_le (b := 65535) (by omega) (by decide)
    show (decide ((0 : Int32) ≤ nI q) && decide (nI q ≤ 65535)) = true
    rw [decide_eq_true a, decide_eq_true b]
    rfl
theorem pk_char (x : Int32) : (x.toUInt32 % 65536).toInt32 = nI (x.toBitVec.toNat % 65536) := by
  apply Int32.toBitVec_inj.mp
  apply BitVec.eq_of_toNat_eq
  rw [pk_tn (by omega)]
  show (x.toUInt32 % 65536).toNat = _
  rw [UInt32.toNat_mod]
  rfl
theorem pk_nc (x : Int32) : narrow .char (.int (x.toUInt32 % 65536).toInt32) = .int (x.toUInt32 % 65536).toInt32 := by
  rw [pk_char]
  exact (pk_charN (Nat.mod_lt _ (by decide))).1
theorem pk_fc (x : Int32) : fits .char (.int (x.toUInt32 % 65536).toInt32) = true := by
  rw [pk_char]
  exact (pk_charN (Nat.mod_lt _ (by decide))).2
theorem pk_vb (z : Int32) : vp_nar .byte z.toInt8.toInt32 = z.toInt8.toInt32 := by rw [vp_nar_byte]; simp
theorem pk_vs (z : Int32) : vp_nar .short z.toInt16.toInt32 = z.toInt16.toInt32 := by rw [vp_nar_short]; simp
theorem pk_vc (z : Int32) : vp_nar .char (z.toUInt32 % 65536).toInt32 = (z.toUInt32 % 65536).toInt32 := Value.int.inj (pk_nc z)
theorem pk_lT {n : Nat} (h : n < 2 ^ 63) : (lN n).toInt = (n : Int) := lg_ofNat_toInt h
theorem pk_lLT {a b : Nat} (ha : a < 2 ^ 63) (hb : b < 2 ^ 63) : lN a < lN b ↔ a < b := by
  rw [Int64.lt_iff_toInt_lt, pk_lT ha, pk_lT hb]; omega
theorem pk_lLE {a b : Nat} (ha : a < 2 ^ 63) (hb : b < 2 ^ 63) : lN a ≤ lN b ↔ a ≤ b := by
  rw [Int64.le_iff_toInt_le, pk_lT ha, pk_lT hb]; omega
theorem pk_lEQ {a b : Nat} (ha : a < 2 ^ 63) (hb : b < 2 ^ 63) : lN a = lN b ↔ a = b := by
  rw [← Int64.toInt_inj, pk_lT ha, pk_lT hb]; omega
theorem pk_lOf {x : Int64} (h : ¬ x < 0) : ∃ k : Nat, k < 2 ^ 63 ∧ x = lN k := by
  rw [Int64.lt_iff_toInt_lt] at h
  have h0 : (0 : Int64).toInt = 0 := by decide
  have hx := Int64.toInt_lt x
  refine ⟨x.toInt.toNat, by omega, Int64.toInt_inj.mp ?_⟩
  rw [pk_lT (by omega)]
  omega
theorem pk_lDiv {a b : Nat} (ha : a < 2 ^ 63) (h0 : 0 < b) (hb : b < 2 ^ 63) : lN a / lN b = lN (a / b) := by
  apply Int64.toInt_inj.mp
  rw [lg_ldiv_nonneg (by rw [pk_lT ha]; omega) (by rw [pk_lT hb]; omega), pk_lT ha, pk_lT hb, pk_lT (Nat.lt_of_le_of_lt (Nat.div_le_self a b) ha)]
  rfl
theorem pk_lRem {a b : Nat} (ha : a < 2 ^ 63) (h0 : 0 < b) (hb : b < 2 ^ 63) : lN a - lN a / lN b * lN b = lN (a % b) := by
  rw [pk_lDiv ha h0 hb, lN_mul, lN_sub (Nat.div_mul_le_self a b)]
  exact congrArg lN (by have := Nat.div_add_mod' a b; omega)
theorem pk_loop {σ : Type} (W : Nat → Nat → σ → Prop) (I : Nat → σ → Prop) (e i0 : Nat) (s : σ) (hi : i0 ≤ e) (h0 : I i0 s) (hx : ∀ n s, I e s → W (n + 1) e s)
    (hs : ∀ n i s, i < e → I i s → (∀ s', I (i + 1) s' → W n (i + 1) s') → W (n + 1) i s) : ∃ n, W n i0 s :=
  ⟨e + 1, loop_i W I e hx hs (e + 1) i0 s hi (by omega) h0⟩
theorem pk_loopD {σ : Type} (W : Nat → Nat → σ → Prop) (I : Nat → σ → Prop) (hx : ∀ n s, I 0 s → W (n + 1) 0 s)
    (hs : ∀ n i s, I (i + 1) s → (∀ s', I i s' → W n i s') → W (n + 1) (i + 1) s) : ∀ (e : Nat) (s : σ), I e s → W (e + 1) e s := by
  intro e
  induction e with
  | zero => exact fun s h => hx 0 s h
  | succ e ih => exact fun s h => hs (e + 1) e s h (fun s' h' => ih s' h')
/-! ===== Int32 by its bits: bt x i ===== -/
def bt (x : Int32) (i : Nat) : Bool := x.toBitVec.getLsbD i
theorem b_ext {x y : Int32} (h : ∀ i, i < 32 → bt x i = bt y i) : x = y := Int32.toBitVec_inj.mp (BitVec.eq_of_getLsbD_eq (fun i hi => h i hi))
theorem b_or (x y : Int32) (i : Nat) : bt (x ||| y) i = (bt x i || bt y i) := by unfold bt; rw [Int32.toBitVec_or, BitVec.getLsbD_or]
theorem b_and (x y : Int32) (i : Nat) : bt (x &&& y) i = (bt x i && bt y i) := by unfold bt; rw [Int32.toBitVec_and, BitVec.getLsbD_and]
theorem b_xor (x y : Int32) (i : Nat) : bt (x ^^^ y) i = (bt x i ^^ bt y i) := by unfold bt; rw [Int32.toBitVec_xor, BitVec.getLsbD_xor]
theorem b_big {x : Int32} {i : Nat} (h : 32 ≤ i) : bt x i = false := BitVec.getLsbD_of_ge _ _ h
theorem b_255 (i : Nat) : bt 255 i = decide (i < 8) := by
  rcases Nat.lt_or_ge i 32 with h | h
  · exact (by decide +kernel : ∀ i, i < 32 → bt 255 i = decide (i < 8)) i h
  · rw [b_big h, decide_eq_false (by omega)]
theorem b_65535 (i : Nat) : bt 65535 i = decide (i < 16) := by
  rcases Nat.lt_or_ge i 32 with h | h
  · exact (by decide +kernel : ∀ i, i < 32 → bt 65535 i = decide (i < 16)) i h
  · rw [b_big h, decide_eq_false (by omega)]
theorem b_m1 : ∀ i, i < 32 → bt (-1) i = true := by decide +kernel
theorem b_0 (i : Nat) : bt 0 i = false := BitVec.getLsbD_zero
theorem s_l : ∀ n, n < 32 → ((nI n &&& 31).toBitVec.smod 32).toNat = n := by decide +kernel
theorem s_u : ∀ n, n < 32 → (((nI n).toUInt32 &&& Int32.toUInt32 31).toBitVec % 32).toNat = n := by decide +kernel
theorem b_shl (n : Nat) (hn : n < 32) (x : Int32) {i : Nat} (hi : i < 32) : bt (x <<< (nI n &&& 31)) i = (decide (n ≤ i) && bt x (i - n)) := by
  unfold bt
  rw [Int32.toBitVec_shiftLeft]
  show (x.toBitVec <<< ((nI n &&& 31).toBitVec.smod 32).toNat).getLsbD i = _
  rw [s_l n hn, BitVec.getLsbD_shiftLeft]
  rcases Nat.lt_or_ge i n with h | h
  · simp [h, Nat.not_le.mpr h]
  · simp [hi, h, Nat.not_lt.mpr h]
theorem b_ushr (n : Nat) (hn : n < 32) (x : Int32) (i : Nat) : bt ((x.toUInt32 >>> ((nI n).toUInt32 &&& Int32.toUInt32 31)).toInt32) i = bt x (n + i) := by
  show (x.toUInt32 >>> ((nI n).toUInt32 &&& Int32.toUInt32 31)).toBitVec.getLsbD i = x.toUInt32.toBitVec.getLsbD (n + i)
  rw [UInt32.toBitVec_shiftRight]
  show (x.toUInt32.toBitVec >>> (((nI n).toUInt32 &&& Int32.toUInt32 31).toBitVec % 32).toNat).getLsbD i = _
  rw [s_u n hn, BitVec.getLsbD_ushiftRight]
theorem b_sshr (n : Nat) (hn : n < 32) (x : Int32) {i : Nat} (hi : i < 32) : bt (x >>> (nI n &&& 31)) i = if n + i < 32 then bt x (n + i) else bt x 31 := by
  unfold bt
  rw [Int32.toBitVec_shiftRight]
  show (x.toBitVec.sshiftRight ((nI n &&& 31).toBitVec.smod 32).toNat).getLsbD i = _
  rw [s_l n hn, BitVec.getLsbD_sshiftRight, BitVec.msb_eq_getLsbD_last]
  simp [hi]
theorem b_shl8 (x : Int32) {i : Nat} (hi : i < 32) : bt (x <<< ((8 : Int32) &&& 31)) i = (decide (8 ≤ i) && bt x (i - 8)) := b_shl 8 (by omega) x hi
theorem b_shl16 (x : Int32) {i : Nat} (hi : i < 32) : bt (x <<< ((16 : Int32) &&& 31)) i = (decide (16 ≤ i) && bt x (i - 16)) := b_shl 16 (by omega) x hi
theorem b_shl24 (x : Int32) {i : Nat} (hi : i < 32) : bt (x <<< ((24 : Int32) &&& 31)) i = (decide (24 ≤ i) && bt x (i - 24)) := b_shl 24 (by omega) x hi
theorem b_sshr8 (x : Int32) {i : Nat} (hi : i < 32) : bt (x >>> ((8 : Int32) &&& 31)) i = if 8 + i < 32 then bt x (8 + i) else bt x 31 := b_sshr 8 (by omega) x hi
end
section
/-! base rows: numbers of processes, owners, chains, counts -/
theorem ba_c {p : Nat} (h : p < 8) : (nI p).toNatClampNeg = p := nI_clamp (by omega)
theorem ba_v {p : Nat} (h : p < 8) : vp_in (nI p) 8 := vp_in_nI h (by decide)
theorem ba_p {p : Nat} (h : p < 8) : ¬ nI p < 0 := nI_pos (by omega)
theorem ba_p' {p : Nat} (h : p < 8) : (0 : Int32) ≤ nI p := nI_pos' (by omega)
theorem ba_inj {a b : Nat} (ha : a < 2 ^ 31) (hb : b < 2 ^ 31) (h : nI a = nI b) : a = b := (nI_eq ha hb).mp h
theorem ba_i8 {a b : Nat} (ha : a < 8) (hb : b < 8) (h : nI a = nI b) : a = b := ba_inj (by omega) (by omega) h
theorem ba_m1 {a : Nat} (ha : a < 2 ^ 31) : ¬ nI a = -1 := fun h => by
  have h2 := nI_pos' ha
  rw [h] at h2
  exact absurd h2 (by decide)
theorem ba_m2 {a : Nat} (ha : a < 2 ^ 31) : ¬ nI a = -2 := fun h => by
  have h2 := nI_pos' ha
  rw [h] at h2
  exact absurd h2 (by decide)
theorem ba_uu {f : Nat → Int32} {k : Nat} {x y : Int32} : upd (upd f k x) k y = upd f k y := by
  funext j
  unfold upd
  by_cases h : j = k
  · rw [if_pos h, if_pos h]
  · rw [if_neg h, if_neg h, if_neg h]
theorem ba_us {f : Nat → Int32} {k : Nat} : upd f k (f k) = f := by
  funext j
  unfold upd
  by_cases h : j = k
  · rw [if_pos h, h]
  · rw [if_neg h]
theorem ba_com {f : Nat → Int32} {a b : Nat} {x y : Int32} (h : a ≠ b) : upd (upd f a x) b y = upd (upd f b y) a x := by
  funext j
  unfold upd
  by_cases h1 : j = b
  · have h2 : ¬ j = a := by omega
    rw [if_pos h1, if_neg h2, if_pos h1]
  · by_cases h2 : j = a
    · rw [if_neg h1, if_pos h2, if_pos h2]
    · rw [if_neg h1, if_neg h2, if_neg h2, if_neg h1]
/-- the state word at q after a store of s at p, when it is asked for being k -/
theorem ba_st {f : Nat → Int32} {p q : Nat} {s k : Int32} (h1 : f p ≠ k) (h2 : s ≠ k) : upd f p s q = k ↔ f q = k := by
  by_cases e : q = p
  · subst e
    rw [pk_us]
    exact ⟨fun z => absurd z h2, fun z => absurd z h1⟩
  · rw [pk_un e]
theorem ba_to {f : Nat → Int32} {p q : Nat} {k : Int32} : upd f p k q = k ↔ (q = p ∨ f q = k) := by
  by_cases e : q = p
  · subst e
    rw [pk_us]
    exact ⟨fun _ => Or.inl rfl, fun _ => rfl⟩
  · rw [pk_un e]
    exact ⟨fun z => Or.inr z, fun z => z.resolve_left e⟩
theorem ba_off {f : Nat → Int32} {p q : Nat} {s k : Int32} (h : s ≠ k) : upd f p s q = k ↔ (q ≠ p ∧ f q = k) := by
  by_cases e : q = p
  · subst e
    rw [pk_us]
    exact ⟨fun z => absurd z h, fun z => absurd rfl z.1⟩
  · rw [pk_un e]
    exact ⟨fun z => ⟨e, z⟩, fun z => z.2⟩
/-- an owner's word: -1 if none below N has P, else the only one -/
def ow_n (N : Nat) (P : Nat → Prop) (x : Int32) : Prop := (x = -1 ∧ ∀ p, p < N → ¬ P p) ∨ ∃ w, w < N ∧ x = nI w ∧ P w ∧ ∀ p, p < N → P p → p = w
theorem ow_congr {N : Nat} {P Q : Nat → Prop} {x : Int32} (H : ow_n N P x) (h : ∀ p, p < N → (Q p ↔ P p)) : ow_n N Q x := by
  rcases H with ⟨e, H⟩ | ⟨w, hw, e, H, H2⟩
  · exact Or.inl ⟨e, fun p hp z => H p hp ((h p hp).mp z)⟩
  · exact Or.inr ⟨w, hw, e, (h w hw).mpr H, fun p hp z => H2 p hp ((h p hp).mp z)⟩
theorem ow_none {N : Nat} {P : Nat → Prop} (h : ∀ p, p < N → ¬ P p) : ow_n N P (-1) := Or.inl ⟨rfl, h⟩
theorem ow_one {N : Nat} {P : Nat → Prop} {w : Nat} (hw : w < N) (h : P w) (hu : ∀ p, p < N → P p → p = w) : ow_n N P (nI w) := Or.inr ⟨w, hw, rfl, h, hu⟩
theorem ow_neg {N : Nat} {P : Nat → Prop} {x : Int32} (hN : N ≤ 8) (H : ow_n N P x) (h : x < 0) : x = -1 ∧ ∀ p, p < N → ¬ P p := by
  rcases H with H | ⟨w, hw, e, _, _⟩
  · exact H
  · subst e
    exact absurd h (ba_p (by omega))
theorem ow_pos {N : Nat} {P : Nat → Prop} {x : Int32} (H : ow_n N P x) (h : ¬ x < 0) : ∃ w, w < N ∧ x = nI w ∧ P w ∧ ∀ p, p < N → P p → p = w := by
  rcases H with ⟨e, _⟩ | H
  · subst e
    exact absurd (by decide) h
  · exact H
theorem ow_is {N : Nat} {P : Nat → Prop} {x : Int32} (H : ow_n N P x) {w : Nat} (hw : w < N) (h : P w) : x = nI w := by
  rcases H with ⟨_, H⟩ | ⟨v, _, e, _, H⟩
  · exact absurd h (H w hw)
  · rw [e, H w hw h]
theorem ow_at {N : Nat} {P : Nat → Prop} {w : Nat} (hN : N ≤ 8) (hw : w < 8) (H : ow_n N P (nI w)) : w < N ∧ P w ∧ ∀ p, p < N → P p → p = w := by
  rcases H with ⟨e, _⟩ | ⟨v, hv, e, H⟩
  · exact absurd e (ba_m1 (by omega))
  · have e2 : w = v := ba_i8 hw (by omega) e
    subst e2
    exact ⟨hv, H⟩
theorem ow_un {N : Nat} {P : Nat → Prop} {x : Int32} (H : ow_n N P x) {p q : Nat} (hp : p < N) (hq : q < N) (h1 : P p) (h2 : P q) : p = q := by
  rcases H with ⟨_, H⟩ | ⟨v, _, _, _, H⟩
  · exact absurd h1 (H p hp)
  · rw [H p hp h1, H q hq h2]
theorem ow_m1 {N : Nat} {P : Nat → Prop} (hN : N ≤ 8) (H : ow_n N P (-1)) : ∀ p, p < N → ¬ P p := (ow_neg hN H (by decide)).2
/-- a chain of links from the word h along a list to -1 -/
def ch_n (k : Nat → Int32) : Int32 → List Nat → Prop
  | h, [] => h = -1
  | h, p :: l => h = nI p ∧ ch_n k (k p) l
theorem ch_congr {k k' : Nat → Int32} : ∀ {l : List Nat} {h : Int32}, ch_n k h l → (∀ p, p ∈ l → k' p = k p) → ch_n k' h l := by
  intro l
  induction l with
  | nil => intro h H _; exact H
  | cons a l ih =>
    intro h H E
    refine ⟨H.1, ?_⟩
    rw [E a (List.mem_cons_self ..)]
    exact ih H.2 (fun p hp => E p (List.mem_cons_of_mem _ hp))
theorem ch_upd {k : Nat → Int32} {l : List Nat} {h : Int32} {p : Nat} {x : Int32} (H : ch_n k h l) (hp : p ∉ l) : ch_n (upd k p x) h l := ch_congr H (fun q hq => pk_un (fun e => hp (e ▸ hq)))
theorem ch_mid {k : Nat → Int32} {b : Nat} {l2 : List Nat} : ∀ {l1 : List Nat} {h : Int32}, ch_n k h (l1 ++ b :: l2) → ch_n k (k b) l2 := by
  intro l1
  induction l1 with
  | nil => intro h H; exact H.2
  | cons a l ih => intro h H; exact ih H.2
/-- p stands behind b -/
theorem ch_ins {k : Nat → Int32} {b p : Nat} {l2 : List Nat} : ∀ {l1 : List Nat} {h : Int32}, ch_n k h (l1 ++ b :: l2) → (l1 ++ b :: l2).Nodup → p ∉ l1 ++ b :: l2 → ch_n (upd (upd k p (k b)) b (nI p)) h (l1 ++ b :: p :: l2) := by
  intro l1
  induction l1 with
  | nil =>
    intro h H D N
    have hb : b ∉ l2 := (List.nodup_cons.mp D).1
    have hpb : p ≠ b := fun e => N (by rw [e]; exact List.mem_cons_self ..)
    have hpl : p ∉ l2 := fun e => N (List.mem_cons_of_mem _ e)
    refine ⟨H.1, ?_⟩
    rw [pk_us]
    refine ⟨rfl, ?_⟩
    rw [pk_un hpb, pk_us]
    exact ch_upd (ch_upd H.2 hpl) hb
  | cons a l ih =>
    intro h H D N
    have D2 := List.nodup_cons.mp D
    have hab : a ≠ b := fun e => D2.1 (by rw [e]; exact List.mem_append.mpr (Or.inr (List.mem_cons_self ..)))
    have hap : a ≠ p := fun e => N (by rw [e]; exact List.mem_cons_self ..)
    refine ⟨H.1, ?_⟩
    rw [pk_un hab, pk_un hap]
    exact ih H.2 D2.2 (fun e => N (List.mem_cons_of_mem _ e))
/-- p, behind b, leaves -/
theorem ch_del {k : Nat → Int32} {b p : Nat} {l2 : List Nat} : ∀ {l1 : List Nat} {h : Int32}, ch_n k h (l1 ++ b :: p :: l2) → (l1 ++ b :: p :: l2).Nodup → ch_n (upd k b (k p)) h (l1 ++ b :: l2) := by
  intro l1
  induction l1 with
  | nil =>
    intro h H D
    have hb : b ∉ l2 := fun e => (List.nodup_cons.mp D).1 (List.mem_cons_of_mem _ e)
    refine ⟨H.1, ?_⟩
    rw [pk_us]
    exact ch_upd H.2.2 hb
  | cons a l ih =>
    intro h H D
    have D2 := List.nodup_cons.mp D
    have hab : a ≠ b := fun e => D2.1 (by rw [e]; exact List.mem_append.mpr (Or.inr (List.mem_cons_self ..)))
    refine ⟨H.1, ?_⟩
    rw [pk_un hab]
    exact ih H.2 D2.2
theorem ch_neg {k : Nat → Int32} {h : Int32} {l : List Nat} (H : ch_n k h l) (hl : ∀ p, p ∈ l → p < 8) (z : h < 0) : l = [] ∧ h = -1 := by
  cases l with
  | nil => exact ⟨rfl, H⟩
  | cons a l =>
    have e := H.1
    subst e
    exact absurd z (ba_p (hl a (List.mem_cons_self ..)))
theorem ch_pos {k : Nat → Int32} {h : Int32} {l : List Nat} (H : ch_n k h l) (z : ¬ h < 0) : ∃ a m, l = a :: m ∧ h = nI a ∧ ch_n k (k a) m := by
  cases l with
  | nil =>
    have e : h = -1 := H
    subst e
    exact absurd (by decide) z
  | cons a l => exact ⟨a, l, rfl, H.1, H.2⟩
/-- how many below n have P -/
def cn_n (P : Nat → Prop) [DecidablePred P] : Nat → Nat
  | 0 => 0
  | n + 1 => cn_n P n + (if P n then 1 else 0)
theorem cn_congr {P Q : Nat → Prop} [DecidablePred P] [DecidablePred Q] : ∀ {n : Nat}, (∀ q, q < n → (P q ↔ Q q)) → cn_n P n = cn_n Q n := by
  intro n
  induction n with
  | zero => intro _; rfl
  | succ n ih =>
    intro h
    have e := h n (by omega)
    show cn_n P n + _ = cn_n Q n + _
    rw [ih (fun q hq => h q (by omega))]
    by_cases z : P n
    · rw [if_pos z, if_pos (e.mp z)]
    · rw [if_neg z, if_neg (fun y => z (e.mpr y))]
theorem cn_le {P : Nat → Prop} [DecidablePred P] : ∀ n : Nat, cn_n P n ≤ n := by
  intro n
  induction n with
  | zero => exact Nat.le_refl _
  | succ n ih =>
    show cn_n P n + _ ≤ _
    by_cases z : P n
    · rw [if_pos z]; omega
    · rw [if_neg z]; omega
theorem cn_add {P Q : Nat → Prop} [DecidablePred P] [DecidablePred Q] {a : Nat} (ha : ¬ P a) (h : ∀ q, Q q ↔ (q = a ∨ P q)) : ∀ {n : Nat}, a < n → cn_n Q n = cn_n P n + 1 := by
  intro n
  induction n with
  | zero => intro z; omega
  | succ n ih =>
    intro z
    show cn_n Q n + _ = cn_n P n + _ + 1
    by_cases e : a = n
    · subst e
      rw [if_pos ((h a).mpr (Or.inl rfl)), if_neg ha, cn_congr (P := Q) (Q := P) (n := a) (fun q hq => by rw [h q]; exact ⟨fun y => y.resolve_left (by omega), Or.inr⟩)]
    · rw [ih (by omega)]
      by_cases y : P n
      · rw [if_pos y, if_pos ((h n).mpr (Or.inr y))]
      · rw [if_neg y, if_neg (fun x => y (((h n).mp x).resolve_left (fun x => e x.symm)))]
theorem cn_list {n : Nat} : ∀ {l : List Nat}, l.Nodup → (∀ x, x ∈ l → x < n) → cn_n (fun q => q ∈ l) n = l.length := by
  intro l
  induction l with
  | nil =>
    intro _ _
    have : ∀ n, cn_n (fun q => q ∈ ([] : List Nat)) n = 0 := by
      intro n
      induction n with
      | zero => rfl
      | succ n ih => show cn_n _ n + _ = 0; rw [ih, if_neg (List.not_mem_nil)]
    exact this n
  | cons a l ih =>
    intro D H
    have D2 := List.nodup_cons.mp D
    rw [cn_add (P := fun q => q ∈ l) (Q := fun q => q ∈ a :: l) D2.1 (fun q => List.mem_cons) (H a (List.mem_cons_self ..)), ih D2.2 (fun x hx => H x (List.mem_cons_of_mem _ hx))]
    rfl
theorem cn_len {n : Nat} {l : List Nat} (D : l.Nodup) (H : ∀ x, x ∈ l → x < n) : l.length ≤ n := by
  rw [← cn_list D H]
  exact cn_le n
/-- a strictly rising list holds nothing twice -/
theorem pw_nodup {f : Nat → Nat} : ∀ {l : List Nat}, l.Pairwise (fun a b => f a < f b) → l.Nodup := by
  intro l h
  exact List.Pairwise.imp (fun {a b} (z : f a < f b) (e : a = b) => by subst e; exact Nat.lt_irrefl _ z) h
/-- how many of a rising list lie below one of its members: as many as stand ahead of it -/
theorem cn_below {f : Nat → Nat} {n p : Nat} {l1 l2 : List Nat} (h : (l1 ++ p :: l2).Pairwise (fun a b => f a < f b)) (H : ∀ x, x ∈ l1 ++ p :: l2 → x < n) : cn_n (fun q => q ∈ l1 ++ p :: l2 ∧ f q < f p) n = l1.length := by
  have h3 := List.pairwise_append.mp h
  have hD : l1.Nodup := pw_nodup h3.1
  rw [← cn_list hD (fun x hx => H x (List.mem_append.mpr (Or.inl hx)))]
  refine cn_congr (fun q _ => ?_)
  constructor
  · intro ⟨hq, hf⟩
    rcases List.mem_append.mp hq with z | z
    · exact z
    · rcases List.mem_cons.mp z with e | z
      · subst e; omega
      · have := (List.pairwise_cons.mp h3.2.1).1 q z
        omega
  · intro hq
    exact ⟨List.mem_append.mpr (Or.inl hq), h3.2.2 q hq p (List.mem_cons_self ..)⟩
/-- the word at place i of a chain: -1 behind its end -/
def gt_n : List Nat → Nat → Int32
  | [], _ => -1
  | p :: _, 0 => nI p
  | _ :: l, i + 1 => gt_n l i
theorem gt_end : ∀ {l : List Nat} {i : Nat}, l.length ≤ i → gt_n l i = -1 := by
  intro l
  induction l with
  | nil => intro i _; rfl
  | cons a l ih =>
    intro i h
    cases i with
    | zero => exact absurd h (by simp)
    | succ i => exact ih (by simpa using h)
theorem gt_app {p : Nat} {l2 : List Nat} : ∀ {l1 : List Nat}, gt_n (l1 ++ p :: l2) l1.length = nI p := by
  intro l1
  induction l1 with
  | nil => rfl
  | cons a l ih => exact ih
theorem li_split : ∀ {l : List Nat} {i : Nat}, i < l.length → ∃ l1 p l2, l = l1 ++ p :: l2 ∧ l1.length = i := by
  intro l
  induction l with
  | nil => intro i h; exact absurd h (by simp)
  | cons a l ih =>
    intro i h
    cases i with
    | zero => exact ⟨[], a, l, rfl, rfl⟩
    | succ i =>
      obtain ⟨l1, p, l2, e, e2⟩ := ih (i := i) (by simpa using h)
      exact ⟨a :: l1, p, l2, by rw [e]; rfl, by simp [e2]⟩
theorem li_mem {l : List Nat} {p : Nat} (h : p ∈ l) : ∃ l1 l2, l = l1 ++ p :: l2 := List.append_of_mem h
end
section
/-! the relation's pieces, each over the words that it speaks of, and how they last -/
/-- the processor: who runs, who is interrupted, their registers; the others' are clear -/
def rl_pr (N : Nat) (st pr ra rb rc : Nat → Int32) (run it xa xb xc sa sb sc : Int32) : Prop :=
  ow_n N (fun p => st p = 1) run ∧ ow_n N (fun p => st p = 2) it
  ∧ (∀ p, p < N → st p = 1 → ra p = xa ∧ rb p = xb ∧ rc p = xc)
  ∧ (∀ p, p < N → st p = 2 → ra p = sa ∧ rb p = sb ∧ rc p = sc)
  ∧ (∀ p, p < N → st p ≠ 1 → st p ≠ 2 → ra p = 0 ∧ rb p = 0 ∧ rc p = 0)
  ∧ (∀ p q, p < N → q < N → st p = 1 → st q = 2 → pr p = 0)
/-- one ready queue -/
def rl_qq (N : Nat) (st pr : Nat → Int32) (tk : Nat → Nat) (hd tl : Int32) (lk : Nat → Int32) (k : Nat) (l : List Nat) : Prop :=
  (∀ p, p ∈ l ↔ (p < N ∧ st p = 3 ∧ pr p = nI k)) ∧ l.Pairwise (fun a b => tk a < tk b) ∧ ch_n lk hd l ∧ (∀ m p, l = m ++ [p] → tl = nI p)
/-- the ready queues: links on one side, tickets on the other; B: as many tickets at most -/
def rl_qu (N B : Nat) (st pr : Nat → Int32) (tc : Nat → Int64) (nt : Int64) (hd tl lk : Nat → Int32) : Prop :=
  ∃ (tk : Nat → Nat) (n : Nat), nt = lN n ∧ n ≤ B ∧ (∀ p, tc p = lN (tk p) ∧ tk p ≤ n) ∧ (∀ p, p < N → st p = 3 → tk p < n)
    ∧ ∀ k, k < 2 → ∃ l, rl_qq N st pr tk (hd k) (tl k) lk k l
/-- how far a deadline d lies ahead of the clock c -/
def tm_w (c d : Nat) : Nat := (d + 256 - c) % 256
def tm_k (c : Nat) (dl : Nat → Int32) (p : Nat) : Nat := tm_w c (dl p).toNatClampNeg * 8 + p
/-- the timer queue; lo: the least distance -/
def rl_tm (N lo c : Nat) (st dl : Nat → Int32) (th : Int32) (lk : Nat → Int32) : Prop :=
  ∃ l : List Nat, (∀ p, p ∈ l ↔ (p < N ∧ (st p = 6 ∨ (st p = 7 ∧ dl p ≠ -1)))) ∧ l.Pairwise (fun a b => tm_k c dl a < tm_k c dl b)
    ∧ (∀ p, p ∈ l → ∃ d, d < 256 ∧ dl p = nI d ∧ lo ≤ tm_w c d ∧ tm_w c d ≤ 128) ∧ ch_n lk th l
/-- the channels' ends -/
def rl_ch (N C : Nat) (st cn op gd wr rd : Nat → Int32) : Prop :=
  ∀ c, c < C → ow_n N (fun p => st p = 4 ∧ cn p = nI c) (wr c) ∧ ow_n N (fun p => (st p = 5 ∧ cn p = nI c) ∨ (op p ≠ 0 ∧ gd (p * 8 + c) ≠ 0)) (rd c)
/-- places in the code -/
def rl_po (N L : Nat) (ad : Nat → Nat) (st pos ptr : Nat → Int32) : Prop :=
  ∀ p, p < N → st p ≠ 0 → ∃ i, i < L ∧ pos p = nI i ∧ ptr p = nI (ad i)
/-- one process's alternation and deadline -/
def rl_a1 (L : Nat) (ad : Nat → Nat) (s o c b t w d : Int32) : Prop :=
  (o = 0 ∧ b = -2 ∧ s ≠ 7 ∧ (s = 6 → d = w ∧ ∃ e, e < 256 ∧ w = nI e) ∧ (s ≠ 6 → d = -1))
  ∨ (o = 1 ∧ (s = 1 ∨ s = 2 ∨ s = 3 ∨ s = 7) ∧ d = t ∧ (t = -1 ∨ ∃ e, e < 256 ∧ t = nI e) ∧ ((c = -1 ∧ b = -1) ∨ ∃ i, i < L ∧ c = nI i ∧ b = nI (ad i)))
def rl_al (N L : Nat) (ad : Nat → Nat) (st op cs br tm wk dl : Nat → Int32) : Prop :=
  ∀ p, p < N → rl_a1 L ad (st p) (op p) (cs p) (br p) (tm p) (wk p) (dl p)
/-- one process's held word -/
def rl_h1 (C : Nat) (s cn hx hy nm : Int32) : Prop :=
  (s = 4 → hx = hy ∧ ∃ c, c < C ∧ cn = nI c) ∧ (s = 5 → (∃ k, k < 8 ∧ hx = nI k ∧ nm = nI k) ∧ ∃ c, c < C ∧ cn = nI c)
def rl_he (N C : Nat) (st cn hx hy nm : Nat → Int32) : Prop :=
  ∀ p, p < N → rl_h1 C (st p) (cn p) (hx p) (hy p) (nm p)
def rl_co (C : Nat) (ct se re sf rf : Nat → Int32) : Prop :=
  ∀ c, c < C → ct (c * 4) = se c ∧ ct (c * 4 + 1) = re c ∧ ct (c * 4 + 2) = sf c ∧ ct (c * 4 + 3) = rf c
def rl_pi (pr : Nat → Int32) : Prop := ∀ p, pr p = 0 ∨ pr p = 1
section
variable {N C L B c : Nat} {ad : Nat → Nat} {st st' pr pr' ra rb rc cn op gd wr rd pos ptr cs br tm wk dl dl' hx hy nm hd tl lk : Nat → Int32} {run it xa xb xc sa sb sc th : Int32} {tc : Nat → Int64} {nt : Int64}
/-! processor -/
theorem pr_at {r : Nat} (hN : N ≤ 8) (hr : r < 8) (H : rl_pr N st pr ra rb rc (nI r) it xa xb xc sa sb sc) : r < N ∧ st r = 1 ∧ (∀ p, p < N → st p = 1 → p = r) ∧ ra r = xa ∧ rb r = xb ∧ rc r = xc := by
  have h := ow_at hN hr H.1
  exact ⟨h.1, h.2.1, h.2.2, H.2.2.1 r h.1 h.2.1⟩
theorem pr_regs {r : Nat} {a b d : Int32} (hN : N ≤ 8) (hr : r < 8) (H : rl_pr N st pr ra rb rc (nI r) it xa xb xc sa sb sc) : rl_pr N st pr (upd ra r a) (upd rb r b) (upd rc r d) (nI r) it a b d sa sb sc := by
  have h := ow_at hN hr H.1
  refine ⟨H.1, H.2.1, ?_, ?_, ?_, H.2.2.2.2.2⟩
  · intro p hp z
    have e := h.2.2 p hp z
    subst e
    exact ⟨pk_us, pk_us, pk_us⟩
  · intro p hp z
    have e : p ≠ r := fun e => by
      subst e
      have z2 := h.2.1
      rw [z] at z2
      exact absurd z2 (by decide)
    rw [pk_un e, pk_un e, pk_un e]
    exact H.2.2.2.1 p hp z
  · intro p hp z z2
    have e : p ≠ r := fun e => z (by rw [e]; exact h.2.1)
    rw [pk_un e, pk_un e, pk_un e]
    exact H.2.2.2.2.1 p hp z z2
/-- the running process, its registers clear, gives up the processor -/
theorem pr_susp {r : Nat} {s ya yb yc : Int32} (hN : N ≤ 8) (hr : r < 8) (h1 : s ≠ 1) (h2 : s ≠ 2) (H : rl_pr N st pr ra rb rc (nI r) it 0 0 0 sa sb sc) : rl_pr N (upd st r s) pr ra rb rc (-1) it ya yb yc sa sb sc := by
  have h := ow_at hN hr H.1
  have hs2 : st r ≠ 2 := by rw [h.2.1]; decide
  have none : ∀ p, p < N → ¬ upd st r s p = 1 := fun p hp z => by
    rw [ba_off h1] at z
    exact z.1 (h.2.2 p hp z.2)
  refine ⟨ow_none none, ow_congr H.2.1 (fun p _ => ba_st hs2 h2), fun p hp z => absurd z (none p hp), fun p hp z => H.2.2.2.1 p hp ((ba_st hs2 h2).mp z), ?_, fun p q hp _ z => absurd z (none p hp)⟩
  intro p hp z1 z2
  by_cases e : p = r
  · subst e
    exact H.2.2.1 p hp h.2.1
  · rw [pk_un e] at z1 z2
    exact H.2.2.2.2.1 p hp z1 z2
theorem pr_frame {p0 : Nat} {s : Int32} (g1 : st p0 ≠ 1) (g2 : st p0 ≠ 2) (h1 : s ≠ 1) (h2 : s ≠ 2) (H : rl_pr N st pr ra rb rc run it xa xb xc sa sb sc) : rl_pr N (upd st p0 s) pr ra rb rc run it xa xb xc sa sb sc := by
  refine ⟨ow_congr H.1 (fun p _ => ba_st g1 h1), ow_congr H.2.1 (fun p _ => ba_st g2 h2), fun p hp z => H.2.2.1 p hp ((ba_st g1 h1).mp z), fun p hp z => H.2.2.2.1 p hp ((ba_st g2 h2).mp z), ?_, fun p q hp hq z z2 => H.2.2.2.2.2 p q hp hq ((ba_st g1 h1).mp z) ((ba_st g2 h2).mp z2)⟩
  intro p hp z1 z2
  exact H.2.2.2.2.1 p hp (fun z => z1 ((ba_st g1 h1).mpr z)) (fun z => z2 ((ba_st g2 h2).mpr z))
theorem pr_prio {q : Nat} {x : Int32} (g1 : st q ≠ 1) (H : rl_pr N st pr ra rb rc run it xa xb xc sa sb sc) : rl_pr N st (upd pr q x) ra rb rc run it xa xb xc sa sb sc := by
  refine ⟨H.1, H.2.1, H.2.2.1, H.2.2.2.1, H.2.2.2.2.1, fun p q2 hp hq z z2 => ?_⟩
  have e : p ≠ q := fun e => g1 (by rw [← e]; exact z)
  rw [pk_un e]
  exact H.2.2.2.2.2 p q2 hp hq z z2
/-- clearing the registers of one that neither runs nor is interrupted -/
theorem pr_clr {q : Nat} (g1 : st q ≠ 1) (g2 : st q ≠ 2) (H : rl_pr N st pr ra rb rc run it xa xb xc sa sb sc) : rl_pr N st pr (upd ra q 0) (upd rb q 0) (upd rc q 0) run it xa xb xc sa sb sc := by
  refine ⟨H.1, H.2.1, ?_, ?_, ?_, H.2.2.2.2.2⟩
  · intro p hp z
    have e : p ≠ q := fun e => g1 (by rw [← e]; exact z)
    rw [pk_un e, pk_un e, pk_un e]
    exact H.2.2.1 p hp z
  · intro p hp z
    have e : p ≠ q := fun e => g2 (by rw [← e]; exact z)
    rw [pk_un e, pk_un e, pk_un e]
    exact H.2.2.2.1 p hp z
  · intro p hp z z2
    by_cases e : p = q
    · subst e
      exact ⟨pk_us, pk_us, pk_us⟩
    · rw [pk_un e, pk_un e, pk_un e]
      exact H.2.2.2.2.1 p hp z z2
/-- a ready process gets the free processor -/
theorem pr_disp {p0 : Nat} (hN : N ≤ 8) (hp0 : p0 < N) (g : st p0 = 3) (hi : it = -1 ∨ pr p0 = 0) (H : rl_pr N st pr ra rb rc (-1) it xa xb xc sa sb sc) : rl_pr N (upd st p0 1) pr ra rb rc (nI p0) it 0 0 0 sa sb sc := by
  have none : ∀ p, p < N → ¬ st p = 1 := ow_m1 hN H.1
  have g1 : st p0 ≠ 1 := by rw [g]; decide
  have g2 : st p0 ≠ 2 := by rw [g]; decide
  have one : ∀ p, p < N → upd st p0 1 p = 1 → p = p0 := fun p hp z => by
    rcases ba_to.mp z with e | e
    · exact e
    · exact absurd e (none p hp)
  refine ⟨ow_one hp0 pk_us one, ow_congr H.2.1 (fun p _ => ba_st g2 (by decide)), ?_, fun p hp z => H.2.2.2.1 p hp ((ba_st g2 (by decide)).mp z), ?_, ?_⟩
  · intro p hp z
    have e := one p hp z
    subst e
    exact H.2.2.2.2.1 p hp g1 g2
  · intro p hp z1 z2
    have e : p ≠ p0 := fun e => z1 (by rw [e]; exact pk_us)
    rw [pk_un e] at z1 z2
    exact H.2.2.2.2.1 p hp z1 z2
  · intro p q hp hq z z2
    have e := one p hp z
    subst e
    rcases hi with hi | hi
    · rw [hi] at H
      exact absurd ((ba_st g2 (by decide)).mp z2) (ow_m1 hN H.2.1 q hq)
    · exact hi
/-- a running process of low rank gives way -/
theorem pr_intr {r p0 : Nat} (hN : N ≤ 8) (hr : r < 8) (hl : pr r ≠ 0) (hp0 : p0 < N) (g : st p0 = 3) (g0 : pr p0 = 0) (H : rl_pr N st pr ra rb rc (nI r) it xa xb xc sa sb sc) : rl_pr N (upd (upd st r 2) p0 1) pr ra rb rc (nI p0) (nI r) 0 0 0 xa xb xc := by
  have h := ow_at hN hr H.1
  have none : ∀ p, p < N → ¬ st p = 2 := fun p hp z => hl (H.2.2.2.2.2 r p h.1 hp h.2.1 z)
  have e0 : p0 ≠ r := fun e => by
    rw [e, h.2.1] at g
    exact absurd g (by decide)
  have g1 : upd st r 2 p0 ≠ 2 := by rw [pk_un e0, g]; decide
  have one : ∀ p, p < N → upd (upd st r 2) p0 1 p = 1 → p = p0 := fun p hp z => by
    rcases ba_to.mp z with e | e
    · exact e
    · rw [ba_off (by decide)] at e
      exact absurd (h.2.2 p hp e.2) e.1
  have two : ∀ p, p < N → upd (upd st r 2) p0 1 p = 2 → p = r := fun p hp z => by
    rw [ba_st g1 (by decide)] at z
    rcases ba_to.mp z with e | e
    · exact e
    · exact absurd e (none p hp)
  refine ⟨ow_one hp0 pk_us one, ow_one h.1 ((ba_st g1 (by decide)).mpr pk_us) two, ?_, ?_, ?_, ?_⟩
  · intro p hp z
    have e := one p hp z
    subst e
    exact H.2.2.2.2.1 p hp (by rw [g]; decide) (by rw [g]; decide)
  · intro p hp z
    have e := two p hp z
    subst e
    exact H.2.2.1 p hp h.2.1
  · intro p hp z1 z2
    have e : p ≠ p0 := fun e => z1 (by rw [e]; exact pk_us)
    rw [pk_un e] at z1 z2
    have e2 : p ≠ r := fun e2 => z2 (by rw [e2]; exact pk_us)
    rw [pk_un e2] at z1 z2
    exact H.2.2.2.2.1 p hp z1 z2
  · intro p q hp hq z _
    have e := one p hp z
    subst e
    exact g0
theorem pr_resm {q : Nat} (hN : N ≤ 8) (hq : q < 8) (H : rl_pr N st pr ra rb rc (-1) (nI q) xa xb xc sa sb sc) : rl_pr N (upd st q 1) pr ra rb rc (nI q) (-1) sa sb sc sa sb sc := by
  have none : ∀ p, p < N → ¬ st p = 1 := ow_m1 hN H.1
  have h := ow_at hN hq H.2.1
  have one : ∀ p, p < N → upd st q 1 p = 1 → p = q := fun p hp z => by
    rcases ba_to.mp z with e | e
    · exact e
    · exact absurd e (none p hp)
  have two : ∀ p, p < N → ¬ upd st q 1 p = 2 := fun p hp z => by
    rw [ba_off (by decide)] at z
    exact z.1 (h.2.2 p hp z.2)
  refine ⟨ow_one h.1 pk_us one, ow_none two, ?_, fun p hp z => absurd z (two p hp), ?_, fun p q _ hq _ z => absurd z (two q hq)⟩
  · intro p hp z
    have e := one p hp z
    subst e
    exact H.2.2.2.1 p hp h.2.1
  · intro p hp z1 z2
    have e : p ≠ q := fun e => z1 (by rw [e]; exact pk_us)
    rw [pk_un e] at z1 z2
    exact H.2.2.2.2.1 p hp z1 z2
end
end
section
/-! the queues' pure laws -/
section
variable {N C L B B' c lo : Nat} {st st' pr dl dl' hd tl lk : Nat → Int32} {th : Int32} {tc : Nat → Int64} {nt : Int64}
theorem qu_mono (h : B ≤ B') (H : rl_qu N B st pr tc nt hd tl lk) : rl_qu N B' st pr tc nt hd tl lk := by
  obtain ⟨tk, n, e, hn, H⟩ := H
  exact ⟨tk, n, e, by omega, H⟩
theorem qu_frame (h : ∀ p, p < N → (st' p = 3 ↔ st p = 3)) (H : rl_qu N B st pr tc nt hd tl lk) : rl_qu N B st' pr tc nt hd tl lk := by
  obtain ⟨tk, n, e, hn, H1, H2, H3⟩ := H
  refine ⟨tk, n, e, hn, H1, fun p hp z => H2 p hp ((h p hp).mp z), fun k hk => ?_⟩
  obtain ⟨l, a, b⟩ := H3 k hk
  refine ⟨l, fun p => ?_, b⟩
  rw [a p]
  exact ⟨fun z => ⟨z.1, (h p z.1).mpr z.2.1, z.2.2⟩, fun z => ⟨z.1, (h p z.1).mp z.2.1, z.2.2⟩⟩
theorem qu_set {q : Nat} {s : Int32} (h1 : st q ≠ 3) (h2 : s ≠ 3) (H : rl_qu N B st pr tc nt hd tl lk) : rl_qu N B (upd st q s) pr tc nt hd tl lk := qu_frame (fun _ _ => ba_st h1 h2) H
theorem qu_prio {q : Nat} {x : Int32} (g : st q ≠ 3) (H : rl_qu N B st pr tc nt hd tl lk) : rl_qu N B st (upd pr q x) tc nt hd tl lk := by
  obtain ⟨tk, n, e, hn, H1, H2, H3⟩ := H
  refine ⟨tk, n, e, hn, H1, H2, fun k hk => ?_⟩
  obtain ⟨l, a, b⟩ := H3 k hk
  refine ⟨l, fun p => ?_, b⟩
  rw [a p]
  by_cases ep : p = q
  · subst ep
    exact ⟨fun z => absurd z.2.1 g, fun z => absurd z.2.1 g⟩
  · rw [pk_un ep]
theorem qu_hd {k : Nat} (hN : N ≤ 8) (hk : k < 2) (H : rl_qu N B st pr tc nt hd tl lk) : (hd k = -1 ∧ ∀ p, p < N → st p = 3 → pr p ≠ nI k) ∨ ∃ p, p < N ∧ hd k = nI p ∧ st p = 3 ∧ pr p = nI k := by
  obtain ⟨tk, n, e, hn, H1, H2, H3⟩ := H
  obtain ⟨l, a, b, d, _⟩ := H3 k hk
  cases l with
  | nil => exact Or.inl ⟨d, fun p hp z1 z2 => absurd ((a p).mpr ⟨hp, z1, z2⟩) List.not_mem_nil⟩
  | cons p l =>
    have z := (a p).mp (List.mem_cons_self ..)
    exact Or.inr ⟨p, z.1, d.1, z.2⟩
theorem qu_k {k k' : Nat} (hk : k < 2) (hk' : k' < 2) (h : k' ≠ k) : nI k' ≠ nI k := fun e => h (ba_i8 (by omega) (by omega) e)
theorem qu_disp {k p : Nat} {s : Int32} (hN : N ≤ 8) (hk : k < 2) (hp : p < 8) (hh : hd k = nI p) (hs : s ≠ 3) (H : rl_qu N B st pr tc nt hd tl lk) : rl_qu N B (upd st p s) pr tc nt (upd hd k (lk p)) tl lk := by
  obtain ⟨tk, n, e, hn, H1, H2, H3⟩ := H
  refine ⟨tk, n, e, hn, H1, fun q hq z => H2 q hq ((ba_off hs).mp z).2, fun k' hk' => ?_⟩
  obtain ⟨l0, a0, b0, d0, t0⟩ := H3 k hk
  cases l0 with
  | nil => rw [hh] at d0; exact absurd d0 (ba_m1 (by omega))
  | cons p1 l0 =>
    have z1 := (a0 p1).mp (List.mem_cons_self ..)
    have ep : p = p1 := ba_i8 hp (by omega) (hh.symm.trans d0.1)
    subst ep
    by_cases ek : k' = k
    · subst ek
      have nd := List.nodup_cons.mp (pw_nodup b0)
      refine ⟨l0, fun q => ?_, (List.pairwise_cons.mp b0).2, ?_, fun m q eq => t0 (p :: m) q (by rw [eq]; rfl)⟩
      · rw [ba_off hs]
        constructor
        · intro hq
          have z := (a0 q).mp (List.mem_cons_of_mem _ hq)
          exact ⟨z.1, ⟨fun e2 => nd.1 (e2 ▸ hq), z.2.1⟩, z.2.2⟩
        · intro z
          have h := (a0 q).mpr ⟨z.1, z.2.1.2, z.2.2⟩
          rcases List.mem_cons.mp h with e2 | e2
          · exact absurd e2 z.2.1.1
          · exact e2
      · rw [pk_us]
        exact d0.2
    · obtain ⟨l, a, b, d, t⟩ := H3 k' hk'
      refine ⟨l, fun q => ?_, b, ?_, t⟩
      · rw [a q, ba_off hs]
        exact ⟨fun z => ⟨z.1, ⟨fun e2 => qu_k hk hk' ek (by rw [← z.2.2, e2, z1.2.2]), z.2.1⟩, z.2.2⟩, fun z => ⟨z.1, z.2.1.2, z.2.2⟩⟩
      · rw [pk_un ek]
        exact d
/-- the new tickets -/
def qu_t (tk : Nat → Nat) (p n : Nat) : Nat → Nat := fun q => if q = p then n else tk q
theorem qu_ts {tk : Nat → Nat} {p n : Nat} : qu_t tk p n p = n := if_pos rfl
theorem qu_tn {tk : Nat → Nat} {p n q : Nat} (h : q ≠ p) : qu_t tk p n q = tk q := if_neg h
theorem qu_tick {tk : Nat → Nat} {n p : Nat} (H : ∀ q, tc q = lN (tk q) ∧ tk q ≤ n) : ∀ q, vp_updL tc p (lN n) q = lN (qu_t tk p n q) ∧ qu_t tk p n q ≤ n + 1 := by
  intro q
  by_cases e : q = p
  · subst e
    rw [qu_ts, pk_uLs]
    exact ⟨rfl, by omega⟩
  · rw [qu_tn e, pk_uLn e]
    exact ⟨(H q).1, by have := (H q).2; omega⟩
theorem qu_pw {tk : Nat → Nat} {p n : Nat} {l : List Nat} (hp : p ∉ l) (h : l.Pairwise (fun a b => tk a < tk b)) : l.Pairwise (fun a b => qu_t tk p n a < qu_t tk p n b) := by
  refine List.Pairwise.imp_of_mem ?_ h
  intro a b ha hb z
  have na : a ≠ p := fun e => hp (e ▸ ha)
  have nb : b ≠ p := fun e => hp (e ▸ hb)
  rw [qu_tn na, qu_tn nb]
  exact z
theorem qu_lt {tk : Nat → Nat} {p n : Nat} (H : ∀ q, q < N → st q = 3 → tk q < n) : ∀ q, q < N → upd st p 3 q = 3 → qu_t tk p n q < n + 1 := by
  intro q hq z
  by_cases e : q = p
  · rw [e, qu_ts]; omega
  · rw [qu_tn e]
    rw [pk_un e] at z
    have := H q hq z
    omega
/-- the other queue, when p of rank k becomes ready -/
theorem qu_oth {tk : Nat → Nat} {p k k' n : Nat} {x y : Int32} {l : List Nat} {lk' : Nat → Int32} (hk : k < 2) (hk' : k' < 2) (ek : k' ≠ k) (hpr : pr p = nI k) (H : rl_qq N st pr tk x y lk k' l) (hl : ∀ q, q ∈ l → lk' q = lk q) : rl_qq N (upd st p 3) pr (qu_t tk p n) x y lk' k' l := by
  obtain ⟨a, b, d, t⟩ := H
  have hp : p ∉ l := fun h => qu_k hk hk' ek (by rw [← ((a p).mp h).2.2, hpr])
  refine ⟨fun q => ?_, qu_pw hp b, ch_congr d hl, t⟩
  rw [a q, ba_to]
  exact ⟨fun z => ⟨z.1, Or.inr z.2.1, z.2.2⟩, fun z => ⟨z.1, z.2.1.resolve_left (fun e2 => qu_k hk hk' ek (by rw [← z.2.2, e2, hpr])), z.2.2⟩⟩
/-- the queue that p joins: all but its links -/
theorem qu_own {tk : Nat → Nat} {p k n : Nat} {x y x' : Int32} {l : List Nat} {lk' : Nat → Int32} (hp : p < N) (g : st p ≠ 3) (hpr : pr p = nI k) (H2 : ∀ q, q < N → st q = 3 → tk q < n) (H : rl_qq N st pr tk x y lk k l) (hl : ch_n lk' x' (l ++ [p])) : rl_qq N (upd st p 3) pr (qu_t tk p n) x' (nI p) lk' k (l ++ [p]) := by
  obtain ⟨a, b, d, t⟩ := H
  have hpl : p ∉ l := fun h => g ((a p).mp h).2.1
  refine ⟨fun q => ?_, ?_, hl, fun m q e => ?_⟩
  · rw [List.mem_append, List.mem_singleton, ba_to, a q]
    constructor
    · rintro (z | z)
      · exact ⟨z.1, Or.inr z.2.1, z.2.2⟩
      · rw [z]; exact ⟨hp, Or.inl rfl, hpr⟩
    · intro z
      rcases z.2.1 with e | e
      · exact Or.inr e
      · exact Or.inl ⟨z.1, e, z.2.2⟩
  · refine List.pairwise_append.mpr ⟨qu_pw hpl b, List.pairwise_singleton .., ?_⟩
    intro a1 ha1 b1 hb1
    have na : a1 ≠ p := fun e => hpl (e ▸ ha1)
    rw [List.mem_singleton.mp hb1, qu_ts, qu_tn na]
    have z := (a a1).mp ha1
    exact H2 a1 z.1 z.2.1
  · rw [(List.append_singleton_inj.mp e).2]
theorem qu_ready0 {k p : Nat} (hN : N ≤ 8) (hk : k < 2) (hp : p < N) (g : st p ≠ 3) (hpr : pr p = nI k) (z : hd k < 0) (H : rl_qu N B st pr tc nt hd tl lk) : rl_qu N (B + 1) (upd st p 3) pr (vp_updL tc p nt) (nt + 1) (upd hd k (nI p)) (upd tl k (nI p)) (upd lk p (-1)) := by
  obtain ⟨tk, n, e, hn, H1, H2, H3⟩ := H
  subst e
  refine ⟨qu_t tk p n, n + 1, lN_1 n, by omega, qu_tick H1, qu_lt H2, fun k' hk' => ?_⟩
  by_cases ek : k' = k
  · subst ek
    obtain ⟨l, Q⟩ := H3 k' hk
    have e0 := (ch_neg Q.2.2.1 (fun q hq => by have := ((Q.1 q).mp hq).1; omega) z).1
    subst e0
    rw [pk_us, pk_us]
    exact ⟨[p], qu_own (l := []) hp g hpr H2 Q ⟨rfl, pk_us⟩⟩
  · obtain ⟨l, Q⟩ := H3 k' hk'
    rw [pk_un ek, pk_un ek]
    exact ⟨l, qu_oth hk hk' ek hpr Q (fun q hq => pk_un (fun e2 => qu_k hk hk' ek (by rw [← ((Q.1 q).mp hq).2.2, e2, hpr])))⟩
theorem qu_ready1 {k p : Nat} (hN : N ≤ 8) (hk : k < 2) (hp : p < N) (g : st p ≠ 3) (hpr : pr p = nI k) (z : ¬ hd k < 0) (H : rl_qu N B st pr tc nt hd tl lk) : ∃ q, q < N ∧ tl k = nI q ∧ rl_qu N (B + 1) (upd st p 3) pr (vp_updL tc p nt) (nt + 1) hd (upd tl k (nI p)) (upd (upd lk p (-1)) q (nI p)) := by
  obtain ⟨tk, n, e, hn, H1, H2, H3⟩ := H
  subst e
  obtain ⟨l0, Q0⟩ := H3 k hk
  rcases List.eq_nil_or_concat l0 with e0 | ⟨m, q, e0⟩
  · subst e0
    have e1 : hd k = -1 := Q0.2.2.1
    rw [e1] at z
    exact absurd (by decide) z
  · rw [List.concat_eq_append] at e0
    have hq : q ∈ l0 := by rw [e0]; exact List.mem_append.mpr (Or.inr (List.mem_singleton.mpr rfl))
    have hq2 := (Q0.1 q).mp hq
    have hpl : p ∉ l0 := fun h => g ((Q0.1 p).mp h).2.1
    refine ⟨q, hq2.1, Q0.2.2.2 m q e0, qu_t tk p n, n + 1, lN_1 n, by omega, qu_tick H1, qu_lt H2, fun k' hk' => ?_⟩
    by_cases ek : k' = k
    · subst ek
      rw [pk_us]
      refine ⟨l0 ++ [p], qu_own hp g hpr H2 Q0 ?_⟩
      have hc := Q0.2.2.1
      have nd := pw_nodup Q0.2.1
      rw [e0] at hc nd hpl ⊢
      have e1 : lk q = -1 := ch_mid hc
      have h := ch_ins hc nd hpl
      rw [e1] at h
      rw [List.append_assoc]
      exact h
    · obtain ⟨l, Q⟩ := H3 k' hk'
      rw [pk_un ek]
      refine ⟨l, qu_oth hk hk' ek hpr Q (fun q1 hq1 => ?_)⟩
      have z1 := (Q.1 q1).mp hq1
      rw [pk_un (fun e2 => qu_k hk hk' ek (by rw [← z1.2.2, e2, hq2.2.2])), pk_un (fun e2 => qu_k hk hk' ek (by rw [← z1.2.2, e2, hpr]))]
/-! timers -/
theorem tm_frame (h1 : ∀ p, p < N → ((st' p = 6 ∨ (st' p = 7 ∧ dl' p ≠ -1)) ↔ (st p = 6 ∨ (st p = 7 ∧ dl p ≠ -1)))) (h2 : ∀ p, p < N → (st p = 6 ∨ (st p = 7 ∧ dl p ≠ -1)) → dl' p = dl p) (H : rl_tm N lo c st dl th lk) : rl_tm N lo c st' dl' th lk := by
  obtain ⟨l, a, b, d, e⟩ := H
  have hd : ∀ p, p ∈ l → dl' p = dl p := fun p hp => by
    have z := (a p).mp hp
    exact h2 p z.1 z.2
  refine ⟨l, fun p => ?_, ?_, fun p hp => ?_, e⟩
  · rw [a p]
    exact ⟨fun z => ⟨z.1, (h1 p z.1).mpr z.2⟩, fun z => ⟨z.1, (h1 p z.1).mp z.2⟩⟩
  · refine List.Pairwise.imp_of_mem ?_ b
    intro x y hx hy z
    unfold tm_k at z ⊢
    rw [hd x hx, hd y hy]
    exact z
  · rw [hd p hp]
    exact d p hp
/-- a change of state or deadline of one that waits for no time, before and after -/
theorem tm_set {q : Nat} {s x : Int32} (g6 : st q ≠ 6) (g7 : st q ≠ 7 ∨ dl q = -1) (s6 : s ≠ 6) (s7 : s ≠ 7 ∨ x = -1) (H : rl_tm N lo c st dl th lk) : rl_tm N lo c (upd st q s) (upd dl q x) th lk := by
  refine tm_frame (fun p _ => ?_) (fun p _ z => ?_) H
  · by_cases e : p = q
    · subst e
      rw [pk_us, pk_us]
      constructor
      · rintro (z | ⟨z, z2⟩)
        · exact absurd z s6
        · exact absurd z (s7.resolve_right z2)
      · rintro (z | ⟨z, z2⟩)
        · exact absurd z g6
        · exact absurd z (g7.resolve_right z2)
    · rw [pk_un e, pk_un e]
  · refine pk_un (fun e => ?_)
    subst e
    rcases z with z | ⟨z, z2⟩
    · exact g6 z
    · exact absurd z (g7.resolve_right z2)
theorem tm_st {q : Nat} {s : Int32} (g6 : st q ≠ 6) (g7 : st q ≠ 7 ∨ dl q = -1) (s6 : s ≠ 6) (s7 : s ≠ 7 ∨ dl q = -1) (H : rl_tm N lo c st dl th lk) : rl_tm N lo c (upd st q s) dl th lk := by
  have h := tm_set (x := dl q) g6 g7 s6 s7 H
  rw [ba_us] at h
  exact h
theorem tm_dl {q : Nat} {x : Int32} (g6 : st q ≠ 6) (g7 : st q ≠ 7) (H : rl_tm N lo c st dl th lk) : rl_tm N lo c st (upd dl q x) th lk := by
  have h := tm_set (s := st q) (x := x) g6 (Or.inl g7) g6 (Or.inl g7) H
  rw [ba_us] at h
  exact h
/-- p joins at its place -/
theorem tm_put {p d : Nat} {s : Int32} {l1 l2 : List Nat} {th' : Int32} {lk' : Nat → Int32} (hp : p < N) (hN : N ≤ 8) (g6 : st p ≠ 6) (g7 : st p ≠ 7) (hs : s = 6 ∨ s = 7) (hd : d < 256) (ed : dl p = nI d) (w1 : lo ≤ tm_w c d) (w2 : tm_w c d ≤ 128)
    (a : ∀ p, p ∈ l1 ++ l2 ↔ (p < N ∧ (st p = 6 ∨ (st p = 7 ∧ dl p ≠ -1)))) (b : (l1 ++ l2).Pairwise (fun a b => tm_k c dl a < tm_k c dl b)) (e : ∀ p, p ∈ l1 ++ l2 → ∃ d, d < 256 ∧ dl p = nI d ∧ lo ≤ tm_w c d ∧ tm_w c d ≤ 128)
    (h1 : ∀ q, q ∈ l1 → tm_k c dl q < tm_k c dl p) (h2 : ∀ q m, l2 = q :: m → ¬ tm_k c dl q < tm_k c dl p) (hc : ch_n lk' th' (l1 ++ p :: l2)) : rl_tm N lo c (upd st p s) dl th' lk' := by
  have hmem : ∀ q, q ∈ l1 ++ p :: l2 ↔ (q = p ∨ q ∈ l1 ++ l2) := fun q => by
    rw [List.mem_append, List.mem_cons, List.mem_append]
    constructor
    · rintro (z | z | z)
      · exact Or.inr (Or.inl z)
      · exact Or.inl z
      · exact Or.inr (Or.inr z)
    · rintro (z | z | z)
      · exact Or.inr (Or.inl z)
      · exact Or.inl z
      · exact Or.inr (Or.inr z)
  have hpl : p ∉ l1 ++ l2 := fun h => by
    rcases ((a p).mp h).2 with z | z
    · exact g6 z
    · exact g7 z.1
  refine ⟨l1 ++ p :: l2, fun q => ?_, ?_, fun q hq => ?_, hc⟩
  · rw [hmem q]
    by_cases eq : q = p
    · subst eq
      rw [pk_us]
      refine ⟨fun _ => ⟨hp, ?_⟩, fun _ => Or.inl rfl⟩
      rcases hs with z | z
      · exact Or.inl z
      · exact Or.inr ⟨z, by rw [ed]; exact ba_m1 (by omega)⟩
    · rw [pk_un eq, ← a q]
      exact ⟨fun z => z.resolve_left eq, Or.inr⟩
  · have b3 := List.pairwise_append.mp b
    refine List.pairwise_append.mpr ⟨b3.1, List.pairwise_cons.mpr ⟨fun q hq => ?_, b3.2.1⟩, fun x hx y hy => ?_⟩
    · have hql : q ∈ l1 ++ l2 := List.mem_append.mpr (Or.inr hq)
      have hq8 := ((a q).mp hql).1
      have ne : q ≠ p := fun e2 => hpl (e2 ▸ hql)
      have key : ¬ tm_k c dl q < tm_k c dl p := by
        cases l2 with
        | nil => exact absurd hq List.not_mem_nil
        | cons y m =>
          have z := h2 y m rfl
          rcases List.mem_cons.mp hq with e2 | e2
          · rw [e2]; exact z
          · have := (List.pairwise_cons.mp b3.2.1).1 q e2
            omega
      have neq : tm_k c dl q ≠ tm_k c dl p := by unfold tm_k; omega
      omega
    · rcases List.mem_cons.mp hy with e2 | e2
      · rw [e2]; exact h1 x hx
      · exact b3.2.2 x hx y e2
  · rcases (hmem q).mp hq with e2 | e2
    · rw [e2]; exact ⟨d, hd, ed, w1, w2⟩
    · exact e q e2
/-- p0 leaves -/
theorem tm_cut {p0 : Nat} {s x : Int32} {l1 l2 : List Nat} {th' : Int32} {lk' : Nat → Int32} (s6 : s ≠ 6) (s7 : s ≠ 7)
    (a : ∀ p, p ∈ l1 ++ p0 :: l2 ↔ (p < N ∧ (st p = 6 ∨ (st p = 7 ∧ dl p ≠ -1)))) (b : (l1 ++ p0 :: l2).Pairwise (fun a b => tm_k c dl a < tm_k c dl b)) (e : ∀ p, p ∈ l1 ++ p0 :: l2 → ∃ d, d < 256 ∧ dl p = nI d ∧ lo ≤ tm_w c d ∧ tm_w c d ≤ 128)
    (hc : ch_n lk' th' (l1 ++ l2)) : rl_tm N lo c (upd st p0 s) (upd dl p0 x) th' lk' := by
  have b3 := List.pairwise_append.mp b
  have b4 := List.pairwise_cons.mp b3.2.1
  have n1 : p0 ∉ l1 := fun h => Nat.lt_irrefl _ (b3.2.2 p0 h p0 (List.mem_cons_self ..))
  have n2 : p0 ∉ l2 := fun h => Nat.lt_irrefl _ (b4.1 p0 h)
  have hsub : ∀ q, q ∈ l1 ++ l2 ↔ (q ≠ p0 ∧ q ∈ l1 ++ p0 :: l2) := fun q => by
    rw [List.mem_append, List.mem_append, List.mem_cons]
    constructor
    · rintro (z | z)
      · exact ⟨fun h => n1 (h ▸ z), Or.inl z⟩
      · exact ⟨fun h => n2 (h ▸ z), Or.inr (Or.inr z)⟩
    · rintro ⟨h, z | z | z⟩
      · exact Or.inl z
      · exact absurd z h
      · exact Or.inr z
  have hdl : ∀ q, q ∈ l1 ++ l2 → upd dl p0 x q = dl q := fun q hq => pk_un ((hsub q).mp hq).1
  refine ⟨l1 ++ l2, fun q => ?_, ?_, fun q hq => ?_, hc⟩
  · rw [hsub q, a q]
    by_cases eq : q = p0
    · subst eq
      rw [pk_us, pk_us]
      exact ⟨fun z => absurd rfl z.1, fun z => z.2.elim (fun y => absurd y s6) (fun y => absurd y.1 s7)⟩
    · rw [pk_un eq, pk_un eq]
      exact ⟨fun z => z.2, fun z => ⟨eq, z⟩⟩
  · refine List.Pairwise.imp_of_mem (R := fun a b => tm_k c dl a < tm_k c dl b) ?_ (List.pairwise_append.mpr ⟨b3.1, b4.2, fun x1 hx y hy => b3.2.2 x1 hx y (List.mem_cons_of_mem _ hy)⟩)
    intro y z hy hz h
    unfold tm_k at h ⊢
    rw [hdl y hy, hdl z hz]
    exact h
  · rw [hdl q hq]
    exact e q ((hsub q).mp hq).2
theorem tm_w0 {d : Nat} (hc : c < 256) (hd : d < 256) (h : tm_w c d = 0) : d = c := by unfold tm_w at h; omega
theorem tm_wc (hc : c < 256) : tm_w c c = 0 := by unfold tm_w; omega
theorem tm_clock (hc : c < 256) (H : rl_tm N 1 c st dl th lk) : rl_tm N 0 ((c + 1) % 256) st dl th lk := by
  obtain ⟨l, a, b, d, e⟩ := H
  have w : ∀ p, p ∈ l → tm_w ((c + 1) % 256) (dl p).toNatClampNeg + 1 = tm_w c (dl p).toNatClampNeg := fun p hp => by
    obtain ⟨x, hx, ex, h1, h2⟩ := d p hp
    rw [ex, nI_clamp (by omega)]
    unfold tm_w at h1 h2 ⊢
    omega
  refine ⟨l, a, ?_, fun p hp => ?_, e⟩
  · refine List.Pairwise.imp_of_mem ?_ b
    intro x y hx hy z
    have h1 := w x hx
    have h2 := w y hy
    unfold tm_k at z ⊢
    omega
  · obtain ⟨x, hx, ex, h1, h2⟩ := d p hp
    have h3 := w p hp
    rw [ex, nI_clamp (by omega)] at h3
    exact ⟨x, hx, ex, by omega, by omega⟩
theorem tm_stop (hc : c < 256) (h : ∀ p, p < N → (st p = 6 ∨ (st p = 7 ∧ dl p ≠ -1)) → dl p ≠ nI c) (H : rl_tm N 0 c st dl th lk) : rl_tm N 1 c st dl th lk := by
  obtain ⟨l, a, b, d, e⟩ := H
  refine ⟨l, a, b, fun p hp => ?_, e⟩
  obtain ⟨x, hx, ex, h1, h2⟩ := d p hp
  have z := (a p).mp hp
  refine ⟨x, hx, ex, ?_, h2⟩
  have : tm_w c x ≠ 0 := fun w => h p z.1 z.2 (by rw [ex, tm_w0 hc hx w])
  omega
/-- the least of those whose time has come stands at the head -/
theorem tm_pop {q : Nat} {s x : Int32} (hN : N ≤ 8) (hc : c < 256) (s6 : s ≠ 6) (s7 : s ≠ 7) (hq : q < N) (hm : st q = 6 ∨ (st q = 7 ∧ dl q ≠ -1)) (hd : dl q = nI c) (least : ∀ p, p < N → (st p = 6 ∨ (st p = 7 ∧ dl p ≠ -1)) → dl p = nI c → q ≤ p) (H : rl_tm N 0 c st dl th lk) : th = nI q ∧ rl_tm N 0 c (upd st q s) (upd dl q x) (lk q) lk := by
  obtain ⟨l, a, b, d, e⟩ := H
  have hql := (a q).mpr ⟨hq, hm⟩
  cases l with
  | nil => exact absurd hql List.not_mem_nil
  | cons y l =>
    have hy := (a y).mp (List.mem_cons_self ..)
    have ey : y = q := by
      rcases List.mem_cons.mp hql with z | z
      · exact z.symm
      · have h1 := (List.pairwise_cons.mp b).1 q z
        obtain ⟨v, hv, ev, _, _⟩ := d y (List.mem_cons_self ..)
        unfold tm_k at h1
        rw [hd, ev, nI_clamp (by omega), nI_clamp (by omega), tm_wc hc] at h1
        have e1 : v = c := tm_w0 hc hv (by omega)
        subst e1
        have := least y hy.1 hy.2 ev
        rw [tm_wc hc] at h1
        omega
    subst ey
    refine ⟨e.1, tm_cut (l1 := []) s6 s7 a b d e.2⟩
theorem tm_hd (hN : N ≤ 8) (H : rl_tm N lo c st dl th lk) : th = -1 ∨ ∃ q, q < N ∧ th = nI q ∧ (st q = 6 ∨ (st q = 7 ∧ dl q ≠ -1)) := by
  obtain ⟨l, a, b, d, e⟩ := H
  cases l with
  | nil => exact Or.inl e
  | cons y l =>
    have hy := (a y).mp (List.mem_cons_self ..)
    exact Or.inr ⟨y, hy.1, e.1, hy.2⟩
end
end
section
/-! the component's and the reference's small methods -/
/-- k cells of process q's eight are cleared -/
def zr_f (q k : Nat) (f : Nat → Int32) : Nat → Int32 := fun j => if q * 8 ≤ j ∧ j < q * 8 + k then 0 else f j
theorem zr_0 {q : Nat} {f : Nat → Int32} : zr_f q 0 f = f := by
  funext j
  unfold zr_f
  exact if_neg (by omega)
theorem zr_s {q k : Nat} {f : Nat → Int32} : upd (zr_f q k f) (q * 8 + k) 0 = zr_f q (k + 1) f := by
  funext j
  unfold upd zr_f
  by_cases h : j = q * 8 + k
  · rw [if_pos h, if_pos (by omega)]
  · by_cases h2 : q * 8 ≤ j ∧ j < q * 8 + k
    · rw [if_neg h, if_pos h2, if_pos (by omega)]
    · rw [if_neg h, if_neg h2, if_neg (by omega)]
theorem zr_in {q k : Nat} {f : Nat → Int32} (h : k < 8) : zr_f q 8 f (q * 8 + k) = 0 := if_pos (by omega)
theorem zr_out {p q k : Nat} {f : Nat → Int32} (h : k < 8) (hp : p ≠ q) : zr_f q 8 f (p * 8 + k) = f (p * 8 + k) := if_neg (by omega)
/-- r's words among the first k are taken back -/
def rd_f (r k : Nat) (f : Nat → Int32) : Nat → Int32 := fun c => if c < k ∧ f c = nI r then -1 else f c
theorem rd_0 {r : Nat} {f : Nat → Int32} : rd_f r 0 f = f := by
  funext j
  unfold rd_f
  exact if_neg (by omega)
theorem rd_t {r k : Nat} {f : Nat → Int32} (h : f k = nI r) : upd (rd_f r k f) k (-1) = rd_f r (k + 1) f := by
  funext j
  unfold upd rd_f
  by_cases e : j = k
  · subst e
    rw [if_pos rfl, if_pos ⟨by omega, h⟩]
  · rw [if_neg e]
    by_cases h2 : j < k ∧ f j = nI r
    · rw [if_pos h2, if_pos ⟨by omega, h2.2⟩]
    · rw [if_neg h2, if_neg (fun z => h2 ⟨by omega, z.2⟩)]
theorem rd_n {r k : Nat} {f : Nat → Int32} (h : ¬ f k = nI r) : rd_f r k f = rd_f r (k + 1) f := by
  funext j
  unfold rd_f
  by_cases h2 : j < k ∧ f j = nI r
  · rw [if_pos h2, if_pos ⟨by omega, h2.2⟩]
  · rw [if_neg h2, if_neg (fun z => h2 ⟨by
      have : j ≠ k := fun e => h (by rw [← e]; exact z.2)
      omega, z.2⟩)]
theorem rd_k {r k : Nat} {f : Nat → Int32} : rd_f r k f k = f k := if_neg (by omega)
theorem ba_m8 (q : Nat) : nI q * 8 = nI (q * 8) := pk_mul q 8
theorem ba_m4 (q : Nat) : nI q * 4 = nI (q * 4) := pk_mul q 4
theorem ba_v64 {j : Nat} (h : j < 64) : vp_in (nI j) 64 := vp_in_nI h (by decide)
theorem ba_c64 {j : Nat} (h : j < 64) : (nI j).toNatClampNeg = j := nI_clamp (by omega)
theorem ba_nb0 : vp_nar .boolean 0 = 0 := rfl
theorem ba_nb1 : vp_nar .boolean 1 = 1 := rfl
theorem ba_8 {i : Nat} (h : i < 8) : ¬ (8 : Int32) ≤ nI i := nI_ge (b := 8) h (by decide)
section
variable {f_unused f_constant f_word f_target f_channel f_level f_prefix f_negate f_operate f_disableChannel f_disableTimer f_processCount f_channelCount f_length f_sealed f_timerHead f_running f_interrupted f_regA f_regB f_regC f_savedA f_savedB f_savedC f_operand f_clock f_faults : Int32} {a_ops a_xs a_ys a_sizes a_address a_bytes a_indexAt a_locals a_states a_priorities a_pointers a_branches a_deadlines a_held a_readyLink a_timerLink a_head a_tail a_writers a_readers a_counters : Nat → Int32}
theorem xw_ready {N B k p : Nat} {tc : Nat → Int64} {nt : Int64} (hN : N ≤ 8) (hk : k < 2) (hp : p < N) (g : a_states p ≠ 3) (hpr : a_priorities p = nI k) (H : rl_qu N B a_states a_priorities tc nt a_head a_tail a_readyLink) :
    ∃ hd tl lk, rl_qu N (B + 1) (upd a_states p 3) a_priorities (vp_updL tc p nt) (nt + 1) hd tl lk ∧ ∀ post : SX → Prop, post (f_unused, f_constant, f_word, f_target, f_channel, f_level, f_prefix, f_negate, f_operate, f_disableChannel, f_disableTimer, f_processCount, f_channelCount, f_length, f_sealed, f_timerHead, f_running, f_interrupted, f_regA, f_regB, f_regC, f_savedA, f_savedB, f_savedC, f_operand, f_clock, f_faults, a_ops, a_xs, a_ys, a_sizes, a_address, a_bytes, a_indexAt, a_locals, upd a_states p 3, a_priorities, a_pointers, a_branches, a_deadlines, a_held, lk, a_timerLink, hd, tl, a_writers, a_readers, a_counters) → wpX_ready post (f_unused, f_constant, f_word, f_target, f_channel, f_level, f_prefix, f_negate, f_operate, f_disableChannel, f_disableTimer, f_processCount, f_channelCount, f_length, f_sealed, f_timerHead, f_running, f_interrupted, f_regA, f_regB, f_regC, f_savedA, f_savedB, f_savedC, f_operand, f_clock, f_faults, a_ops, a_xs, a_ys, a_sizes, a_address, a_bytes, a_indexAt, a_locals, a_states, a_priorities, a_pointers, a_branches, a_deadlines, a_held, a_readyLink, a_timerLink, a_head, a_tail, a_writers, a_readers, a_counters) (nI p) := by
  have hp8 : p < 8 := by omega
  have e := ba_c hp8
  have v := ba_v hp8
  have ek : (nI k).toNatClampNeg = k := ba_c (by omega)
  have vk : vp_in (nI k) 2 := vp_in_nI hk (by decide)
  by_cases z : a_head k < 0
  · refine ⟨_, _, _, qu_ready0 hN hk hp g hpr z H, fun post K => ?_⟩
    have z2 : ¬ 0 ≤ a_head k := Int32.not_le.mpr z
    simp only [wpX_ready, e, v, hpr, ek, vk, z2, forall_eq, true_implies, false_implies, not_true_eq_false, not_false_eq_true, and_true, true_and, implies_true]
    exact K
  · obtain ⟨q, hq, eq, H2⟩ := qu_ready1 hN hk hp g hpr z H
    refine ⟨_, _, _, H2, fun post K => ?_⟩
    have z2 : 0 ≤ a_head k := Int32.not_lt.mp z
    have eq2 := ba_c (show q < 8 by omega)
    have vq := ba_v (show q < 8 by omega)
    simp only [wpX_ready, e, v, hpr, ek, vk, z2, eq, eq2, vq, forall_eq, true_implies, false_implies, not_true_eq_false, not_false_eq_true, and_true, true_and, implies_true]
    exact K
theorem xw_start {N B k q : Nat} {tc : Nat → Int64} {x2 x4 : Int32} {nt : Int64} (hN : N ≤ 8) (hk : k < 2) (hq : q < N) (g : a_states q = 0) (H : rl_qu N B a_states a_priorities tc nt a_head a_tail a_readyLink) :
    ∃ hd tl lk, rl_qu N (B + 1) (upd a_states q 3) (upd a_priorities q (nI k)) (vp_updL tc q nt) (nt + 1) hd tl lk ∧ ∀ post : SX → Prop, post (f_unused, f_constant, f_word, f_target, f_channel, f_level, f_prefix, f_negate, f_operate, f_disableChannel, f_disableTimer, f_processCount, f_channelCount, f_length, f_sealed, f_timerHead, f_running, f_interrupted, f_regA, f_regB, f_regC, f_savedA, f_savedB, f_savedC, f_operand, f_clock, f_faults, a_ops, a_xs, a_ys, a_sizes, a_address, a_bytes, a_indexAt, upd (zr_f q 8 a_locals) (q * 8) x4, upd a_states q 3, upd a_priorities q (nI k), upd a_pointers q x2, a_branches, a_deadlines, a_held, lk, a_timerLink, hd, tl, a_writers, a_readers, a_counters) → wpX_startProcess post (f_unused, f_constant, f_word, f_target, f_channel, f_level, f_prefix, f_negate, f_operate, f_disableChannel, f_disableTimer, f_processCount, f_channelCount, f_length, f_sealed, f_timerHead, f_running, f_interrupted, f_regA, f_regB, f_regC, f_savedA, f_savedB, f_savedC, f_operand, f_clock, f_faults, a_ops, a_xs, a_ys, a_sizes, a_address, a_bytes, a_indexAt, a_locals, a_states, a_priorities, a_pointers, a_branches, a_deadlines, a_held, a_readyLink, a_timerLink, a_head, a_tail, a_writers, a_readers, a_counters) (nI q) x2 (nI k) x4 := by
  have hq8 : q < 8 := by omega
  have g3 : a_states q ≠ 3 := by rw [g]; decide
  obtain ⟨hd, tl, lk, H2, W⟩ := xw_ready (f_unused := f_unused) (f_constant := f_constant) (f_word := f_word) (f_target := f_target) (f_channel := f_channel) (f_level := f_level) (f_prefix := f_prefix) (f_negate := f_negate) (f_operate := f_operate) (f_disableChannel := f_disableChannel) (f_disableTimer := f_disableTimer) (f_processCount := f_processCount) (f_channelCount := f_channelCount) (f_length := f_length) (f_sealed := f_sealed) (f_timerHead := f_timerHead) (f_running := f_running) (f_interrupted := f_interrupted) (f_regA := f_regA) (f_regB := f_regB) (f_regC := f_regC) (f_savedA := f_savedA) (f_savedB := f_savedB) (f_savedC := f_savedC) (f_operand := f_operand) (f_clock := f_clock) (f_faults := f_faults) (a_ops := a_ops) (a_xs := a_xs) (a_ys := a_ys) (a_sizes := a_sizes) (a_address := a_address) (a_bytes := a_bytes) (a_indexAt := a_indexAt) (a_locals := upd (zr_f q 8 a_locals) (q * 8) x4) (a_states := a_states) (a_priorities := upd a_priorities q (nI k)) (a_pointers := upd a_pointers q x2) (a_branches := a_branches) (a_deadlines := a_deadlines) (a_held := a_held) (a_readyLink := a_readyLink) (a_timerLink := a_timerLink) (a_head := a_head) (a_tail := a_tail) (a_writers := a_writers) (a_readers := a_readers) (a_counters := a_counters) hN hk hq g3 pk_us (qu_prio g3 H)
  refine ⟨hd, tl, lk, H2, fun post K => ?_⟩
  have loop : ∀ d i, i + d = 8 → wX_startProcess_3 post (nI q) x2 (nI k) x4 f_unused f_constant f_word f_target f_channel f_level f_prefix f_negate f_operate f_disableChannel f_disableTimer f_processCount f_channelCount f_length f_sealed f_timerHead f_running f_interrupted f_regA f_regB f_regC f_savedA f_savedB f_savedC f_operand f_clock f_faults (d + 1) (nI i) a_ops a_xs a_ys a_sizes a_address a_bytes a_indexAt (zr_f q i a_locals) a_states a_priorities a_pointers a_branches a_deadlines a_held a_readyLink a_timerLink a_head a_tail a_writers a_readers a_counters := by
    intro d
    induction d with
    | zero =>
      intro i hi
      have e : i = 8 := by omega
      subst e
      have h8 : (8 : Int32) ≤ nI 8 := by decide
      rw [wX_startProcess_3]; simp only [h8, ba_m8, ba_v64 (show q * 8 < 64 by omega), ba_c64 (show q * 8 < 64 by omega), ba_c hq8, ba_v hq8, forall_eq, true_implies, false_implies, not_true_eq_false, not_false_eq_true, and_true, true_and, implies_true]
      exact W _ K
    | succ d ih =>
      intro i hi
      have h8 : ¬ (8 : Int32) ≤ nI i := ba_8 (by omega)
      have h := ih (i + 1) (by omega)
      rw [wX_startProcess_3]; simp only [h8, ba_m8, nI_add, ba_v64 (show q * 8 + i < 64 by omega), ba_c64 (show q * 8 + i < 64 by omega), nI_1, zr_s, forall_eq, true_implies, false_implies, not_true_eq_false, not_false_eq_true, and_true, true_and, implies_true]
      exact h
  have h := loop 8 0 rfl
  rw [zr_0] at h
  exact ⟨9, h⟩
theorem xw_close {post : SX → Prop} {C r : Nat} (hC : C ≤ 8) (hr : r < 8) (K : post (f_unused, f_constant, f_word, f_target, f_channel, f_level, f_prefix, f_negate, f_operate, f_disableChannel, f_disableTimer, f_processCount, nI C, f_length, f_sealed, f_timerHead, nI r, f_interrupted, f_regA, f_regB, f_regC, f_savedA, f_savedB, f_savedC, f_operand, f_clock, f_faults, a_ops, a_xs, a_ys, a_sizes, a_address, a_bytes, a_indexAt, a_locals, a_states, a_priorities, a_pointers, upd a_branches r (-2), upd a_deadlines r (-1), a_held, a_readyLink, a_timerLink, a_head, a_tail, a_writers, rd_f r C a_readers, a_counters)) : wpX_closeAlternation post (f_unused, f_constant, f_word, f_target, f_channel, f_level, f_prefix, f_negate, f_operate, f_disableChannel, f_disableTimer, f_processCount, nI C, f_length, f_sealed, f_timerHead, nI r, f_interrupted, f_regA, f_regB, f_regC, f_savedA, f_savedB, f_savedC, f_operand, f_clock, f_faults, a_ops, a_xs, a_ys, a_sizes, a_address, a_bytes, a_indexAt, a_locals, a_states, a_priorities, a_pointers, a_branches, a_deadlines, a_held, a_readyLink, a_timerLink, a_head, a_tail, a_writers, a_readers, a_counters) := by
  have loop : ∀ d i, i + d = C → wX_closeAlternation_2 post f_unused f_constant f_word f_target f_channel f_level f_prefix f_negate f_operate f_disableChannel f_disableTimer f_processCount (nI C) f_length f_sealed f_timerHead (nI r) f_interrupted f_regA f_regB f_regC f_savedA f_savedB f_savedC f_operand f_clock f_faults (d + 1) (nI i) a_ops a_xs a_ys a_sizes a_address a_bytes a_indexAt a_locals a_states a_priorities a_pointers a_branches a_deadlines a_held a_readyLink a_timerLink a_head a_tail a_writers (rd_f r i a_readers) a_counters := by
    intro d
    induction d with
    | zero =>
      intro i hi
      have e : i = C := by omega
      subst e
      have h8 : nI i ≤ nI i := Int32.le_refl _
      rw [wX_closeAlternation_2]; simp only [h8, ba_c hr, ba_v hr, forall_eq, true_implies, false_implies, not_true_eq_false, not_false_eq_true, and_true, true_and, implies_true]
      exact K
    | succ d ih =>
      intro i hi
      have h8 : ¬ nI C ≤ nI i := nI_ge (by omega) (by omega)
      have h := ih (i + 1) (by omega)
      by_cases z : a_readers i = nI r
      · rw [wX_closeAlternation_2]; simp only [h8, ba_c (show i < 8 by omega), ba_v (show i < 8 by omega), rd_k, z, nI_1, forall_eq, true_implies, false_implies, not_true_eq_false, not_false_eq_true, and_true, true_and, implies_true]
        rw [rd_t z]
        exact h
      · rw [wX_closeAlternation_2]; simp only [h8, ba_c (show i < 8 by omega), ba_v (show i < 8 by omega), rd_k, z, nI_1, forall_eq, true_implies, false_implies, not_true_eq_false, not_false_eq_true, and_true, true_and, implies_true]
        rw [rd_n z]
        exact h
  have h := loop C 0 (by omega)
  rw [rd_0] at h
  exact ⟨C + 1, h⟩
theorem xw_end {post : SX → Prop} {C r : Nat} (hC : C ≤ 8) (hr : r < 8) (K : post (f_unused, f_constant, f_word, f_target, f_channel, f_level, f_prefix, f_negate, f_operate, f_disableChannel, f_disableTimer, f_processCount, nI C, f_length, f_sealed, f_timerHead, -1, f_interrupted, 0, 0, 0, f_savedA, f_savedB, f_savedC, f_operand, f_clock, f_faults, a_ops, a_xs, a_ys, a_sizes, a_address, a_bytes, a_indexAt, a_locals, upd a_states r 0, a_priorities, a_pointers, upd a_branches r (-2), upd a_deadlines r (-1), a_held, a_readyLink, a_timerLink, a_head, a_tail, a_writers, rd_f r C a_readers, a_counters)) : wpX_endRunning post (f_unused, f_constant, f_word, f_target, f_channel, f_level, f_prefix, f_negate, f_operate, f_disableChannel, f_disableTimer, f_processCount, nI C, f_length, f_sealed, f_timerHead, nI r, f_interrupted, f_regA, f_regB, f_regC, f_savedA, f_savedB, f_savedC, f_operand, f_clock, f_faults, a_ops, a_xs, a_ys, a_sizes, a_address, a_bytes, a_indexAt, a_locals, a_states, a_priorities, a_pointers, a_branches, a_deadlines, a_held, a_readyLink, a_timerLink, a_head, a_tail, a_writers, a_readers, a_counters) := by
  unfold wpX_endRunning
  refine xw_close hC hr ?_
  simp only [wpX_clear, wpX_suspend, ba_c hr, ba_v hr, forall_eq, true_implies, false_implies, not_true_eq_false, not_false_eq_true, and_true, true_and, implies_true]
  exact K
theorem xw_fault {post : SX → Prop} {C r : Nat} (hC : C ≤ 8) (hr : r < 8) (K : post (f_unused, f_constant, f_word, f_target, f_channel, f_level, f_prefix, f_negate, f_operate, f_disableChannel, f_disableTimer, f_processCount, nI C, f_length, f_sealed, f_timerHead, -1, f_interrupted, 0, 0, 0, f_savedA, f_savedB, f_savedC, f_operand, f_clock, f_faults + 1, a_ops, a_xs, a_ys, a_sizes, a_address, a_bytes, a_indexAt, a_locals, upd a_states r 0, a_priorities, a_pointers, upd a_branches r (-2), upd a_deadlines r (-1), a_held, a_readyLink, a_timerLink, a_head, a_tail, a_writers, rd_f r C a_readers, a_counters)) : wpX_fault post (f_unused, f_constant, f_word, f_target, f_channel, f_level, f_prefix, f_negate, f_operate, f_disableChannel, f_disableTimer, f_processCount, nI C, f_length, f_sealed, f_timerHead, nI r, f_interrupted, f_regA, f_regB, f_regC, f_savedA, f_savedB, f_savedC, f_operand, f_clock, f_faults, a_ops, a_xs, a_ys, a_sizes, a_address, a_bytes, a_indexAt, a_locals, a_states, a_priorities, a_pointers, a_branches, a_deadlines, a_held, a_readyLink, a_timerLink, a_head, a_tail, a_writers, a_readers, a_counters) := by
  unfold wpX_fault
  refine nm_e (xw_end hC hr ?_)
  exact K
end
section
variable {g_length g_procs g_chans g_clock g_faults g_sealed : Int32} {g_nextTicket : Int64} {b_ops b_xs b_ys b_st b_prio b_pos b_ra b_rb b_rc b_words b_chan b_held b_named b_wake b_open b_guard b_timer b_chosen b_sent b_received b_sentFold b_receivedFold : Nat → Int32} {b_ticket : Nat → Int64}
theorem yw_close {post : SY → Prop} {q : Nat} (hq : q < 8) (K : post (g_length, g_procs, g_chans, g_clock, g_faults, g_sealed, g_nextTicket, b_ops, b_xs, b_ys, b_st, b_prio, b_pos, b_ra, b_rb, b_rc, b_words, b_chan, b_held, b_named, b_wake, upd b_open q 0, zr_f q 8 b_guard, upd b_timer q (-1), upd b_chosen q (-1), b_ticket, b_sent, b_received, b_sentFold, b_receivedFold)) : wpY_closeAlternation post (g_length, g_procs, g_chans, g_clock, g_faults, g_sealed, g_nextTicket, b_ops, b_xs, b_ys, b_st, b_prio, b_pos, b_ra, b_rb, b_rc, b_words, b_chan, b_held, b_named, b_wake, b_open, b_guard, b_timer, b_chosen, b_ticket, b_sent, b_received, b_sentFold, b_receivedFold) (nI q) := by
  have loop : ∀ d i, i + d = 8 → wY_closeAlternation_23 post (nI q) g_length g_procs g_chans g_clock g_faults g_sealed g_nextTicket (d + 1) (nI i) b_ops b_xs b_ys b_st b_prio b_pos b_ra b_rb b_rc b_words b_chan b_held b_named b_wake (upd b_open q 0) (zr_f q i b_guard) (upd b_timer q (-1)) (upd b_chosen q (-1)) b_ticket b_sent b_received b_sentFold b_receivedFold := by
    intro d
    induction d with
    | zero =>
      intro i hi
      have e : i = 8 := by omega
      subst e
      have h8 : (8 : Int32) ≤ nI 8 := by decide
      rw [wY_closeAlternation_23]; simp only [h8, forall_eq, true_implies, false_implies, not_true_eq_false, not_false_eq_true, and_true, true_and, implies_true]
      exact K
    | succ d ih =>
      intro i hi
      have h8 : ¬ (8 : Int32) ≤ nI i := ba_8 (by omega)
      have h := ih (i + 1) (by omega)
      rw [wY_closeAlternation_23]; simp only [h8, ba_m8, nI_add, ba_v64 (show q * 8 + i < 64 by omega), ba_c64 (show q * 8 + i < 64 by omega), nI_1, ba_nb0, zr_s, forall_eq, true_implies, false_implies, not_true_eq_false, not_false_eq_true, and_true, true_and, implies_true]
      exact h
  have h := loop 8 0 rfl
  rw [zr_0] at h
  simp only [wpY_closeAlternation, ba_c hq, ba_v hq, ba_nb0, forall_eq, true_implies, false_implies, not_true_eq_false, not_false_eq_true, and_true, true_and, implies_true]
  exact ⟨9, h⟩
theorem yw_end {post : SY → Prop} {q : Nat} (hq : q < 8) (K : post (g_length, g_procs, g_chans, g_clock, g_faults, g_sealed, g_nextTicket, b_ops, b_xs, b_ys, upd b_st q 0, b_prio, b_pos, upd b_ra q 0, upd b_rb q 0, upd b_rc q 0, b_words, b_chan, b_held, b_named, b_wake, upd b_open q 0, zr_f q 8 b_guard, upd b_timer q (-1), upd b_chosen q (-1), b_ticket, b_sent, b_received, b_sentFold, b_receivedFold)) : wpY_end post (g_length, g_procs, g_chans, g_clock, g_faults, g_sealed, g_nextTicket, b_ops, b_xs, b_ys, b_st, b_prio, b_pos, b_ra, b_rb, b_rc, b_words, b_chan, b_held, b_named, b_wake, b_open, b_guard, b_timer, b_chosen, b_ticket, b_sent, b_received, b_sentFold, b_receivedFold) (nI q) := by
  unfold wpY_end
  refine yw_close hq ?_
  simp only [wpY_clear, ba_c hq, ba_v hq, forall_eq, true_implies, false_implies, not_true_eq_false, not_false_eq_true, and_true, true_and, implies_true]
  exact K
theorem yw_fault {post : SY → Prop} {q : Nat} (hq : q < 8) (K : post (g_length, g_procs, g_chans, g_clock, g_faults + 1, g_sealed, g_nextTicket, b_ops, b_xs, b_ys, upd b_st q 0, b_prio, b_pos, upd b_ra q 0, upd b_rb q 0, upd b_rc q 0, b_words, b_chan, b_held, b_named, b_wake, upd b_open q 0, zr_f q 8 b_guard, upd b_timer q (-1), upd b_chosen q (-1), b_ticket, b_sent, b_received, b_sentFold, b_receivedFold)) : wpY_fault post (g_length, g_procs, g_chans, g_clock, g_faults, g_sealed, g_nextTicket, b_ops, b_xs, b_ys, b_st, b_prio, b_pos, b_ra, b_rb, b_rc, b_words, b_chan, b_held, b_named, b_wake, b_open, b_guard, b_timer, b_chosen, b_ticket, b_sent, b_received, b_sentFold, b_receivedFold) (nI q) := by
  unfold wpY_fault
  refine nm_e (yw_end hq ?_)
  exact K
/-- the searches: the one owner is found -/
theorem yw_find {post : Int32 → Prop} {N : Nat} {s x : Int32} (hN : N ≤ 8) (H : ow_n N (fun p => b_st p = s) x) (K : post x) : wpY_find post (g_length, nI N, g_chans, g_clock, g_faults, g_sealed, g_nextTicket, b_ops, b_xs, b_ys, b_st, b_prio, b_pos, b_ra, b_rb, b_rc, b_words, b_chan, b_held, b_named, b_wake, b_open, b_guard, b_timer, b_chosen, b_ticket, b_sent, b_received, b_sentFold, b_receivedFold) s := by
  have loop : ∀ d i, i + d = N → (∀ p, p < i → ¬ b_st p = s) → wY_find_2 post s g_length (nI N) g_chans g_clock g_faults g_sealed g_nextTicket b_ops b_xs b_ys b_st b_prio b_pos b_ra b_rb b_rc b_words b_chan b_held b_named b_wake b_open b_guard b_timer b_chosen b_ticket b_sent b_received b_sentFold b_receivedFold (d + 1) (nI i) := by
    intro d
    induction d with
    | zero =>
      intro i hi hl
      have e : i = N := by omega
      subst e
      have h8 : nI i ≤ nI i := Int32.le_refl _
      have e : x = -1 := by
        rcases H with z | ⟨w, hw, _, z, _⟩
        · exact z.1
        · exact absurd z (hl w hw)
      subst e
      rw [wY_find_2]; simp only [h8, forall_eq, true_implies, false_implies, not_true_eq_false, not_false_eq_true, and_true, true_and, implies_true]
      exact K
    | succ d ih =>
      intro i hi hl
      have h8 : ¬ nI N ≤ nI i := nI_ge (by omega) (by omega)
      by_cases z : b_st i = s
      · have e := ow_is H (show i < N by omega) z
        subst e
        rw [wY_find_2]; simp only [h8, ba_c (show i < 8 by omega), ba_v (show i < 8 by omega), z, forall_eq, true_implies, false_implies, not_true_eq_false, not_false_eq_true, and_true, true_and, implies_true]
        exact K
      · have h := ih (i + 1) (by omega) (fun p hp => by
          by_cases e : p = i
          · rw [e]; exact z
          · exact hl p (by omega))
        rw [wY_find_2]; simp only [h8, ba_c (show i < 8 by omega), ba_v (show i < 8 by omega), z, nI_1, forall_eq, true_implies, false_implies, not_true_eq_false, not_false_eq_true, and_true, true_and, implies_true]
        exact h
  exact ⟨N + 1, loop N 0 (by omega) (fun p hp => absurd hp (by omega))⟩
theorem yw_writer {post : Int32 → Prop} {N c : Nat} {x : Int32} (hN : N ≤ 8) (H : ow_n N (fun p => b_st p = 4 ∧ b_chan p = nI c) x) (K : post x) : wpY_writer post (g_length, nI N, g_chans, g_clock, g_faults, g_sealed, g_nextTicket, b_ops, b_xs, b_ys, b_st, b_prio, b_pos, b_ra, b_rb, b_rc, b_words, b_chan, b_held, b_named, b_wake, b_open, b_guard, b_timer, b_chosen, b_ticket, b_sent, b_received, b_sentFold, b_receivedFold) (nI c) := by
  have loop : ∀ d i, i + d = N → (∀ p, p < i → ¬ (b_st p = 4 ∧ b_chan p = nI c)) → wY_writer_2 post (nI c) g_length (nI N) g_chans g_clock g_faults g_sealed g_nextTicket b_ops b_xs b_ys b_st b_prio b_pos b_ra b_rb b_rc b_words b_chan b_held b_named b_wake b_open b_guard b_timer b_chosen b_ticket b_sent b_received b_sentFold b_receivedFold (d + 1) (nI i) := by
    intro d
    induction d with
    | zero =>
      intro i hi hl
      have e : i = N := by omega
      subst e
      have h8 : nI i ≤ nI i := Int32.le_refl _
      have e : x = -1 := by
        rcases H with z | ⟨w, hw, _, z, _⟩
        · exact z.1
        · exact absurd z (hl w hw)
      subst e
      rw [wY_writer_2]; simp only [h8, forall_eq, true_implies, false_implies, not_true_eq_false, not_false_eq_true, and_true, true_and, implies_true]
      exact K
    | succ d ih =>
      intro i hi hl
      have h8 : ¬ nI N ≤ nI i := nI_ge (by omega) (by omega)
      have next : ¬ (b_st i = 4 ∧ b_chan i = nI c) → wY_writer_2 post (nI c) g_length (nI N) g_chans g_clock g_faults g_sealed g_nextTicket b_ops b_xs b_ys b_st b_prio b_pos b_ra b_rb b_rc b_words b_chan b_held b_named b_wake b_open b_guard b_timer b_chosen b_ticket b_sent b_received b_sentFold b_receivedFold (d + 1) (nI (i + 1)) := fun z => ih (i + 1) (by omega) (fun p hp => by
          by_cases e : p = i
          · rw [e]; exact z
          · exact hl p (by omega))
      by_cases z : b_st i = 4
      · by_cases z2 : b_chan i = nI c
        · have e := ow_is H (show i < N by omega) ⟨z, z2⟩
          subst e
          rw [wY_writer_2]; simp only [h8, ba_c (show i < 8 by omega), ba_v (show i < 8 by omega), z, z2, forall_eq, true_implies, false_implies, not_true_eq_false, not_false_eq_true, and_true, true_and, implies_true]
          exact K
        · have h := next (fun y => z2 y.2)
          rw [wY_writer_2]; simp only [h8, ba_c (show i < 8 by omega), ba_v (show i < 8 by omega), z, z2, nI_1, forall_eq, true_implies, false_implies, not_true_eq_false, not_false_eq_true, and_true, true_and, implies_true]
          exact h
      · have h := next (fun y => z y.1)
        rw [wY_writer_2]; simp only [h8, ba_c (show i < 8 by omega), ba_v (show i < 8 by omega), z, nI_1, forall_eq, true_implies, false_implies, not_true_eq_false, not_false_eq_true, and_true, true_and, implies_true]
        exact h
  exact ⟨N + 1, loop N 0 (by omega) (fun p hp => absurd hp (by omega))⟩
theorem yw_reader {post : Int32 → Prop} {N c : Nat} {x : Int32} (hN : N ≤ 8) (hc : c < 8) (H : ow_n N (fun p => (b_st p = 5 ∧ b_chan p = nI c) ∨ (b_open p ≠ 0 ∧ b_guard (p * 8 + c) ≠ 0)) x) (K : post x) : wpY_reader post (g_length, nI N, g_chans, g_clock, g_faults, g_sealed, g_nextTicket, b_ops, b_xs, b_ys, b_st, b_prio, b_pos, b_ra, b_rb, b_rc, b_words, b_chan, b_held, b_named, b_wake, b_open, b_guard, b_timer, b_chosen, b_ticket, b_sent, b_received, b_sentFold, b_receivedFold) (nI c) := by
  have loop : ∀ d i, i + d = N → (∀ p, p < i → ¬ ((b_st p = 5 ∧ b_chan p = nI c) ∨ (b_open p ≠ 0 ∧ b_guard (p * 8 + c) ≠ 0))) → wY_reader_2 post (nI c) g_length (nI N) g_chans g_clock g_faults g_sealed g_nextTicket b_ops b_xs b_ys b_st b_prio b_pos b_ra b_rb b_rc b_words b_chan b_held b_named b_wake b_open b_guard b_timer b_chosen b_ticket b_sent b_received b_sentFold b_receivedFold (d + 1) (nI i) := by
    intro d
    induction d with
    | zero =>
      intro i hi hl
      have e : i = N := by omega
      subst e
      have h8 : nI i ≤ nI i := Int32.le_refl _
      have e : x = -1 := by
        rcases H with z | ⟨w, hw, _, z, _⟩
        · exact z.1
        · exact absurd z (hl w hw)
      subst e
      rw [wY_reader_2]; simp only [h8, forall_eq, true_implies, false_implies, not_true_eq_false, not_false_eq_true, and_true, true_and, implies_true]
      exact K
    | succ d ih =>
      intro i hi hl
      have h8 : ¬ nI N ≤ nI i := nI_ge (by omega) (by omega)
      have next : ¬ ((b_st i = 5 ∧ b_chan i = nI c) ∨ (b_open i ≠ 0 ∧ b_guard (i * 8 + c) ≠ 0)) → wY_reader_2 post (nI c) g_length (nI N) g_chans g_clock g_faults g_sealed g_nextTicket b_ops b_xs b_ys b_st b_prio b_pos b_ra b_rb b_rc b_words b_chan b_held b_named b_wake b_open b_guard b_timer b_chosen b_ticket b_sent b_received b_sentFold b_receivedFold (d + 1) (nI (i + 1)) := fun z => ih (i + 1) (by omega) (fun p hp => by
          by_cases e : p = i
          · rw [e]; exact z
          · exact hl p (by omega))
      have found : ((b_st i = 5 ∧ b_chan i = nI c) ∨ (b_open i ≠ 0 ∧ b_guard (i * 8 + c) ≠ 0)) → post (nI i) := fun z => by
        rw [← ow_is H (show i < N by omega) z]
        exact K
      have second : ¬ (b_st i = 5 ∧ b_chan i = nI c) → wY_reader_32 post (wY_reader_2 post (nI c) g_length (nI N) g_chans g_clock g_faults g_sealed g_nextTicket b_ops b_xs b_ys b_st b_prio b_pos b_ra b_rb b_rc b_words b_chan b_held b_named b_wake b_open b_guard b_timer b_chosen b_ticket b_sent b_received b_sentFold b_receivedFold (d + 1)) (nI c) (nI i) g_length (nI N) g_chans g_clock g_faults g_sealed g_nextTicket b_ops b_xs b_ys b_st b_prio b_pos b_ra b_rb b_rc b_words b_chan b_held b_named b_wake b_open b_guard b_timer b_chosen b_ticket b_sent b_received b_sentFold b_receivedFold := fun z1 => by
        by_cases z : b_open i = 0
        · have h := next (fun y => y.elim z1 (fun y => y.1 z))
          simp only [wY_reader_32, ba_c (show i < 8 by omega), ba_v (show i < 8 by omega), z, nI_1, forall_eq, true_implies, false_implies, not_true_eq_false, not_false_eq_true, and_true, true_and, implies_true]
          exact h
        · by_cases z2 : b_guard (i * 8 + c) = 0
          · have h := next (fun y => y.elim z1 (fun y => y.2 z2))
            simp only [wY_reader_32, ba_c (show i < 8 by omega), ba_v (show i < 8 by omega), z, nI_1, ba_m8, nI_add, ba_v64 (show i * 8 + c < 64 by omega), ba_c64 (show i * 8 + c < 64 by omega), z2, forall_eq, true_implies, false_implies, not_true_eq_false, not_false_eq_true, and_true, true_and, implies_true]
            exact h
          · have h := found (Or.inr ⟨z, z2⟩)
            simp only [wY_reader_32, ba_c (show i < 8 by omega), ba_v (show i < 8 by omega), z, nI_1, ba_m8, nI_add, ba_v64 (show i * 8 + c < 64 by omega), ba_c64 (show i * 8 + c < 64 by omega), z2, forall_eq, true_implies, false_implies, not_true_eq_false, not_false_eq_true, and_true, true_and, implies_true]
            exact h
      by_cases z : b_st i = 5
      · by_cases z2 : b_chan i = nI c
        · have h := found (Or.inl ⟨z, z2⟩)
          rw [wY_reader_2]; simp only [h8, ba_c (show i < 8 by omega), ba_v (show i < 8 by omega), z, z2, forall_eq, true_implies, false_implies, not_true_eq_false, not_false_eq_true, and_true, true_and, implies_true]
          exact h
        · have h := second (fun y => z2 y.2)
          rw [wY_reader_2]; simp only [h8, ba_c (show i < 8 by omega), ba_v (show i < 8 by omega), z, z2, forall_eq, true_implies, false_implies, not_true_eq_false, not_false_eq_true, and_true, true_and, implies_true]
          exact h
      · have h := second (fun y => z y.1)
        rw [wY_reader_2]; simp only [h8, ba_c (show i < 8 by omega), ba_v (show i < 8 by omega), z, forall_eq, true_implies, false_implies, not_true_eq_false, not_false_eq_true, and_true, true_and, implies_true]
        exact h
  exact ⟨N + 1, loop N 0 (by omega) (fun p hp => absurd hp (by omega))⟩
theorem yw_start {post : Int32 → SY → Prop} {q : Nat} {p0 p1 p2 : Int32} (hq : q < 8) (hf : ∀ post : Int32 → Prop, post (nI q) → wpY_find post (g_length, g_procs, g_chans, g_clock, g_faults, g_sealed, g_nextTicket, b_ops, b_xs, b_ys, b_st, b_prio, b_pos, b_ra, b_rb, b_rc, b_words, b_chan, b_held, b_named, b_wake, b_open, b_guard, b_timer, b_chosen, b_ticket, b_sent, b_received, b_sentFold, b_receivedFold) 0)
    (K : post (nI q) (g_length, g_procs, g_chans, g_clock, g_faults, g_sealed, g_nextTicket + 1, b_ops, b_xs, b_ys, upd b_st q 3, upd b_prio q p1, upd b_pos q p0, upd b_ra q 0, upd b_rb q 0, upd b_rc q 0, upd (zr_f q 8 b_words) (q * 8) p2, b_chan, b_held, b_named, b_wake, upd b_open q 0, zr_f q 8 b_guard, upd b_timer q (-1), upd b_chosen q (-1), vp_updL b_ticket q g_nextTicket, b_sent, b_received, b_sentFold, b_receivedFold)) : wpY_start post (g_length, g_procs, g_chans, g_clock, g_faults, g_sealed, g_nextTicket, b_ops, b_xs, b_ys, b_st, b_prio, b_pos, b_ra, b_rb, b_rc, b_words, b_chan, b_held, b_named, b_wake, b_open, b_guard, b_timer, b_chosen, b_ticket, b_sent, b_received, b_sentFold, b_receivedFold) p0 p1 p2 := by
  unfold wpY_start
  refine hf _ (br_t (ba_p' hq) ?_)
  have loop : ∀ d i, i + d = 8 → wY_start_17 post p0 p1 p2 (nI q) g_length g_procs g_chans g_clock g_faults g_sealed g_nextTicket (d + 1) (nI i) b_ops b_xs b_ys b_st b_prio b_pos b_ra b_rb b_rc (zr_f q i b_words) b_chan b_held b_named b_wake b_open b_guard b_timer b_chosen b_ticket b_sent b_received b_sentFold b_receivedFold := by
    intro d
    induction d with
    | zero =>
      intro i hi
      have e : i = 8 := by omega
      subst e
      have h8 : (8 : Int32) ≤ nI 8 := by decide
      rw [wY_start_17]; simp only [wpY_clear, h8, ba_m8, ba_v64 (show q * 8 < 64 by omega), ba_c64 (show q * 8 < 64 by omega), ba_c hq, ba_v hq, forall_eq, true_implies, false_implies, not_true_eq_false, not_false_eq_true, and_true, true_and, implies_true]
      refine yw_close hq ?_
      simp only [wpY_ready, ba_c hq, ba_v hq, forall_eq, true_implies, false_implies, not_true_eq_false, not_false_eq_true, and_true, true_and, implies_true]
      exact K
    | succ d ih =>
      intro i hi
      have h8 : ¬ (8 : Int32) ≤ nI i := ba_8 (by omega)
      have h := ih (i + 1) (by omega)
      rw [wY_start_17]; simp only [h8, ba_m8, nI_add, ba_v64 (show q * 8 + i < 64 by omega), ba_c64 (show q * 8 + i < 64 by omega), nI_1, zr_s, forall_eq, true_implies, false_implies, not_true_eq_false, not_false_eq_true, and_true, true_and, implies_true]
      exact h
  have h := loop 8 0 rfl
  rw [zr_0] at h
  exact ⟨9, h⟩
end
section
variable {f_unused f_constant f_word f_target f_channel f_level f_prefix f_negate f_operate f_disableChannel f_disableTimer f_processCount f_channelCount f_length f_sealed f_timerHead f_running f_interrupted f_regA f_regB f_regC f_savedA f_savedB f_savedC f_operand f_clock f_faults : Int32} {a_ops a_xs a_ys a_sizes a_address a_bytes a_indexAt a_locals a_states a_priorities a_pointers a_branches a_deadlines a_held a_readyLink a_timerLink a_head a_tail a_writers a_readers a_counters : Nat → Int32}
variable {g_length g_procs g_chans g_clock g_faults g_sealed : Int32} {g_nextTicket : Int64} {b_ops b_xs b_ys b_st b_prio b_pos b_ra b_rb b_rc b_words b_chan b_held b_named b_wake b_open b_guard b_timer b_chosen b_sent b_received b_sentFold b_receivedFold : Nat → Int32} {b_ticket : Nat → Int64}
/-- the lowest free process: both find it -/
theorem jw_free {N : Nat} (hN : N ≤ 8) : ∃ r : Int32, ((r = -1 ∧ ∀ p, p < N → a_states p ≠ 0) ∨ ∃ q, q < N ∧ r = nI q ∧ a_states q = 0) ∧ (∀ post : Int32 → Prop, post r → wpX_findFree post (f_unused, f_constant, f_word, f_target, f_channel, f_level, f_prefix, f_negate, f_operate, f_disableChannel, f_disableTimer, nI N, f_channelCount, f_length, f_sealed, f_timerHead, f_running, f_interrupted, f_regA, f_regB, f_regC, f_savedA, f_savedB, f_savedC, f_operand, f_clock, f_faults, a_ops, a_xs, a_ys, a_sizes, a_address, a_bytes, a_indexAt, a_locals, a_states, a_priorities, a_pointers, a_branches, a_deadlines, a_held, a_readyLink, a_timerLink, a_head, a_tail, a_writers, a_readers, a_counters)) ∧ (∀ post : Int32 → Prop, post r → wpY_find post (g_length, nI N, g_chans, g_clock, g_faults, g_sealed, g_nextTicket, b_ops, b_xs, b_ys, a_states, b_prio, b_pos, b_ra, b_rb, b_rc, b_words, b_chan, b_held, b_named, b_wake, b_open, b_guard, b_timer, b_chosen, b_ticket, b_sent, b_received, b_sentFold, b_receivedFold) 0) := by
  have loop : ∀ d i, i + d = N → ∃ r : Int32, ((r = -1 ∧ ∀ p, i ≤ p → p < N → a_states p ≠ 0) ∨ ∃ q, q < N ∧ r = nI q ∧ a_states q = 0) ∧ (∀ post : Int32 → Prop, post r → wX_findFree_2 post f_unused f_constant f_word f_target f_channel f_level f_prefix f_negate f_operate f_disableChannel f_disableTimer (nI N) f_channelCount f_length f_sealed f_timerHead f_running f_interrupted f_regA f_regB f_regC f_savedA f_savedB f_savedC f_operand f_clock f_faults a_ops a_xs a_ys a_sizes a_address a_bytes a_indexAt a_locals a_states a_priorities a_pointers a_branches a_deadlines a_held a_readyLink a_timerLink a_head a_tail a_writers a_readers a_counters (d + 1) (nI i)) ∧ (∀ post : Int32 → Prop, post r → wY_find_2 post 0 g_length (nI N) g_chans g_clock g_faults g_sealed g_nextTicket b_ops b_xs b_ys a_states b_prio b_pos b_ra b_rb b_rc b_words b_chan b_held b_named b_wake b_open b_guard b_timer b_chosen b_ticket b_sent b_received b_sentFold b_receivedFold (d + 1) (nI i)) := by
    intro d
    induction d with
    | zero =>
      intro i hi
      have e : i = N := by omega
      subst e
      have h8 : nI i ≤ nI i := Int32.le_refl _
      refine ⟨-1, Or.inl ⟨rfl, fun p h1 h2 => absurd h1 (by omega)⟩, fun post K => ?_, fun post K => ?_⟩
      · rw [wX_findFree_2]; simp only [h8, forall_eq, true_implies, false_implies, not_true_eq_false, not_false_eq_true, and_true, true_and, implies_true]
        exact K
      · rw [wY_find_2]; simp only [h8, forall_eq, true_implies, false_implies, not_true_eq_false, not_false_eq_true, and_true, true_and, implies_true]
        exact K
    | succ d ih =>
      intro i hi
      have h8 : ¬ nI N ≤ nI i := nI_ge (by omega) (by omega)
      by_cases z : a_states i = 0
      · refine ⟨nI i, Or.inr ⟨i, by omega, rfl, z⟩, fun post K => ?_, fun post K => ?_⟩
        · rw [wX_findFree_2]; simp only [h8, ba_c (show i < 8 by omega), ba_v (show i < 8 by omega), z, forall_eq, true_implies, false_implies, not_true_eq_false, not_false_eq_true, and_true, true_and, implies_true]
          exact K
        · rw [wY_find_2]; simp only [h8, ba_c (show i < 8 by omega), ba_v (show i < 8 by omega), z, forall_eq, true_implies, false_implies, not_true_eq_false, not_false_eq_true, and_true, true_and, implies_true]
          exact K
      · obtain ⟨r, h1, hX, hY⟩ := ih (i + 1) (by omega)
        refine ⟨r, ?_, fun post K => ?_, fun post K => ?_⟩
        · rcases h1 with ⟨e, h1⟩ | h1
          · refine Or.inl ⟨e, fun p hp hp2 => ?_⟩
            by_cases e2 : p = i
            · rw [e2]; exact z
            · exact h1 p (by omega) hp2
          · exact Or.inr h1
        · rw [wX_findFree_2]; simp only [h8, ba_c (show i < 8 by omega), ba_v (show i < 8 by omega), z, nI_1, forall_eq, true_implies, false_implies, not_true_eq_false, not_false_eq_true, and_true, true_and, implies_true]
          exact hX post K
        · rw [wY_find_2]; simp only [h8, ba_c (show i < 8 by omega), ba_v (show i < 8 by omega), z, nI_1, forall_eq, true_implies, false_implies, not_true_eq_false, not_false_eq_true, and_true, true_and, implies_true]
          exact hY post K
  obtain ⟨r, h1, hX, hY⟩ := loop N 0 (by omega)
  refine ⟨r, ?_, fun post K => ⟨N + 1, hX post K⟩, fun post K => ⟨N + 1, hY post K⟩⟩
  rcases h1 with ⟨e, h1⟩ | h1
  · exact Or.inl ⟨e, fun p hp => h1 p (by omega) hp⟩
  · exact Or.inr h1
end
end
section
/-! the timer queue's methods -/
theorem ch_head {k : Nat → Int32} {h h' : Int32} : ∀ {l : List Nat}, ch_n k h l → ch_n k h' l → h = h' := by
  intro l
  cases l with
  | nil => intro a b; exact Eq.trans a (Eq.symm b)
  | cons p l => intro a b; rw [a.1, b.1]
theorem tm_and {c d : Nat} (hc : c < 256) (hd : d < 256) : (nI d - nI c) &&& 255 = nI (tm_w c d) := by
  rw [pk_and _ 8 (by decide)]
  refine congrArg nI ?_
  rw [Int32.toBitVec_sub, BitVec.toNat_sub, pk_tn (by omega), pk_tn (by omega)]
  unfold tm_w
  omega
theorem tm_lt (c d : Nat) : tm_w c d < 256 := Nat.mod_lt _ (by decide)
section
variable {f_unused f_constant f_word f_target f_channel f_level f_prefix f_negate f_operate f_disableChannel f_disableTimer f_processCount f_channelCount f_length f_sealed f_timerHead f_running f_interrupted f_regA f_regB f_regC f_savedA f_savedB f_savedC f_operand f_clock f_faults : Int32} {a_ops a_xs a_ys a_sizes a_address a_bytes a_indexAt a_locals a_states a_priorities a_pointers a_branches a_deadlines a_held a_readyLink a_timerLink a_head a_tail a_writers a_readers a_counters : Nat → Int32}
theorem xw_wakes {post : Int32 → Prop} {c p q d e : Nat} (hc : c < 256) (hp : p < 8) (hq : q < 8) (hd : d < 256) (he : e < 256) (ed : a_deadlines p = nI d) (ee : a_deadlines q = nI e)
    (K1 : tm_k c a_deadlines q < tm_k c a_deadlines p → post 1) (K0 : ¬ tm_k c a_deadlines q < tm_k c a_deadlines p → post 0) : wpX_wakesBefore post (f_unused, f_constant, f_word, f_target, f_channel, f_level, f_prefix, f_negate, f_operate, f_disableChannel, f_disableTimer, f_processCount, f_channelCount, f_length, f_sealed, f_timerHead, f_running, f_interrupted, f_regA, f_regB, f_regC, f_savedA, f_savedB, f_savedC, f_operand, nI c, f_faults, a_ops, a_xs, a_ys, a_sizes, a_address, a_bytes, a_indexAt, a_locals, a_states, a_priorities, a_pointers, a_branches, a_deadlines, a_held, a_readyLink, a_timerLink, a_head, a_tail, a_writers, a_readers, a_counters) (nI q) (nI p) := by
  have hk : tm_k c a_deadlines q < tm_k c a_deadlines p ↔ (tm_w c e < tm_w c d ∨ (tm_w c e = tm_w c d ∧ q < p)) := by
    unfold tm_k
    rw [ed, ee, nI_clamp (by omega), nI_clamp (by omega)]
    omega
  rw [hk] at K1 K0
  have l1 := tm_lt c d
  have l2 := tm_lt c e
  simp only [wpX_wakesBefore, ba_v hp, ba_v hq, ba_c hp, ba_c hq, ed, ee, tm_and hc hd, tm_and hc he, nI_ltI (show tm_w c e < 2 ^ 31 by omega) (show tm_w c d < 2 ^ 31 by omega), nI_eq (show tm_w c e < 2 ^ 31 by omega) (show tm_w c d < 2 ^ 31 by omega), nI_leI (show p < 2 ^ 31 by omega) (show q < 2 ^ 31 by omega), forall_eq, true_implies, false_implies, not_true_eq_false, not_false_eq_true, and_true, true_and, implies_true]
  refine br_c (fun h => K1 (Or.inl h)) (fun h => br_c (fun h2 => br_c (fun h3 => K0 (by omega)) (fun h3 => K1 (by omega))) (fun h2 => K0 (by omega)))
theorem xw_enter {N c p d : Nat} {s : Int32} (hN : N ≤ 8) (hc : c < 256) (hp : p < N) (g6 : a_states p ≠ 6) (g7 : a_states p ≠ 7) (hs : s = 6 ∨ s = 7) (hd : d < 256) (ed : a_deadlines p = nI d) (w1 : 1 ≤ tm_w c d) (w2 : tm_w c d ≤ 128) (H : rl_tm N 1 c a_states a_deadlines f_timerHead a_timerLink) :
    ∃ th lk, rl_tm N 1 c (upd a_states p s) a_deadlines th lk ∧ ∀ post : SX → Prop, post (f_unused, f_constant, f_word, f_target, f_channel, f_level, f_prefix, f_negate, f_operate, f_disableChannel, f_disableTimer, f_processCount, f_channelCount, f_length, f_sealed, th, f_running, f_interrupted, f_regA, f_regB, f_regC, f_savedA, f_savedB, f_savedC, f_operand, nI c, f_faults, a_ops, a_xs, a_ys, a_sizes, a_address, a_bytes, a_indexAt, a_locals, a_states, a_priorities, a_pointers, a_branches, a_deadlines, a_held, a_readyLink, lk, a_head, a_tail, a_writers, a_readers, a_counters) → wpX_enterTimer post (f_unused, f_constant, f_word, f_target, f_channel, f_level, f_prefix, f_negate, f_operate, f_disableChannel, f_disableTimer, f_processCount, f_channelCount, f_length, f_sealed, f_timerHead, f_running, f_interrupted, f_regA, f_regB, f_regC, f_savedA, f_savedB, f_savedC, f_operand, nI c, f_faults, a_ops, a_xs, a_ys, a_sizes, a_address, a_bytes, a_indexAt, a_locals, a_states, a_priorities, a_pointers, a_branches, a_deadlines, a_held, a_readyLink, a_timerLink, a_head, a_tail, a_writers, a_readers, a_counters) (nI p) := by
  obtain ⟨l, a, b, e, hch⟩ := H
  have hp8 : p < 8 := by omega
  have nd := pw_nodup b
  have hpl : p ∉ l := fun h => by
    rcases ((a p).mp h).2 with z | z
    · exact g6 z
    · exact g7 z.1
  have len : l.length < 8 := by
    have h := cn_len (n := N) (l := p :: l) (List.nodup_cons.mpr ⟨hpl, nd⟩) (fun x hx => by
      rcases List.mem_cons.mp hx with z | z
      · omega
      · exact ((a x).mp z).1)
    have : (p :: l).length = l.length + 1 := rfl
    omega
  have fin : ∀ l2 l1 : List Nat, ∀ at_ bf : Int32, l = l1 ++ l2 → ch_n a_timerLink at_ l2 → (∀ q, q ∈ l1 → tm_k c a_deadlines q < tm_k c a_deadlines p) → (∀ q m, l2 = q :: m → ¬ tm_k c a_deadlines q < tm_k c a_deadlines p) → ((l1 = [] ∧ bf = -1) ∨ ∃ m x, l1 = m ++ [x] ∧ bf = nI x) →
      ∃ th lk, rl_tm N 1 c (upd a_states p s) a_deadlines th lk ∧ ∀ post : SX → Prop, post (f_unused, f_constant, f_word, f_target, f_channel, f_level, f_prefix, f_negate, f_operate, f_disableChannel, f_disableTimer, f_processCount, f_channelCount, f_length, f_sealed, th, f_running, f_interrupted, f_regA, f_regB, f_regC, f_savedA, f_savedB, f_savedC, f_operand, nI c, f_faults, a_ops, a_xs, a_ys, a_sizes, a_address, a_bytes, a_indexAt, a_locals, a_states, a_priorities, a_pointers, a_branches, a_deadlines, a_held, a_readyLink, lk, a_head, a_tail, a_writers, a_readers, a_counters) → wX_enterTimer_45 post (nI p) bf at_ f_unused f_constant f_word f_target f_channel f_level f_prefix f_negate f_operate f_disableChannel f_disableTimer f_processCount f_channelCount f_length f_sealed f_timerHead f_running f_interrupted f_regA f_regB f_regC f_savedA f_savedB f_savedC f_operand (nI c) f_faults a_ops a_xs a_ys a_sizes a_address a_bytes a_indexAt a_locals a_states a_priorities a_pointers a_branches a_deadlines a_held a_readyLink a_timerLink a_head a_tail a_writers a_readers a_counters := by
    intro l2 l1 at_ bf el hc2 h1 h2 hb
    have a2 := a
    have b2 := b
    have e2 := e
    rw [el] at a2 b2 e2
    have put := fun th' lk' => tm_put (s := s) (th' := th') (lk' := lk') hp hN g6 g7 hs hd ed w1 w2 a2 b2 e2 h1 h2
    rcases hb with ⟨e1, eb⟩ | ⟨m, x, e1, eb⟩
    · subst e1 eb
      have z : ¬ (0 : Int32) ≤ -1 := by decide
      refine ⟨nI p, upd a_timerLink p at_, put _ _ ⟨rfl, ?_⟩, fun post K => ?_⟩
      · rw [pk_us]
        refine ch_upd hc2 (fun h => hpl ?_)
        rw [el]
        exact h
      · simp only [wX_enterTimer_45, ba_v hp8, ba_c hp8, z, forall_eq, true_implies, false_implies, not_true_eq_false, not_false_eq_true, and_true, true_and, implies_true]
        exact K
    · subst eb
      have hx8 : x < 8 := by
        have h := ((a x).mp (by rw [el, e1]; simp)).1
        omega
      have hch3 : ch_n a_timerLink f_timerHead (m ++ x :: l2) := by
        rw [el, e1, List.append_assoc] at hch
        exact hch
      have nd3 : (m ++ x :: l2).Nodup := by
        rw [el, e1, List.append_assoc] at nd
        exact nd
      have hp3 : p ∉ m ++ x :: l2 := by
        rw [el, e1, List.append_assoc] at hpl
        exact hpl
      have eat : a_timerLink x = at_ := ch_head (ch_mid hch3) hc2
      have r := ch_ins hch3 nd3 hp3
      rw [eat] at r
      refine ⟨f_timerHead, upd (upd a_timerLink p at_) x (nI p), put _ _ ?_, fun post K => ?_⟩
      · rw [e1, List.append_assoc]
        exact r
      · have z : (0 : Int32) ≤ nI x := ba_p' hx8
        simp only [wX_enterTimer_45, ba_v hp8, ba_c hp8, ba_v hx8, ba_c hx8, z, forall_eq, true_implies, false_implies, not_true_eq_false, not_false_eq_true, and_true, true_and, implies_true]
        exact K
  have loop : ∀ l2 l1 : List Nat, ∀ at_ bf : Int32, l = l1 ++ l2 → ch_n a_timerLink at_ l2 → (∀ q, q ∈ l1 → tm_k c a_deadlines q < tm_k c a_deadlines p) → ((l1 = [] ∧ bf = -1) ∨ ∃ m x, l1 = m ++ [x] ∧ bf = nI x) →
      ∃ th lk, rl_tm N 1 c (upd a_states p s) a_deadlines th lk ∧ ∀ post : SX → Prop, post (f_unused, f_constant, f_word, f_target, f_channel, f_level, f_prefix, f_negate, f_operate, f_disableChannel, f_disableTimer, f_processCount, f_channelCount, f_length, f_sealed, th, f_running, f_interrupted, f_regA, f_regB, f_regC, f_savedA, f_savedB, f_savedC, f_operand, nI c, f_faults, a_ops, a_xs, a_ys, a_sizes, a_address, a_bytes, a_indexAt, a_locals, a_states, a_priorities, a_pointers, a_branches, a_deadlines, a_held, a_readyLink, lk, a_head, a_tail, a_writers, a_readers, a_counters) → wX_enterTimer_10 post (nI p) f_unused f_constant f_word f_target f_channel f_level f_prefix f_negate f_operate f_disableChannel f_disableTimer f_processCount f_channelCount f_length f_sealed f_timerHead f_running f_interrupted f_regA f_regB f_regC f_savedA f_savedB f_savedC f_operand (nI c) f_faults a_ops a_xs a_ys a_sizes a_address a_bytes a_indexAt a_locals a_states a_priorities a_pointers a_branches a_deadlines a_held a_readyLink a_timerLink a_head a_tail a_writers a_readers a_counters (l2.length + 1) bf at_ (nI l1.length) := by
    intro l2
    induction l2 with
    | nil =>
      intro l1 at_ bf el hc2 h1 hb
      have h8 : ¬ (8 : Int32) ≤ nI l1.length := ba_8 (by rw [el] at len; simpa using len)
      obtain ⟨th, lk, T, W⟩ := fin [] l1 at_ bf el hc2 h1 (fun q m z => nomatch z) hb
      refine ⟨th, lk, T, fun post K => ?_⟩
      have ea : at_ = -1 := hc2
      have z : at_ < 0 := by rw [ea]; decide
      rw [wX_enterTimer_10]; simp only [List.length_nil, h8, z, forall_eq, true_implies, false_implies, not_true_eq_false, not_false_eq_true, and_true, true_and, implies_true]
      exact W post K
    | cons q l2 ih =>
      intro l1 at_ bf el hc2 h1 hb
      have hlen : l1.length + (l2.length + 1) < 8 := by
        rw [el] at len
        simpa using len
      have h8 : ¬ (8 : Int32) ≤ nI l1.length := ba_8 (by omega)
      have hql : q ∈ l := by rw [el]; simp
      have hq8 : q < 8 := by
        have h := ((a q).mp hql).1
        omega
      obtain ⟨dq, hdq, edq, _, _⟩ := e q hql
      have ea : at_ = nI q := hc2.1
      have z : ¬ nI q < 0 := ba_p hq8
      by_cases kq : tm_k c a_deadlines q < tm_k c a_deadlines p
      · obtain ⟨th, lk, T, W⟩ := ih (l1 ++ [q]) (a_timerLink q) (nI q) (by rw [el, List.append_assoc]; rfl) hc2.2 (fun y hy => by
          rcases List.mem_append.mp hy with h | h
          · exact h1 y h
          · rw [List.mem_singleton.mp h]; exact kq) (Or.inr ⟨l1, q, rfl, rfl⟩)
        refine ⟨th, lk, T, fun post K => ?_⟩
        have h := W post K
        rw [List.length_append] at h
        subst ea
        rw [wX_enterTimer_10]; simp only [List.length_cons, h8, z, forall_eq, true_implies, false_implies, not_true_eq_false, not_false_eq_true, and_true, true_and, implies_true]
        refine xw_wakes hc hp8 hq8 hd hdq ed edq (fun _ => br_f (by decide) ?_) (fun z => absurd kq z)
        simp only [ba_v hq8, ba_c hq8, nI_1, forall_eq, true_implies, false_implies, not_true_eq_false, not_false_eq_true, and_true, true_and, implies_true]
        exact h
      · obtain ⟨th, lk, T, W⟩ := fin (q :: l2) l1 at_ bf el hc2 h1 (fun y m ey => by
          rw [(List.cons.inj ey).1] at kq
          exact kq) hb
        refine ⟨th, lk, T, fun post K => ?_⟩
        have h := W post K
        subst ea
        rw [wX_enterTimer_10]; simp only [List.length_cons, h8, z, forall_eq, true_implies, false_implies, not_true_eq_false, not_false_eq_true, and_true, true_and, implies_true]
        exact xw_wakes hc hp8 hq8 hd hdq ed edq (fun z => absurd z kq) (fun _ => br_t rfl h)
  obtain ⟨th, lk, T, W⟩ := loop l [] f_timerHead (-1) rfl hch (fun q hq => absurd hq List.not_mem_nil) (Or.inl ⟨rfl, rfl⟩)
  exact ⟨th, lk, T, fun post K => ⟨_, W post K⟩⟩
theorem xw_leave {N c p : Nat} (hN : N ≤ 8) (hp : p < N) (g : a_states p = 7) (H : rl_tm N 1 c a_states a_deadlines f_timerHead a_timerLink) :
    ∃ th lk, rl_tm N 1 c (upd a_states p 3) a_deadlines th lk ∧ ∀ post : SX → Prop, post (f_unused, f_constant, f_word, f_target, f_channel, f_level, f_prefix, f_negate, f_operate, f_disableChannel, f_disableTimer, f_processCount, f_channelCount, f_length, f_sealed, th, f_running, f_interrupted, f_regA, f_regB, f_regC, f_savedA, f_savedB, f_savedC, f_operand, f_clock, f_faults, a_ops, a_xs, a_ys, a_sizes, a_address, a_bytes, a_indexAt, a_locals, a_states, a_priorities, a_pointers, a_branches, a_deadlines, a_held, a_readyLink, lk, a_head, a_tail, a_writers, a_readers, a_counters) → wpX_leaveTimer post (f_unused, f_constant, f_word, f_target, f_channel, f_level, f_prefix, f_negate, f_operate, f_disableChannel, f_disableTimer, f_processCount, f_channelCount, f_length, f_sealed, f_timerHead, f_running, f_interrupted, f_regA, f_regB, f_regC, f_savedA, f_savedB, f_savedC, f_operand, f_clock, f_faults, a_ops, a_xs, a_ys, a_sizes, a_address, a_bytes, a_indexAt, a_locals, a_states, a_priorities, a_pointers, a_branches, a_deadlines, a_held, a_readyLink, a_timerLink, a_head, a_tail, a_writers, a_readers, a_counters) (nI p) := by
  have HH := H
  obtain ⟨l, a, b, e, hch⟩ := H
  have hp8 : p < 8 := by omega
  have nd := pw_nodup b
  have g6 : a_states p ≠ 6 := by rw [g]; decide
  have len : l.length ≤ 8 := by
    have h := cn_len (n := N) nd (fun x hx => ((a x).mp hx).1)
    omega
  have loop : ∀ l2 l1 : List Nat, ∀ at_ bf : Int32, l = l1 ++ l2 → ch_n a_timerLink at_ l2 → p ∉ l1 → ((l1 = [] ∧ bf = -1) ∨ ∃ m x, l1 = m ++ [x] ∧ bf = nI x) →
      ∃ th lk, rl_tm N 1 c (upd a_states p 3) a_deadlines th lk ∧ ∀ post : SX → Prop, post (f_unused, f_constant, f_word, f_target, f_channel, f_level, f_prefix, f_negate, f_operate, f_disableChannel, f_disableTimer, f_processCount, f_channelCount, f_length, f_sealed, th, f_running, f_interrupted, f_regA, f_regB, f_regC, f_savedA, f_savedB, f_savedC, f_operand, f_clock, f_faults, a_ops, a_xs, a_ys, a_sizes, a_address, a_bytes, a_indexAt, a_locals, a_states, a_priorities, a_pointers, a_branches, a_deadlines, a_held, a_readyLink, lk, a_head, a_tail, a_writers, a_readers, a_counters) → wX_leaveTimer_10 post (nI p) f_unused f_constant f_word f_target f_channel f_level f_prefix f_negate f_operate f_disableChannel f_disableTimer f_processCount f_channelCount f_length f_sealed f_timerHead f_running f_interrupted f_regA f_regB f_regC f_savedA f_savedB f_savedC f_operand f_clock f_faults a_ops a_xs a_ys a_sizes a_address a_bytes a_indexAt a_locals a_states a_priorities a_pointers a_branches a_deadlines a_held a_readyLink a_timerLink a_head a_tail a_writers a_readers a_counters (l2.length + 1) bf at_ (nI l1.length) := by
    intro l2
    induction l2 with
    | nil =>
      intro l1 at_ bf el hc2 h1 hb
      have ea : at_ = -1 := hc2
      subst ea
      have hpl : p ∉ l := by rw [el, List.append_nil]; exact h1
      have hd : a_deadlines p = -1 := by
        by_cases z : a_deadlines p = -1
        · exact z
        · exact absurd ((a p).mpr ⟨hp, Or.inr ⟨g, z⟩⟩) hpl
      refine ⟨f_timerHead, a_timerLink, tm_st g6 (Or.inr hd) (by decide) (Or.inl (by decide)) HH, fun post K => ?_⟩
      have z : (-1 : Int32) < 0 := by decide
      have z2 : ¬ -1 = nI p := fun h => ba_m1 (by omega) h.symm
      rw [wX_leaveTimer_10]; simp only [List.length_nil, wX_leaveTimer_41, z, z2, forall_eq, true_implies, false_implies, not_true_eq_false, not_false_eq_true, and_true, true_and, implies_true]
      exact ⟨fun _ => K, fun _ => K⟩
    | cons q l2 ih =>
      intro l1 at_ bf el hc2 h1 hb
      have hlen : l1.length + (l2.length + 1) ≤ 8 := by
        rw [el] at len
        simpa using len
      have h8 : ¬ (8 : Int32) ≤ nI l1.length := ba_8 (by omega)
      have hql : q ∈ l := by rw [el]; simp
      have hq8 : q < 8 := by
        have h := ((a q).mp hql).1
        omega
      have ea : at_ = nI q := hc2.1
      subst ea
      have z : ¬ nI q < 0 := ba_p hq8
      by_cases eq : q = p
      · subst eq
        have a2 := a
        have b2 := b
        have e2 := e
        rw [el] at a2 b2 e2
        have cut := fun th' lk' => tm_cut (s := 3) (x := a_deadlines q) (th' := th') (lk' := lk') (by decide) (by decide) a2 b2 e2
        rw [ba_us] at cut
        rcases hb with ⟨e1, eb⟩ | ⟨m, x, e1, eb⟩
        · subst e1 eb
          refine ⟨a_timerLink q, a_timerLink, cut _ _ hc2.2, fun post K => ?_⟩
          have z2 : ¬ (0 : Int32) ≤ -1 := by decide
          rw [wX_leaveTimer_10]; simp only [List.length_cons, wX_leaveTimer_41, h8, z, z2, ba_v hq8, ba_c hq8, forall_eq, true_implies, false_implies, not_true_eq_false, not_false_eq_true, and_true, true_and, implies_true]
          exact K
        · subst eb
          have hx8 : x < 8 := by
            have h := ((a x).mp (by rw [el, e1]; simp)).1
            omega
          have hch3 : ch_n a_timerLink f_timerHead (m ++ x :: q :: l2) := by
            rw [el, e1, List.append_assoc] at hch
            exact hch
          have nd3 : (m ++ x :: q :: l2).Nodup := by
            rw [el, e1, List.append_assoc] at nd
            exact nd
          refine ⟨f_timerHead, upd a_timerLink x (a_timerLink q), cut _ _ ?_, fun post K => ?_⟩
          · rw [e1, List.append_assoc]
            exact ch_del hch3 nd3
          · have z2 : (0 : Int32) ≤ nI x := ba_p' hx8
            rw [wX_leaveTimer_10]; simp only [List.length_cons, wX_leaveTimer_41, h8, z, z2, ba_v hq8, ba_c hq8, ba_v hx8, ba_c hx8, forall_eq, true_implies, false_implies, not_true_eq_false, not_false_eq_true, and_true, true_and, implies_true]
            exact K
      · have nq : ¬ nI q = nI p := fun h => eq (ba_i8 hq8 hp8 h)
        obtain ⟨th, lk, T, W⟩ := ih (l1 ++ [q]) (a_timerLink q) (nI q) (by rw [el, List.append_assoc]; rfl) hc2.2 (fun hy => by
          rcases List.mem_append.mp hy with h | h
          · exact h1 h
          · exact eq (List.mem_singleton.mp h).symm) (Or.inr ⟨l1, q, rfl, rfl⟩)
        refine ⟨th, lk, T, fun post K => ?_⟩
        have h := W post K
        rw [List.length_append] at h
        rw [wX_leaveTimer_10]; simp only [List.length_cons, h8, z, nq, ba_v hq8, ba_c hq8, nI_1, forall_eq, true_implies, false_implies, not_true_eq_false, not_false_eq_true, and_true, true_and, implies_true]
        exact h
  obtain ⟨th, lk, T, W⟩ := loop l [] f_timerHead (-1) rfl hch List.not_mem_nil (Or.inl ⟨rfl, rfl⟩)
  exact ⟨th, lk, T, fun post K => ⟨_, W post K⟩⟩
end
end
section
/-! the relation of the two states while programs run -/
def rl_dy (N : Nat) (C : Nat) (L : Nat) (B : Nat) (c : Nat) (ad : Nat → Nat) (f_running : Int32) (f_interrupted : Int32) (f_regA : Int32) (f_regB : Int32) (f_regC : Int32) (f_savedA : Int32) (f_savedB : Int32) (f_savedC : Int32) (f_timerHead : Int32) (a_states : Nat → Int32) (a_priorities : Nat → Int32) (a_pointers : Nat → Int32) (a_branches : Nat → Int32) (a_deadlines : Nat → Int32) (a_held : Nat → Int32) (a_readyLink : Nat → Int32) (a_timerLink : Nat → Int32) (a_head : Nat → Int32) (a_tail : Nat → Int32) (a_writers : Nat → Int32) (a_readers : Nat → Int32) (a_counters : Nat → Int32) (g_nextTicket : Int64) (b_pos : Nat → Int32) (b_ra : Nat → Int32) (b_rb : Nat → Int32) (b_rc : Nat → Int32) (b_chan : Nat → Int32) (b_held : Nat → Int32) (b_named : Nat → Int32) (b_wake : Nat → Int32) (b_open : Nat → Int32) (b_guard : Nat → Int32) (b_timer : Nat → Int32) (b_chosen : Nat → Int32) (b_ticket : Nat → Int64) (b_sent : Nat → Int32) (b_received : Nat → Int32) (b_sentFold : Nat → Int32) (b_receivedFold : Nat → Int32) : Prop :=
  rl_pr N a_states a_priorities b_ra b_rb b_rc f_running f_interrupted f_regA f_regB f_regC f_savedA f_savedB f_savedC
  ∧ rl_qu N B a_states a_priorities b_ticket g_nextTicket a_head a_tail a_readyLink
  ∧ rl_tm N 1 c a_states a_deadlines f_timerHead a_timerLink
  ∧ rl_ch N C a_states b_chan b_open b_guard a_writers a_readers
  ∧ rl_po N L ad a_states b_pos a_pointers
  ∧ rl_al N L ad a_states b_open b_chosen a_branches b_timer b_wake a_deadlines
  ∧ rl_he N C a_states b_chan a_held b_held b_named
  ∧ rl_co C a_counters b_sent b_received b_sentFold b_receivedFold
  ∧ rl_pi a_priorities
def rl_R (N : Nat) (C : Nat) (L : Nat) (B : Nat) (c : Nat) (ad : Nat → Nat) (f_sealed : Int32) (a_ops : Nat → Int32) (a_xs : Nat → Int32) (a_ys : Nat → Int32) (a_address : Nat → Int32) (a_bytes : Nat → Int32) (a_indexAt : Nat → Int32) (u : SX) (v : SY) : Prop := match u, v with
  | (f_unused, f_constant, f_word, f_target, f_channel, f_level, f_prefix, f_negate, f_operate, f_disableChannel, f_disableTimer, f_processCount, f_channelCount, f_length, x_sealed, f_timerHead, f_running, f_interrupted, f_regA, f_regB, f_regC, f_savedA, f_savedB, f_savedC, f_operand, f_clock, f_faults, x_ops, x_xs, x_ys, a_sizes, x_address, x_bytes, x_indexAt, a_locals, a_states, a_priorities, a_pointers, a_branches, a_deadlines, a_held, a_readyLink, a_timerLink, a_head, a_tail, a_writers, a_readers, a_counters), (g_length, g_procs, g_chans, g_clock, g_faults, g_sealed, g_nextTicket, b_ops, b_xs, b_ys, b_st, b_prio, b_pos, b_ra, b_rb, b_rc, b_words, b_chan, b_held, b_named, b_wake, b_open, b_guard, b_timer, b_chosen, b_ticket, b_sent, b_received, b_sentFold, b_receivedFold) =>
    (f_processCount = nI N ∧ g_procs = nI N ∧ f_channelCount = nI C ∧ g_chans = nI C ∧ f_length = nI L ∧ g_length = nI L ∧ f_clock = nI c ∧ g_clock = nI c
      ∧ g_faults = f_faults ∧ g_sealed = f_sealed ∧ x_sealed = f_sealed ∧ b_ops = a_ops ∧ x_ops = a_ops ∧ b_xs = a_xs ∧ x_xs = a_xs ∧ b_ys = a_ys ∧ x_ys = a_ys
      ∧ x_address = a_address ∧ x_bytes = a_bytes ∧ x_indexAt = a_indexAt ∧ b_st = a_states ∧ b_prio = a_priorities ∧ b_words = a_locals)
    ∧ rl_dy N C L B c ad f_running f_interrupted f_regA f_regB f_regC f_savedA f_savedB f_savedC f_timerHead a_states a_priorities a_pointers a_branches a_deadlines a_held a_readyLink a_timerLink a_head a_tail a_writers a_readers a_counters g_nextTicket b_pos b_ra b_rb b_rc b_chan b_held b_named b_wake b_open b_guard b_timer b_chosen b_ticket b_sent b_received b_sentFold b_receivedFold
/-- both sides end in related states -/
def jo_R (N : Nat) (C : Nat) (L : Nat) (B : Nat) (c : Nat) (ad : Nat → Nat) (f_sealed : Int32) (a_ops : Nat → Int32) (a_xs : Nat → Int32) (a_ys : Nat → Int32) (a_address : Nat → Int32) (a_bytes : Nat → Int32) (a_indexAt : Nat → Int32) (WX : (SX → Prop) → Prop) (WY : (SY → Prop) → Prop) : Prop :=
  ∃ (u : SX) (v : SY), rl_R N C L B c ad f_sealed a_ops a_xs a_ys a_address a_bytes a_indexAt u v ∧ (∀ post : SX → Prop, post u → WX post) ∧ (∀ post : SY → Prop, post v → WY post)
section
variable {N C L B c : Nat} {ad : Nat → Nat}
variable {f_unused f_constant f_word f_target f_channel f_level f_prefix f_negate f_operate f_disableChannel f_disableTimer f_processCount f_channelCount f_length f_sealed f_timerHead f_running f_interrupted f_regA f_regB f_regC f_savedA f_savedB f_savedC f_operand f_clock f_faults : Int32} {a_ops a_xs a_ys a_sizes a_address a_bytes a_indexAt a_locals a_states a_priorities a_pointers a_branches a_deadlines a_held a_readyLink a_timerLink a_head a_tail a_writers a_readers a_counters : Nat → Int32}
variable {g_length g_procs g_chans g_clock g_faults g_sealed : Int32} {g_nextTicket : Int64} {b_ops b_xs b_ys b_st b_prio b_pos b_ra b_rb b_rc b_words b_chan b_held b_named b_wake b_open b_guard b_timer b_chosen b_sent b_received b_sentFold b_receivedFold : Nat → Int32} {b_ticket : Nat → Int64}
theorem rl_in (H : rl_dy N C L B c ad f_running f_interrupted f_regA f_regB f_regC f_savedA f_savedB f_savedC f_timerHead a_states a_priorities a_pointers a_branches a_deadlines a_held a_readyLink a_timerLink a_head a_tail a_writers a_readers a_counters g_nextTicket b_pos b_ra b_rb b_rc b_chan b_held b_named b_wake b_open b_guard b_timer b_chosen b_ticket b_sent b_received b_sentFold b_receivedFold) : rl_R N C L B c ad f_sealed a_ops a_xs a_ys a_address a_bytes a_indexAt (f_unused, f_constant, f_word, f_target, f_channel, f_level, f_prefix, f_negate, f_operate, f_disableChannel, f_disableTimer, nI N, nI C, nI L, f_sealed, f_timerHead, f_running, f_interrupted, f_regA, f_regB, f_regC, f_savedA, f_savedB, f_savedC, f_operand, nI c, f_faults, a_ops, a_xs, a_ys, a_sizes, a_address, a_bytes, a_indexAt, a_locals, a_states, a_priorities, a_pointers, a_branches, a_deadlines, a_held, a_readyLink, a_timerLink, a_head, a_tail, a_writers, a_readers, a_counters) (nI L, nI N, nI C, nI c, f_faults, f_sealed, g_nextTicket, a_ops, a_xs, a_ys, a_states, a_priorities, b_pos, b_ra, b_rb, b_rc, a_locals, b_chan, b_held, b_named, b_wake, b_open, b_guard, b_timer, b_chosen, b_ticket, b_sent, b_received, b_sentFold, b_receivedFold) := ⟨⟨rfl, rfl, rfl, rfl, rfl, rfl, rfl, rfl, rfl, rfl, rfl, rfl, rfl, rfl, rfl, rfl, rfl, rfl, rfl, rfl, rfl, rfl, rfl⟩, H⟩
theorem jo_in (H : rl_dy N C L B c ad f_running f_interrupted f_regA f_regB f_regC f_savedA f_savedB f_savedC f_timerHead a_states a_priorities a_pointers a_branches a_deadlines a_held a_readyLink a_timerLink a_head a_tail a_writers a_readers a_counters g_nextTicket b_pos b_ra b_rb b_rc b_chan b_held b_named b_wake b_open b_guard b_timer b_chosen b_ticket b_sent b_received b_sentFold b_receivedFold) {WX : (SX → Prop) → Prop} {WY : (SY → Prop) → Prop} (hX : ∀ post : SX → Prop, post (f_unused, f_constant, f_word, f_target, f_channel, f_level, f_prefix, f_negate, f_operate, f_disableChannel, f_disableTimer, nI N, nI C, nI L, f_sealed, f_timerHead, f_running, f_interrupted, f_regA, f_regB, f_regC, f_savedA, f_savedB, f_savedC, f_operand, nI c, f_faults, a_ops, a_xs, a_ys, a_sizes, a_address, a_bytes, a_indexAt, a_locals, a_states, a_priorities, a_pointers, a_branches, a_deadlines, a_held, a_readyLink, a_timerLink, a_head, a_tail, a_writers, a_readers, a_counters) → WX post) (hY : ∀ post : SY → Prop, post (nI L, nI N, nI C, nI c, f_faults, f_sealed, g_nextTicket, a_ops, a_xs, a_ys, a_states, a_priorities, b_pos, b_ra, b_rb, b_rc, a_locals, b_chan, b_held, b_named, b_wake, b_open, b_guard, b_timer, b_chosen, b_ticket, b_sent, b_received, b_sentFold, b_receivedFold) → WY post) : jo_R N C L B c ad f_sealed a_ops a_xs a_ys a_address a_bytes a_indexAt WX WY := ⟨_, _, rl_in H, hX, hY⟩
end
theorem rl_out {N C L B c : Nat} {ad : Nat → Nat} {f_sealed : Int32} {a_ops a_xs a_ys a_address a_bytes a_indexAt : Nat → Int32} {u : SX} {v : SY} {P : SX → SY → Prop} (h : ∀ (f_unused : Int32) (f_constant : Int32) (f_word : Int32) (f_target : Int32) (f_channel : Int32) (f_level : Int32) (f_prefix : Int32) (f_negate : Int32) (f_operate : Int32) (f_disableChannel : Int32) (f_disableTimer : Int32) (f_timerHead : Int32) (f_running : Int32) (f_interrupted : Int32) (f_regA : Int32) (f_regB : Int32) (f_regC : Int32) (f_savedA : Int32) (f_savedB : Int32) (f_savedC : Int32) (f_operand : Int32) (f_faults : Int32) (a_sizes : Nat → Int32) (a_locals : Nat → Int32) (a_states : Nat → Int32) (a_priorities : Nat → Int32) (a_pointers : Nat → Int32) (a_branches : Nat → Int32) (a_deadlines : Nat → Int32) (a_held : Nat → Int32) (a_readyLink : Nat → Int32) (a_timerLink : Nat → Int32) (a_head : Nat → Int32) (a_tail : Nat → Int32) (a_writers : Nat → Int32) (a_readers : Nat → Int32) (a_counters : Nat → Int32) (g_nextTicket : Int64) (b_pos : Nat → Int32) (b_ra : Nat → Int32) (b_rb : Nat → Int32) (b_rc : Nat → Int32) (b_chan : Nat → Int32) (b_held : Nat → Int32) (b_named : Nat → Int32) (b_wake : Nat → Int32) (b_open : Nat → Int32) (b_guard : Nat → Int32) (b_timer : Nat → Int32) (b_chosen : Nat → Int32) (b_ticket : Nat → Int64) (b_sent : Nat → Int32) (b_received : Nat → Int32) (b_sentFold : Nat → Int32) (b_receivedFold : Nat → Int32), rl_dy N C L B c ad f_running f_interrupted f_regA f_regB f_regC f_savedA f_savedB f_savedC f_timerHead a_states a_priorities a_pointers a_branches a_deadlines a_held a_readyLink a_timerLink a_head a_tail a_writers a_readers a_counters g_nextTicket b_pos b_ra b_rb b_rc b_chan b_held b_named b_wake b_open b_guard b_timer b_chosen b_ticket b_sent b_received b_sentFold b_receivedFold → P (f_unused, f_constant, f_word, f_target, f_channel, f_level, f_prefix, f_negate, f_operate, f_disableChannel, f_disableTimer, nI N, nI C, nI L, f_sealed, f_timerHead, f_running, f_interrupted, f_regA, f_regB, f_regC, f_savedA, f_savedB, f_savedC, f_operand, nI c, f_faults, a_ops, a_xs, a_ys, a_sizes, a_address, a_bytes, a_indexAt, a_locals, a_states, a_priorities, a_pointers, a_branches, a_deadlines, a_held, a_readyLink, a_timerLink, a_head, a_tail, a_writers, a_readers, a_counters) (nI L, nI N, nI C, nI c, f_faults, f_sealed, g_nextTicket, a_ops, a_xs, a_ys, a_states, a_priorities, b_pos, b_ra, b_rb, b_rc, a_locals, b_chan, b_held, b_named, b_wake, b_open, b_guard, b_timer, b_chosen, b_ticket, b_sent, b_received, b_sentFold, b_receivedFold)) (I : rl_R N C L B c ad f_sealed a_ops a_xs a_ys a_address a_bytes a_indexAt u v) : P u v := by
  obtain ⟨f_unused, f_constant, f_word, f_target, f_channel, f_level, f_prefix, f_negate, f_operate, f_disableChannel, f_disableTimer, f_processCount, f_channelCount, f_length, x_sealed, f_timerHead, f_running, f_interrupted, f_regA, f_regB, f_regC, f_savedA, f_savedB, f_savedC, f_operand, f_clock, f_faults, x_ops, x_xs, x_ys, a_sizes, x_address, x_bytes, x_indexAt, a_locals, a_states, a_priorities, a_pointers, a_branches, a_deadlines, a_held, a_readyLink, a_timerLink, a_head, a_tail, a_writers, a_readers, a_counters⟩ := u
  obtain ⟨g_length, g_procs, g_chans, g_clock, g_faults, g_sealed, g_nextTicket, b_ops, b_xs, b_ys, b_st, b_prio, b_pos, b_ra, b_rb, b_rc, b_words, b_chan, b_held, b_named, b_wake, b_open, b_guard, b_timer, b_chosen, b_ticket, b_sent, b_received, b_sentFold, b_receivedFold⟩ := v
  obtain ⟨⟨rfl, rfl, rfl, rfl, rfl, rfl, rfl, rfl, rfl, rfl, rfl, rfl, rfl, rfl, rfl, rfl, rfl, rfl, rfl, rfl, rfl, rfl, rfl⟩, H⟩ := I
  exact h _ _ _ _ _ _ _ _ _ _ _ _ _ _ _ _ _ _ _ _ _ _ _ _ _ _ _ _ _ _ _ _ _ _ _ _ _ _ _ _ _ _ _ _ _ _ _ _ _ _ _ _ _ _ _ H
end
section
/-! channels, places, alternations, held words, counts: how they last -/
section
variable {N C L : Nat} {ad : Nat → Nat} {st cn op gd wr rd pos ptr cs br tm wk dl hx hy nm ct se re sf rf : Nat → Int32} {st' cn' op' cs' br' tm' wk' dl' hx' hy' nm' : Nat → Int32}
theorem if_ff {a b : Prop} (ha : ¬ a) (hb : ¬ b) : a ↔ b := ⟨fun z => absurd z ha, fun z => absurd z hb⟩
theorem ch_st {q : Nat} {s : Int32} (h4 : st q ≠ 4) (h5 : st q ≠ 5) (s4 : s ≠ 4) (s5 : s ≠ 5) (H : rl_ch N C st cn op gd wr rd) : rl_ch N C (upd st q s) cn op gd wr rd := fun c hc =>
  ⟨ow_congr (H c hc).1 (fun _ _ => and_congr (ba_st h4 s4) Iff.rfl), ow_congr (H c hc).2 (fun _ _ => or_congr (and_congr (ba_st h5 s5) Iff.rfl) Iff.rfl)⟩
theorem ch_ne {c c0 : Nat} (hC : C ≤ 8) (hc : c < C) (h0 : c0 < C) (e : c ≠ c0) : ¬ nI c0 = nI c := fun z => e (ba_i8 (by omega) (by omega) z).symm
theorem ch_send {r c0 : Nat} (hC : C ≤ 8) (hN : N ≤ 8) (hr : r < N) (h0 : c0 < C) (g : st r = 1) (hw : wr c0 < 0) (H : rl_ch N C st cn op gd wr rd) : rl_ch N C (upd st r 4) (upd cn r (nI c0)) op gd (upd wr c0 (nI r)) rd := by
  intro c hc
  have n4 : ¬ st r = 4 := by rw [g]; decide
  have n5 : ¬ st r = 5 := by rw [g]; decide
  constructor
  · by_cases e : c = c0
    · subst e
      rw [pk_us]
      refine ow_one hr ⟨pk_us, pk_us⟩ (fun p hp z => ?_)
      by_cases ep : p = r
      · exact ep
      · have z2 : upd st r 4 p = 4 ∧ upd cn r (nI c) p = nI c := z
        rw [pk_un ep, pk_un ep] at z2
        exact absurd z2 ((ow_neg hN (H c hc).1 hw).2 p hp)
    · rw [pk_un e]
      refine ow_congr (H c hc).1 (fun p hp => ?_)
      show (upd st r 4 p = 4 ∧ upd cn r (nI c0) p = nI c) ↔ (st p = 4 ∧ cn p = nI c)
      by_cases ep : p = r
      · subst ep
        rw [pk_us, pk_us]
        exact if_ff (fun z => ch_ne hC hc h0 e z.2) (fun z => n4 z.1)
      · rw [pk_un ep, pk_un ep]
  · refine ow_congr (H c hc).2 (fun p hp => or_congr ?_ Iff.rfl)
    by_cases ep : p = r
    · subst ep
      rw [pk_us, pk_us]
      exact if_ff (fun z => absurd z.1 (by decide)) (fun z => n5 z.1)
    · rw [pk_un ep, pk_un ep]
theorem ch_recv {r c0 : Nat} (hC : C ≤ 8) (hN : N ≤ 8) (hr : r < N) (h0 : c0 < C) (g : st r = 1) (ho : op r = 0) (hw : rd c0 < 0) (H : rl_ch N C st cn op gd wr rd) : rl_ch N C (upd st r 5) (upd cn r (nI c0)) op gd wr (upd rd c0 (nI r)) := by
  intro c hc
  have n4 : ¬ st r = 4 := by rw [g]; decide
  have n5 : ¬ st r = 5 := by rw [g]; decide
  constructor
  · refine ow_congr (H c hc).1 (fun p hp => ?_)
    show (upd st r 5 p = 4 ∧ upd cn r (nI c0) p = nI c) ↔ (st p = 4 ∧ cn p = nI c)
    by_cases ep : p = r
    · subst ep
      rw [pk_us, pk_us]
      exact if_ff (fun z => absurd z.1 (by decide)) (fun z => n4 z.1)
    · rw [pk_un ep, pk_un ep]
  · by_cases e : c = c0
    · subst e
      rw [pk_us]
      refine ow_one hr (Or.inl ⟨pk_us, pk_us⟩) (fun p hp z => ?_)
      by_cases ep : p = r
      · exact ep
      · have z2 : (upd st r 5 p = 5 ∧ upd cn r (nI c) p = nI c) ∨ (op p ≠ 0 ∧ gd (p * 8 + c) ≠ 0) := z
        rw [pk_un ep, pk_un ep] at z2
        exact absurd z2 ((ow_neg hN (H c hc).2 hw).2 p hp)
    · rw [pk_un e]
      refine ow_congr (H c hc).2 (fun p hp => ?_)
      show ((upd st r 5 p = 5 ∧ upd cn r (nI c0) p = nI c) ∨ (op p ≠ 0 ∧ gd (p * 8 + c) ≠ 0)) ↔ ((st p = 5 ∧ cn p = nI c) ∨ (op p ≠ 0 ∧ gd (p * 8 + c) ≠ 0))
      by_cases ep : p = r
      · subst ep
        rw [pk_us, pk_us]
        exact or_congr (if_ff (fun z => ch_ne hC hc h0 e z.2) (fun z => n5 z.1)) Iff.rfl
      · rw [pk_un ep, pk_un ep]
/-- a receiver is served -/
theorem ch_wake {o c0 : Nat} (hC : C ≤ 8) (hN : N ≤ 8) (hr : o < N) (h0 : c0 < C) (g : st o = 5) (gc : cn o = nI c0) (ho : op o = 0) (H : rl_ch N C st cn op gd wr rd) : rl_ch N C (upd st o 3) cn op gd wr (upd rd c0 (-1)) := by
  intro c hc
  have n4 : st o ≠ 4 := by rw [g]; decide
  refine ⟨ow_congr (H c hc).1 (fun _ _ => and_congr (ba_st n4 (by decide)) Iff.rfl), ?_⟩
  by_cases e : c = c0
  · subst e
    rw [pk_us]
    refine ow_none (fun p hp z => ?_)
    have z2 : (upd st o 3 p = 5 ∧ cn p = nI c) ∨ (op p ≠ 0 ∧ gd (p * 8 + c) ≠ 0) := z
    by_cases ep : p = o
    · subst ep
      rw [pk_us] at z2
      rcases z2 with z2 | z2
      · exact absurd z2.1 (by decide)
      · exact z2.1 ho
    · rw [pk_un ep] at z2
      exact ep (ow_un (H c hc).2 hp hr z2 (Or.inl ⟨g, gc⟩))
  · rw [pk_un e]
    refine ow_congr (H c hc).2 (fun p hp => ?_)
    show ((upd st o 3 p = 5 ∧ cn p = nI c) ∨ (op p ≠ 0 ∧ gd (p * 8 + c) ≠ 0)) ↔ ((st p = 5 ∧ cn p = nI c) ∨ (op p ≠ 0 ∧ gd (p * 8 + c) ≠ 0))
    by_cases ep : p = o
    · subst ep
      rw [pk_us]
      refine or_congr (if_ff (fun z => absurd z.1 (by decide)) (fun z => ?_)) Iff.rfl
      rw [gc] at z
      exact ch_ne hC hc h0 e z.2
    · rw [pk_un ep]
/-- a sender is served -/
theorem ch_wakew {o c0 : Nat} (hC : C ≤ 8) (hN : N ≤ 8) (hr : o < N) (h0 : c0 < C) (g : st o = 4) (gc : cn o = nI c0) (H : rl_ch N C st cn op gd wr rd) : rl_ch N C (upd st o 3) cn op gd (upd wr c0 (-1)) rd := by
  intro c hc
  have n5 : st o ≠ 5 := by rw [g]; decide
  refine ⟨?_, ow_congr (H c hc).2 (fun _ _ => or_congr (and_congr (ba_st n5 (by decide)) Iff.rfl) Iff.rfl)⟩
  by_cases e : c = c0
  · subst e
    rw [pk_us]
    refine ow_none (fun p hp z => ?_)
    have z2 : upd st o 3 p = 4 ∧ cn p = nI c := z
    by_cases ep : p = o
    · subst ep
      rw [pk_us] at z2
      exact absurd z2.1 (by decide)
    · rw [pk_un ep] at z2
      exact ep (ow_un (H c hc).1 hp hr z2 ⟨g, gc⟩)
  · rw [pk_un e]
    refine ow_congr (H c hc).1 (fun p hp => ?_)
    show (upd st o 3 p = 4 ∧ cn p = nI c) ↔ (st p = 4 ∧ cn p = nI c)
    by_cases ep : p = o
    · subst ep
      rw [pk_us]
      refine if_ff (fun z => absurd z.1 (by decide)) (fun z => ?_)
      rw [gc] at z
      exact ch_ne hC hc h0 e z.2
    · rw [pk_un ep]
theorem ch_cell {p r c c0 : Nat} {x : Int32} (hc : c < 8) (h0 : c0 < 8) (h : p ≠ r ∨ c ≠ c0) : upd gd (r * 8 + c0) x (p * 8 + c) = gd (p * 8 + c) := pk_un (by omega)
theorem ch_enb {r c0 : Nat} (hC : C ≤ 8) (hN : N ≤ 8) (hr : r < N) (h0 : c0 < C) (ho : op r ≠ 0) (hw : rd c0 < 0 ∨ rd c0 = nI r) (H : rl_ch N C st cn op gd wr rd) : rl_ch N C st cn op (upd gd (r * 8 + c0) 1) wr (upd rd c0 (nI r)) := by
  intro c hc
  refine ⟨(H c hc).1, ?_⟩
  by_cases e : c = c0
  · subst e
    rw [pk_us]
    refine ow_one hr (Or.inr ⟨ho, by rw [pk_us]; decide⟩) (fun p hp z => ?_)
    by_cases ep : p = r
    · exact ep
    · have z2 : (st p = 5 ∧ cn p = nI c) ∨ (op p ≠ 0 ∧ upd gd (r * 8 + c) 1 (p * 8 + c) ≠ 0) := z
      rw [ch_cell (by omega) (by omega) (Or.inl ep)] at z2
      rcases hw with hw | hw
      · exact absurd z2 ((ow_neg hN (H c hc).2 hw).2 p hp)
      · have h := (H c hc).2
        rw [hw] at h
        exact (ow_at hN (by omega) h).2.2 p hp z2
  · rw [pk_un e]
    refine ow_congr (H c hc).2 (fun p hp => ?_)
    show ((st p = 5 ∧ cn p = nI c) ∨ (op p ≠ 0 ∧ upd gd (r * 8 + c0) 1 (p * 8 + c) ≠ 0)) ↔ ((st p = 5 ∧ cn p = nI c) ∨ (op p ≠ 0 ∧ gd (p * 8 + c) ≠ 0))
    rw [ch_cell (by omega) (by omega) (Or.inr e)]
theorem ch_dis {r c0 : Nat} (hC : C ≤ 8) (hN : N ≤ 8) (hr : r < N) (h0 : c0 < C) (g : st r = 1) (hw : rd c0 = nI r) (H : rl_ch N C st cn op gd wr rd) : rl_ch N C st cn op (upd gd (r * 8 + c0) 0) wr (upd rd c0 (-1)) := by
  intro c hc
  refine ⟨(H c hc).1, ?_⟩
  by_cases e : c = c0
  · subst e
    rw [pk_us]
    have h := (H c hc).2
    rw [hw] at h
    refine ow_none (fun p hp z => ?_)
    have z2 : (st p = 5 ∧ cn p = nI c) ∨ (op p ≠ 0 ∧ upd gd (r * 8 + c) 0 (p * 8 + c) ≠ 0) := z
    by_cases ep : p = r
    · subst ep
      rw [pk_us, g] at z2
      rcases z2 with z2 | z2
      · exact absurd z2.1 (by decide)
      · exact z2.2 rfl
    · rw [ch_cell (by omega) (by omega) (Or.inl ep)] at z2
      exact ep ((ow_at hN (by omega) h).2.2 p hp z2)
  · rw [pk_un e]
    refine ow_congr (H c hc).2 (fun p hp => ?_)
    show ((st p = 5 ∧ cn p = nI c) ∨ (op p ≠ 0 ∧ upd gd (r * 8 + c0) 0 (p * 8 + c) ≠ 0)) ↔ ((st p = 5 ∧ cn p = nI c) ∨ (op p ≠ 0 ∧ gd (p * 8 + c) ≠ 0))
    rw [ch_cell (by omega) (by omega) (Or.inr e)]
/-- a process without guards opens, or keeps closed, its alternation -/
theorem ch_op {q : Nat} {x : Int32} (hC : C ≤ 8) (g : st q ≠ 5) (ho : op q = 0) (H : rl_ch N C st cn op gd wr rd) : rl_ch N C st cn (upd op q x) (zr_f q 8 gd) wr rd := by
  intro c hc
  refine ⟨(H c hc).1, ow_congr (H c hc).2 (fun p hp => ?_)⟩
  show ((st p = 5 ∧ cn p = nI c) ∨ (upd op q x p ≠ 0 ∧ zr_f q 8 gd (p * 8 + c) ≠ 0)) ↔ ((st p = 5 ∧ cn p = nI c) ∨ (op p ≠ 0 ∧ gd (p * 8 + c) ≠ 0))
  refine or_congr Iff.rfl ?_
  by_cases ep : p = q
  · subst ep
    rw [zr_in (by omega)]
    exact if_ff (fun z => z.2 rfl) (fun z => z.1 ho)
  · rw [pk_un ep, zr_out (by omega) ep]
/-- all guards of the running process are removed -/
theorem ch_close {r : Nat} (hC : C ≤ 8) (hN : N ≤ 8) (hr : r < N) (g : st r = 1) (H : rl_ch N C st cn op gd wr rd) : rl_ch N C st cn (upd op r 0) (zr_f r 8 gd) wr (rd_f r C rd) := by
  intro c hc
  refine ⟨(H c hc).1, ?_⟩
  have h := (H c hc).2
  have self : ¬ ((st r = 5 ∧ cn r = nI c) ∨ (upd op r 0 r ≠ 0 ∧ zr_f r 8 gd (r * 8 + c) ≠ 0)) := by
    rw [pk_us, g]
    rintro (z | z)
    · exact absurd z.1 (by decide)
    · exact z.1 rfl
  by_cases e : rd c = nI r
  · have e2 : rd_f r C rd c = -1 := if_pos ⟨hc, e⟩
    rw [e2]
    rw [e] at h
    refine ow_none (fun p hp z => ?_)
    by_cases ep : p = r
    · subst ep
      exact self z
    · have z2 : (st p = 5 ∧ cn p = nI c) ∨ (upd op r 0 p ≠ 0 ∧ zr_f r 8 gd (p * 8 + c) ≠ 0) := z
      rw [pk_un ep, zr_out (by omega) ep] at z2
      exact ep ((ow_at hN (by omega) h).2.2 p hp z2)
  · have e2 : rd_f r C rd c = rd c := if_neg (fun z => e z.2)
    rw [e2]
    refine ow_congr h (fun p hp => ?_)
    show ((st p = 5 ∧ cn p = nI c) ∨ (upd op r 0 p ≠ 0 ∧ zr_f r 8 gd (p * 8 + c) ≠ 0)) ↔ ((st p = 5 ∧ cn p = nI c) ∨ (op p ≠ 0 ∧ gd (p * 8 + c) ≠ 0))
    by_cases ep : p = r
    · subst ep
      exact if_ff self (fun z => e (ow_is h hr z))
    · rw [pk_un ep, zr_out (by omega) ep]
/-! places -/
theorem po_st (h : ∀ p, p < N → st' p ≠ 0 → st p ≠ 0) (H : rl_po N L ad st pos ptr) : rl_po N L ad st' pos ptr := fun p hp z => H p hp (h p hp z)
theorem po_s1 {q : Nat} {s : Int32} (h : st q ≠ 0) (H : rl_po N L ad st pos ptr) : rl_po N L ad (upd st q s) pos ptr := po_st (fun p _ z => by
  by_cases e : p = q
  · rw [e]; exact h
  · rw [pk_un e] at z; exact z) H
theorem po_set {r i : Nat} (hi : i < L) (H : rl_po N L ad st pos ptr) : rl_po N L ad st (upd pos r (nI i)) (upd ptr r (nI (ad i))) := fun p hp z => by
  by_cases e : p = r
  · subst e
    exact ⟨i, hi, pk_us, pk_us⟩
  · rw [pk_un e, pk_un e]
    exact H p hp z
theorem po_new {q i : Nat} {s : Int32} (hi : i < L) (H : rl_po N L ad st pos ptr) : rl_po N L ad (upd st q s) (upd pos q (nI i)) (upd ptr q (nI (ad i))) := fun p hp z => by
  by_cases e : p = q
  · subst e
    exact ⟨i, hi, pk_us, pk_us⟩
  · rw [pk_un e] at z
    rw [pk_un e, pk_un e]
    exact H p hp z
theorem po_end {r : Nat} {x y : Int32} (H : rl_po N L ad st pos ptr) : rl_po N L ad (upd st r 0) (upd pos r x) (upd ptr r y) := fun p hp z => by
  by_cases e : p = r
  · subst e
    exact absurd pk_us z
  · rw [pk_un e] at z
    rw [pk_un e, pk_un e]
    exact H p hp z
/-! alternations, held words: one process changes -/
theorem al_pt {r : Nat} (H : rl_al N L ad st op cs br tm wk dl) (e : ∀ p, p ≠ r → st' p = st p ∧ op' p = op p ∧ cs' p = cs p ∧ br' p = br p ∧ tm' p = tm p ∧ wk' p = wk p ∧ dl' p = dl p) (h : rl_a1 L ad (st' r) (op' r) (cs' r) (br' r) (tm' r) (wk' r) (dl' r)) : rl_al N L ad st' op' cs' br' tm' wk' dl' := fun p hp => by
  by_cases z : p = r
  · rw [z]; exact h
  · obtain ⟨e1, e2, e3, e4, e5, e6, e7⟩ := e p z
    rw [e1, e2, e3, e4, e5, e6, e7]
    exact H p hp
theorem he_pt {r : Nat} (H : rl_he N C st cn hx hy nm) (e : ∀ p, p ≠ r → st' p = st p ∧ cn' p = cn p ∧ hx' p = hx p ∧ hy' p = hy p ∧ nm' p = nm p) (h : rl_h1 C (st' r) (cn' r) (hx' r) (hy' r) (nm' r)) : rl_he N C st' cn' hx' hy' nm' := fun p hp => by
  by_cases z : p = r
  · rw [z]; exact h
  · obtain ⟨e1, e2, e3, e4, e5⟩ := e p z
    rw [e1, e2, e3, e4, e5]
    exact H p hp
theorem he_no {s x y z w : Int32} (h4 : s ≠ 4) (h5 : s ≠ 5) : rl_h1 C s x y z w := ⟨fun h => absurd h h4, fun h => absurd h h5⟩
theorem he_st {q : Nat} {s : Int32} (h4 : s ≠ 4) (h5 : s ≠ 5) (H : rl_he N C st cn hx hy nm) : rl_he N C (upd st q s) cn hx hy nm := he_pt (r := q) H (fun p hp => ⟨pk_un hp, rfl, rfl, rfl, rfl⟩) (by rw [pk_us]; exact he_no h4 h5)
theorem al_st {q : Nat} {s : Int32} (H : rl_al N L ad st op cs br tm wk dl) (h : rl_a1 L ad s (op q) (cs q) (br q) (tm q) (wk q) (dl q)) : rl_al N L ad (upd st q s) op cs br tm wk dl := al_pt (r := q) H (fun p hp => ⟨pk_un hp, rfl, rfl, rfl, rfl, rfl, rfl⟩) (by rw [pk_us]; exact h)
/-- a process with its alternation closed, in another state that waits for no time -/
theorem al_shut {s s' o x b t w d : Int32} (ho : o = 0) (h6 : s ≠ 6) (s6 : s' ≠ 6) (s7 : s' ≠ 7) (h : rl_a1 L ad s o x b t w d) : rl_a1 L ad s' o x b t w d := by
  rcases h with ⟨h1, h2, h3, h4, h5⟩ | ⟨h1, _⟩
  · exact Or.inl ⟨h1, h2, s7, fun z => absurd z s6, fun _ => h5 h6⟩
  · rw [ho] at h1
    exact absurd h1 (by decide)
theorem al_run {s s' o x b t w d : Int32} (h6 : s ≠ 6) (hs : s' = 1 ∨ s' = 2 ∨ s' = 3) (h : rl_a1 L ad s o x b t w d) : rl_a1 L ad s' o x b t w d := by
  rcases h with ⟨h1, h2, h3, h4, h5⟩ | ⟨h1, h2, h3⟩
  · refine Or.inl ⟨h1, h2, ?_, fun z => ?_, fun _ => h5 h6⟩
    · rcases hs with e | e | e <;> (rw [e]; decide)
    · rw [z] at hs
      exact absurd hs (by decide)
  · refine Or.inr ⟨h1, ?_, h3⟩
    rcases hs with e | e | e
    · exact Or.inl e
    · exact Or.inr (Or.inl e)
    · exact Or.inr (Or.inr (Or.inl e))
/-- shut for states outside running, interrupted, ready, choosing -/
theorem al_shut0 {s o x b t w d : Int32} (h1 : s ≠ 1) (h2 : s ≠ 2) (h3 : s ≠ 3) (h7 : s ≠ 7) (h : rl_a1 L ad s o x b t w d) : o = 0 := by
  rcases h with ⟨h, _⟩ | ⟨_, h, _⟩
  · exact h
  · rcases h with e | e | e | e
    · exact absurd e h1
    · exact absurd e h2
    · exact absurd e h3
    · exact absurd e h7
theorem al_br {s o x b t w d : Int32} (had : ∀ i, i < L → ad i < 2 ^ 31) (h : rl_a1 L ad s o x b t w d) : (b = -2 ∧ o = 0) ∨ (¬ b = -2 ∧ o = 1) := by
  rcases h with ⟨h1, h2, _⟩ | ⟨h1, _, _, _, h⟩
  · exact Or.inl ⟨h2, h1⟩
  · refine Or.inr ⟨?_, h1⟩
    rcases h with ⟨_, e⟩ | ⟨i, hi, _, e⟩
    · rw [e]; decide
    · rw [e]
      exact ba_m2 (had i hi)
/-! counts -/
def cs_f (k : Nat) (v : Int32) (f : Nat → Int32) : Nat → Int32 := upd (upd f k (f k + 1)) (k + 2) (upd f k (f k + 1) (k + 2) * 31 + v)
theorem co_sent {c0 : Nat} {v : Int32} (H : rl_co C ct se re sf rf) : rl_co C (cs_f (c0 * 4) v ct) (upd se c0 (se c0 + 1)) re (upd sf c0 (sf c0 * 31 + v)) rf := fun c hc => by
  have h := H c hc
  unfold cs_f
  by_cases e : c = c0
  · subst e
    rw [pk_us, pk_us, pk_un (show c * 4 ≠ c * 4 + 2 by omega), pk_us, pk_us, pk_un (show c * 4 + 2 ≠ c * 4 by omega), pk_un (show c * 4 + 1 ≠ c * 4 + 2 by omega), pk_un (show c * 4 + 1 ≠ c * 4 by omega), pk_un (show c * 4 + 3 ≠ c * 4 + 2 by omega), pk_un (show c * 4 + 3 ≠ c * 4 by omega), h.1, h.2.2.1]
    exact ⟨rfl, h.2.1, rfl, h.2.2.2⟩
  · rw [pk_un e, pk_un e, pk_un (show c * 4 ≠ c0 * 4 + 2 by omega), pk_un (show c * 4 ≠ c0 * 4 by omega), pk_un (show c * 4 + 1 ≠ c0 * 4 + 2 by omega), pk_un (show c * 4 + 1 ≠ c0 * 4 by omega), pk_un (show c * 4 + 2 ≠ c0 * 4 + 2 by omega), pk_un (show c * 4 + 2 ≠ c0 * 4 by omega), pk_un (show c * 4 + 3 ≠ c0 * 4 + 2 by omega), pk_un (show c * 4 + 3 ≠ c0 * 4 by omega)]
    exact h
theorem co_recv {c0 : Nat} {v : Int32} (H : rl_co C ct se re sf rf) : rl_co C (cs_f (c0 * 4 + 1) v ct) se (upd re c0 (re c0 + 1)) sf (upd rf c0 (rf c0 * 31 + v)) := fun c hc => by
  have h := H c hc
  unfold cs_f
  by_cases e : c = c0
  · subst e
    rw [pk_us, pk_us, pk_un (show c * 4 ≠ c * 4 + 1 + 2 by omega), pk_un (show c * 4 ≠ c * 4 + 1 by omega), pk_un (show c * 4 + 1 ≠ c * 4 + 1 + 2 by omega), pk_us, pk_un (show c * 4 + 2 ≠ c * 4 + 1 + 2 by omega), pk_un (show c * 4 + 2 ≠ c * 4 + 1 by omega), show c * 4 + 3 = c * 4 + 1 + 2 from rfl, pk_us, pk_un (show c * 4 + 1 + 2 ≠ c * 4 + 1 by omega), h.2.1]
    exact ⟨h.1, rfl, h.2.2.1, by rw [show c * 4 + 1 + 2 = c * 4 + 3 from rfl, h.2.2.2]⟩
  · rw [pk_un e, pk_un e, pk_un (show c * 4 ≠ c0 * 4 + 1 + 2 by omega), pk_un (show c * 4 ≠ c0 * 4 + 1 by omega), pk_un (show c * 4 + 1 ≠ c0 * 4 + 1 + 2 by omega), pk_un (show c * 4 + 1 ≠ c0 * 4 + 1 by omega), pk_un (show c * 4 + 2 ≠ c0 * 4 + 1 + 2 by omega), pk_un (show c * 4 + 2 ≠ c0 * 4 + 1 by omega), pk_un (show c * 4 + 3 ≠ c0 * 4 + 1 + 2 by omega), pk_un (show c * 4 + 3 ≠ c0 * 4 + 1 by omega)]
    exact h
end
end
section
/-! the reference's rows of questions, passed by -/
section
variable {g_length g_procs g_chans g_clock g_faults g_sealed : Int32} {g_nextTicket : Int64} {b_ops b_xs b_ys b_st b_prio b_pos b_ra b_rb b_rc b_words b_chan b_held b_named b_wake b_open b_guard b_timer b_chosen b_sent b_received b_sentFold b_receivedFold : Nat → Int32} {b_ticket : Nat → Int64}
variable {post : SY → Prop} {x1 x2 x3 x4 : Int32}
theorem yq_281 (h : ¬ x2 = 13) (K : post (g_length, g_procs, g_chans, g_clock, g_faults, g_sealed, g_nextTicket, b_ops, b_xs, b_ys, b_st, b_prio, b_pos, b_ra, b_rb, b_rc, b_words, b_chan, b_held, b_named, b_wake, b_open, b_guard, b_timer, b_chosen, b_ticket, b_sent, b_received, b_sentFold, b_receivedFold)) : wY_plain_281 post x1 x2 g_length g_procs g_chans g_clock g_faults g_sealed g_nextTicket b_ops b_xs b_ys b_st b_prio b_pos b_ra b_rb b_rc b_words b_chan b_held b_named b_wake b_open b_guard b_timer b_chosen b_ticket b_sent b_received b_sentFold b_receivedFold := br_f h K
theorem yq_266 (h : ¬ x2 = 12 ∧ ¬ x2 = 13) (K : post (g_length, g_procs, g_chans, g_clock, g_faults, g_sealed, g_nextTicket, b_ops, b_xs, b_ys, b_st, b_prio, b_pos, b_ra, b_rb, b_rc, b_words, b_chan, b_held, b_named, b_wake, b_open, b_guard, b_timer, b_chosen, b_ticket, b_sent, b_received, b_sentFold, b_receivedFold)) : wY_plain_266 post x1 x2 g_length g_procs g_chans g_clock g_faults g_sealed g_nextTicket b_ops b_xs b_ys b_st b_prio b_pos b_ra b_rb b_rc b_words b_chan b_held b_named b_wake b_open b_guard b_timer b_chosen b_ticket b_sent b_received b_sentFold b_receivedFold := br_f h.1 (yq_281 h.2 K)
theorem yq_255 (h : ¬ x2 = 9 ∧ ¬ x2 = 12 ∧ ¬ x2 = 13) (K : post (g_length, g_procs, g_chans, g_clock, g_faults, g_sealed, g_nextTicket, b_ops, b_xs, b_ys, b_st, b_prio, b_pos, b_ra, b_rb, b_rc, b_words, b_chan, b_held, b_named, b_wake, b_open, b_guard, b_timer, b_chosen, b_ticket, b_sent, b_received, b_sentFold, b_receivedFold)) : wY_plain_255 post x1 x2 g_length g_procs g_chans g_clock g_faults g_sealed g_nextTicket b_ops b_xs b_ys b_st b_prio b_pos b_ra b_rb b_rc b_words b_chan b_held b_named b_wake b_open b_guard b_timer b_chosen b_ticket b_sent b_received b_sentFold b_receivedFold := br_f h.1 (yq_266 h.2 K)
theorem yq_226 (h : ¬ x2 = 8 ∧ ¬ x2 = 9 ∧ ¬ x2 = 12 ∧ ¬ x2 = 13) (K : post (g_length, g_procs, g_chans, g_clock, g_faults, g_sealed, g_nextTicket, b_ops, b_xs, b_ys, b_st, b_prio, b_pos, b_ra, b_rb, b_rc, b_words, b_chan, b_held, b_named, b_wake, b_open, b_guard, b_timer, b_chosen, b_ticket, b_sent, b_received, b_sentFold, b_receivedFold)) : wY_plain_226 post x1 x2 x3 x4 g_length g_procs g_chans g_clock g_faults g_sealed g_nextTicket b_ops b_xs b_ys b_st b_prio b_pos b_ra b_rb b_rc b_words b_chan b_held b_named b_wake b_open b_guard b_timer b_chosen b_ticket b_sent b_received b_sentFold b_receivedFold := br_f h.1 (yq_255 h.2 K)
theorem yq_196 (h : ¬ x2 = 7 ∧ ¬ x2 = 8 ∧ ¬ x2 = 9 ∧ ¬ x2 = 12 ∧ ¬ x2 = 13) (K : post (g_length, g_procs, g_chans, g_clock, g_faults, g_sealed, g_nextTicket, b_ops, b_xs, b_ys, b_st, b_prio, b_pos, b_ra, b_rb, b_rc, b_words, b_chan, b_held, b_named, b_wake, b_open, b_guard, b_timer, b_chosen, b_ticket, b_sent, b_received, b_sentFold, b_receivedFold)) : wY_plain_196 post x1 x2 x3 x4 g_length g_procs g_chans g_clock g_faults g_sealed g_nextTicket b_ops b_xs b_ys b_st b_prio b_pos b_ra b_rb b_rc b_words b_chan b_held b_named b_wake b_open b_guard b_timer b_chosen b_ticket b_sent b_received b_sentFold b_receivedFold := br_f h.1 (yq_226 h.2 K)
theorem yq_163 (h : ¬ x2 = 6 ∧ ¬ x2 = 7 ∧ ¬ x2 = 8 ∧ ¬ x2 = 9 ∧ ¬ x2 = 12 ∧ ¬ x2 = 13) (K : post (g_length, g_procs, g_chans, g_clock, g_faults, g_sealed, g_nextTicket, b_ops, b_xs, b_ys, b_st, b_prio, b_pos, b_ra, b_rb, b_rc, b_words, b_chan, b_held, b_named, b_wake, b_open, b_guard, b_timer, b_chosen, b_ticket, b_sent, b_received, b_sentFold, b_receivedFold)) : wY_plain_163 post x1 x2 x3 x4 g_length g_procs g_chans g_clock g_faults g_sealed g_nextTicket b_ops b_xs b_ys b_st b_prio b_pos b_ra b_rb b_rc b_words b_chan b_held b_named b_wake b_open b_guard b_timer b_chosen b_ticket b_sent b_received b_sentFold b_receivedFold := br_f h.1 (yq_196 h.2 K)
theorem yq_120 (h : ¬ x2 = 5 ∧ ¬ x2 = 6 ∧ ¬ x2 = 7 ∧ ¬ x2 = 8 ∧ ¬ x2 = 9 ∧ ¬ x2 = 12 ∧ ¬ x2 = 13) (K : post (g_length, g_procs, g_chans, g_clock, g_faults, g_sealed, g_nextTicket, b_ops, b_xs, b_ys, b_st, b_prio, b_pos, b_ra, b_rb, b_rc, b_words, b_chan, b_held, b_named, b_wake, b_open, b_guard, b_timer, b_chosen, b_ticket, b_sent, b_received, b_sentFold, b_receivedFold)) : wY_plain_120 post x1 x2 x3 x4 g_length g_procs g_chans g_clock g_faults g_sealed g_nextTicket b_ops b_xs b_ys b_st b_prio b_pos b_ra b_rb b_rc b_words b_chan b_held b_named b_wake b_open b_guard b_timer b_chosen b_ticket b_sent b_received b_sentFold b_receivedFold := br_f h.1 (yq_163 h.2 K)
theorem yq_77 (h : ¬ x2 = 4 ∧ ¬ x2 = 5 ∧ ¬ x2 = 6 ∧ ¬ x2 = 7 ∧ ¬ x2 = 8 ∧ ¬ x2 = 9 ∧ ¬ x2 = 12 ∧ ¬ x2 = 13) (K : post (g_length, g_procs, g_chans, g_clock, g_faults, g_sealed, g_nextTicket, b_ops, b_xs, b_ys, b_st, b_prio, b_pos, b_ra, b_rb, b_rc, b_words, b_chan, b_held, b_named, b_wake, b_open, b_guard, b_timer, b_chosen, b_ticket, b_sent, b_received, b_sentFold, b_receivedFold)) : wY_plain_77 post x1 x2 x3 x4 g_length g_procs g_chans g_clock g_faults g_sealed g_nextTicket b_ops b_xs b_ys b_st b_prio b_pos b_ra b_rb b_rc b_words b_chan b_held b_named b_wake b_open b_guard b_timer b_chosen b_ticket b_sent b_received b_sentFold b_receivedFold := br_f h.1 (yq_120 h.2 K)
theorem yq_58 (h : ¬ x2 = 3 ∧ ¬ x2 = 4 ∧ ¬ x2 = 5 ∧ ¬ x2 = 6 ∧ ¬ x2 = 7 ∧ ¬ x2 = 8 ∧ ¬ x2 = 9 ∧ ¬ x2 = 12 ∧ ¬ x2 = 13) (K : post (g_length, g_procs, g_chans, g_clock, g_faults, g_sealed, g_nextTicket, b_ops, b_xs, b_ys, b_st, b_prio, b_pos, b_ra, b_rb, b_rc, b_words, b_chan, b_held, b_named, b_wake, b_open, b_guard, b_timer, b_chosen, b_ticket, b_sent, b_received, b_sentFold, b_receivedFold)) : wY_plain_58 post x1 x2 x3 x4 g_length g_procs g_chans g_clock g_faults g_sealed g_nextTicket b_ops b_xs b_ys b_st b_prio b_pos b_ra b_rb b_rc b_words b_chan b_held b_named b_wake b_open b_guard b_timer b_chosen b_ticket b_sent b_received b_sentFold b_receivedFold := br_f h.1 (yq_77 h.2 K)
theorem yq_31 (h : ¬ x2 = 2 ∧ ¬ x2 = 3 ∧ ¬ x2 = 4 ∧ ¬ x2 = 5 ∧ ¬ x2 = 6 ∧ ¬ x2 = 7 ∧ ¬ x2 = 8 ∧ ¬ x2 = 9 ∧ ¬ x2 = 12 ∧ ¬ x2 = 13) (K : post (g_length, g_procs, g_chans, g_clock, g_faults, g_sealed, g_nextTicket, b_ops, b_xs, b_ys, b_st, b_prio, b_pos, b_ra, b_rb, b_rc, b_words, b_chan, b_held, b_named, b_wake, b_open, b_guard, b_timer, b_chosen, b_ticket, b_sent, b_received, b_sentFold, b_receivedFold)) : wY_plain_31 post x1 x2 x3 x4 g_length g_procs g_chans g_clock g_faults g_sealed g_nextTicket b_ops b_xs b_ys b_st b_prio b_pos b_ra b_rb b_rc b_words b_chan b_held b_named b_wake b_open b_guard b_timer b_chosen b_ticket b_sent b_received b_sentFold b_receivedFold := br_f h.1 (yq_58 h.2 K)
theorem yq_10 (h : ¬ x2 = 1 ∧ ¬ x2 = 2 ∧ ¬ x2 = 3 ∧ ¬ x2 = 4 ∧ ¬ x2 = 5 ∧ ¬ x2 = 6 ∧ ¬ x2 = 7 ∧ ¬ x2 = 8 ∧ ¬ x2 = 9 ∧ ¬ x2 = 12 ∧ ¬ x2 = 13) (K : post (g_length, g_procs, g_chans, g_clock, g_faults, g_sealed, g_nextTicket, b_ops, b_xs, b_ys, b_st, b_prio, b_pos, b_ra, b_rb, b_rc, b_words, b_chan, b_held, b_named, b_wake, b_open, b_guard, b_timer, b_chosen, b_ticket, b_sent, b_received, b_sentFold, b_receivedFold)) : wY_plain_10 post x1 x2 x3 x4 g_length g_procs g_chans g_clock g_faults g_sealed g_nextTicket b_ops b_xs b_ys b_st b_prio b_pos b_ra b_rb b_rc b_words b_chan b_held b_named b_wake b_open b_guard b_timer b_chosen b_ticket b_sent b_received b_sentFold b_receivedFold := br_f h.1 (yq_31 h.2 K)
theorem yz_253 (h : ¬ x2 = 20) (K : post (g_length, g_procs, g_chans, g_clock, g_faults, g_sealed, g_nextTicket, b_ops, b_xs, b_ys, b_st, b_prio, b_pos, b_ra, b_rb, b_rc, b_words, b_chan, b_held, b_named, b_wake, b_open, b_guard, b_timer, b_chosen, b_ticket, b_sent, b_received, b_sentFold, b_receivedFold)) : wY_alternation_253 post x1 x2 g_length g_procs g_chans g_clock g_faults g_sealed g_nextTicket b_ops b_xs b_ys b_st b_prio b_pos b_ra b_rb b_rc b_words b_chan b_held b_named b_wake b_open b_guard b_timer b_chosen b_ticket b_sent b_received b_sentFold b_receivedFold := br_f h K
theorem yz_201 (h : ¬ x2 = 19 ∧ ¬ x2 = 20) (K : post (g_length, g_procs, g_chans, g_clock, g_faults, g_sealed, g_nextTicket, b_ops, b_xs, b_ys, b_st, b_prio, b_pos, b_ra, b_rb, b_rc, b_words, b_chan, b_held, b_named, b_wake, b_open, b_guard, b_timer, b_chosen, b_ticket, b_sent, b_received, b_sentFold, b_receivedFold)) : wY_alternation_201 post x1 x2 x3 g_length g_procs g_chans g_clock g_faults g_sealed g_nextTicket b_ops b_xs b_ys b_st b_prio b_pos b_ra b_rb b_rc b_words b_chan b_held b_named b_wake b_open b_guard b_timer b_chosen b_ticket b_sent b_received b_sentFold b_receivedFold := br_f h.1 (yz_253 h.2 K)
theorem yz_143 (h : ¬ x2 = 18 ∧ ¬ x2 = 19 ∧ ¬ x2 = 20) (K : post (g_length, g_procs, g_chans, g_clock, g_faults, g_sealed, g_nextTicket, b_ops, b_xs, b_ys, b_st, b_prio, b_pos, b_ra, b_rb, b_rc, b_words, b_chan, b_held, b_named, b_wake, b_open, b_guard, b_timer, b_chosen, b_ticket, b_sent, b_received, b_sentFold, b_receivedFold)) : wY_alternation_143 post x1 x2 x3 x4 g_length g_procs g_chans g_clock g_faults g_sealed g_nextTicket b_ops b_xs b_ys b_st b_prio b_pos b_ra b_rb b_rc b_words b_chan b_held b_named b_wake b_open b_guard b_timer b_chosen b_ticket b_sent b_received b_sentFold b_receivedFold := br_f h.1 (yz_201 h.2 K)
theorem yz_132 (h : ¬ x2 = 17 ∧ ¬ x2 = 18 ∧ ¬ x2 = 19 ∧ ¬ x2 = 20) (K : post (g_length, g_procs, g_chans, g_clock, g_faults, g_sealed, g_nextTicket, b_ops, b_xs, b_ys, b_st, b_prio, b_pos, b_ra, b_rb, b_rc, b_words, b_chan, b_held, b_named, b_wake, b_open, b_guard, b_timer, b_chosen, b_ticket, b_sent, b_received, b_sentFold, b_receivedFold)) : wY_alternation_132 post x1 x2 x3 x4 g_length g_procs g_chans g_clock g_faults g_sealed g_nextTicket b_ops b_xs b_ys b_st b_prio b_pos b_ra b_rb b_rc b_words b_chan b_held b_named b_wake b_open b_guard b_timer b_chosen b_ticket b_sent b_received b_sentFold b_receivedFold := br_f h.1 (yz_143 h.2 K)
theorem yz_88 (h : ¬ x2 = 16 ∧ ¬ x2 = 17 ∧ ¬ x2 = 18 ∧ ¬ x2 = 19 ∧ ¬ x2 = 20) (K : post (g_length, g_procs, g_chans, g_clock, g_faults, g_sealed, g_nextTicket, b_ops, b_xs, b_ys, b_st, b_prio, b_pos, b_ra, b_rb, b_rc, b_words, b_chan, b_held, b_named, b_wake, b_open, b_guard, b_timer, b_chosen, b_ticket, b_sent, b_received, b_sentFold, b_receivedFold)) : wY_alternation_88 post x1 x2 x3 x4 g_length g_procs g_chans g_clock g_faults g_sealed g_nextTicket b_ops b_xs b_ys b_st b_prio b_pos b_ra b_rb b_rc b_words b_chan b_held b_named b_wake b_open b_guard b_timer b_chosen b_ticket b_sent b_received b_sentFold b_receivedFold := br_f h.1 (yz_132 h.2 K)
theorem yz_44 (h : ¬ x2 = 15 ∧ ¬ x2 = 16 ∧ ¬ x2 = 17 ∧ ¬ x2 = 18 ∧ ¬ x2 = 19 ∧ ¬ x2 = 20) (K : post (g_length, g_procs, g_chans, g_clock, g_faults, g_sealed, g_nextTicket, b_ops, b_xs, b_ys, b_st, b_prio, b_pos, b_ra, b_rb, b_rc, b_words, b_chan, b_held, b_named, b_wake, b_open, b_guard, b_timer, b_chosen, b_ticket, b_sent, b_received, b_sentFold, b_receivedFold)) : wY_alternation_44 post x1 x2 x3 x4 g_length g_procs g_chans g_clock g_faults g_sealed g_nextTicket b_ops b_xs b_ys b_st b_prio b_pos b_ra b_rb b_rc b_words b_chan b_held b_named b_wake b_open b_guard b_timer b_chosen b_ticket b_sent b_received b_sentFold b_receivedFold := br_f h.1 (yz_88 h.2 K)
end
end
section
/-! the byte code: how an operand is cut into nibbles and read back -/
theorem cd_shl4 (x : Int32) {i : Nat} (hi : i < 32) : bt (x <<< ((4 : Int32) &&& 31)) i = (decide (4 ≤ i) && bt x (i - 4)) := b_shl 4 (by omega) x hi
theorem cd_shr4 (x : Int32) {i : Nat} (hi : i < 32) : bt (x >>> ((4 : Int32) &&& 31)) i = if 4 + i < 32 then bt x (4 + i) else bt x 31 := b_sshr 4 (by omega) x hi
theorem cd_15 (i : Nat) : bt 15 i = decide (i < 4) := by
  rcases Nat.lt_or_ge i 32 with h | h
  · exact (by decide +kernel : ∀ i, i < 32 → bt 15 i = decide (i < 4)) i h
  · rw [b_big h, decide_eq_false (by omega)]
theorem cd_i1 (v : Int32) : ((v >>> ((4 : Int32) &&& 31)) <<< ((4 : Int32) &&& 31)) ||| (v &&& 15) = v := by
  apply b_ext
  intro i hi
  rw [b_or, cd_shl4 _ hi, b_and, cd_15]
  by_cases h : 4 ≤ i
  · rw [cd_shr4 _ (by omega), if_pos (by omega), show 4 + (i - 4) = i from by omega, decide_eq_true h, decide_eq_false (by omega)]
    simp
  · rw [decide_eq_false h, decide_eq_true (by omega)]
    simp
theorem cd_i2 (v : Int32) : ((((v ^^^ (-1)) >>> ((4 : Int32) &&& 31)) ^^^ (-1)) <<< ((4 : Int32) &&& 31)) ||| (v &&& 15) = v := by
  apply b_ext
  intro i hi
  rw [b_or, cd_shl4 _ hi, b_and, cd_15]
  by_cases h : 4 ≤ i
  · rw [b_xor, cd_shr4 _ (by omega), if_pos (by omega), show 4 + (i - 4) = i from by omega, b_xor, b_m1 i hi, b_m1 (i - 4) (by omega), decide_eq_true h, decide_eq_false (by omega)]
    simp
  · rw [decide_eq_false h, decide_eq_true (by omega)]
    simp
/-- the rest behind a nibble, and the function of the byte ahead of it -/
def cd_r (v : Int32) : Int32 := if v < 0 then (v ^^^ (-1)) >>> ((4 : Int32) &&& 31) else v >>> ((4 : Int32) &&& 31)
def cd_g (v : Int32) : Int32 := if v < 0 then 5 else 4
def cd_rr (v : Int32) : Nat → Int32
  | 0 => v
  | j + 1 => cd_r (cd_rr v j)
def cd_gg (f v : Int32) : Nat → Int32
  | 0 => f
  | j + 1 => cd_g (cd_rr v j)
def cd_b (f r : Int32) : Int32 := vp_nar .byte (((f <<< ((4 : Int32) &&& 31)) ||| (r &&& 15)).toInt8.toInt32)
theorem cd_tab : ∀ a, a < 16 → ∀ m, m < 16 → (((((nI a <<< ((4 : Int32) &&& 31)) ||| nI m).toInt8.toInt32).toInt8.toInt32 >>> ((4 : Int32) &&& 31)) &&& 15) = nI a ∧ ((((nI a <<< ((4 : Int32) &&& 31)) ||| nI m).toInt8.toInt32).toInt8.toInt32 &&& 15) = nI m := by decide +kernel
theorem cd_byte {a : Nat} (ha : a < 16) (r : Int32) : ((cd_b (nI a) r >>> ((4 : Int32) &&& 31)) &&& 15) = nI a ∧ (cd_b (nI a) r &&& 15) = r &&& 15 := by
  obtain ⟨m, hm, e⟩ := pk_andE r (m := 15) 4 (by decide)
  unfold cd_b
  rw [vp_nar_byte, e]
  exact cd_tab a ha m hm
/-- reading from a: the function, the operand and the place behind it -/
def cd_dc (b : Nat → Int32) : Nat → Nat → Int32 → Nat → Int32 → Int32 → Prop
  | 0 => fun _ _ _ _ _ => False
  | n + 1 => fun a o a' f w =>
    (((b a >>> ((4 : Int32) &&& 31)) &&& 15) = 4 → cd_dc b n (a + 1) ((o ||| (b a &&& 15)) <<< ((4 : Int32) &&& 31)) a' f w)
    ∧ (((b a >>> ((4 : Int32) &&& 31)) &&& 15) = 5 → cd_dc b n (a + 1) (((o ||| (b a &&& 15)) ^^^ (-1)) <<< ((4 : Int32) &&& 31)) a' f w)
    ∧ (¬ ((b a >>> ((4 : Int32) &&& 31)) &&& 15) = 4 → ¬ ((b a >>> ((4 : Int32) &&& 31)) &&& 15) = 5 → a' = a + 1 ∧ f = ((b a >>> ((4 : Int32) &&& 31)) &&& 15) ∧ w = o ||| (b a &&& 15))
theorem cd_step (v : Int32) : (cd_g v = 4 → (cd_r v <<< ((4 : Int32) &&& 31)) ||| (v &&& 15) = v) ∧ (cd_g v = 5 → ((cd_r v ^^^ (-1)) <<< ((4 : Int32) &&& 31)) ||| (v &&& 15) = v) := by
  unfold cd_g cd_r
  by_cases h : v < 0
  · rw [if_pos h, if_pos h]
    exact ⟨fun z => absurd z (by decide), fun _ => cd_i2 v⟩
  · rw [if_neg h, if_neg h]
    exact ⟨fun _ => cd_i1 v, fun z => absurd z (by decide)⟩
theorem cd_g45 (v : Int32) : cd_g v = 4 ∨ cd_g v = 5 := by
  unfold cd_g
  by_cases h : v < 0
  · exact Or.inr (if_pos h)
  · exact Or.inl (if_neg h)
theorem cd_read {b : Nat → Int32} {f v : Int32} {fa : Nat} (hf : f = nI fa) (hfa : fa < 16) (h4 : fa ≠ 4) (h5 : fa ≠ 5) : ∀ (j n a : Nat) (o : Int32), j < n → (∀ i, i ≤ j → b (a + (j - i)) = cd_b (cd_gg f v i) (cd_rr v i)) → o ||| (cd_rr v j &&& 15) = cd_rr v j → cd_dc b n a o (a + j + 1) f v := by
  intro j
  induction j with
  | zero =>
    intro n a o hn hb ho
    obtain ⟨n, rfl⟩ : ∃ m, n = m + 1 := ⟨n - 1, by omega⟩
    have e : b a = cd_b (nI fa) v := by
      have h := hb 0 (Nat.le_refl _)
      rw [← hf]
      exact h
    have t := cd_byte hfa v
    have n4 : ¬ nI fa = 4 := fun z => h4 (ba_inj (b := 4) (by omega) (by omega) z)
    have n5 : ¬ nI fa = 5 := fun z => h5 (ba_inj (b := 5) (by omega) (by omega) z)
    unfold cd_dc
    rw [e, t.1, t.2]
    exact ⟨fun z => absurd z n4, fun z => absurd z n5, fun _ _ => ⟨rfl, hf, ho.symm⟩⟩
  | succ j ih =>
    intro n a o hn hb ho
    obtain ⟨n, rfl⟩ : ∃ m, n = m + 1 := ⟨n - 1, by omega⟩
    have e : b a = cd_b (cd_g (cd_rr v j)) (cd_rr v (j + 1)) := by
      have h := hb (j + 1) (Nat.le_refl _)
      rw [Nat.sub_self] at h
      exact h
    have hb2 : ∀ i, i ≤ j → b (a + 1 + (j - i)) = cd_b (cd_gg f v i) (cd_rr v i) := fun i hi => by
      have h := hb i (by omega)
      rw [show a + (j + 1 - i) = a + 1 + (j - i) from by omega] at h
      exact h
    have s := cd_step (cd_rr v j)
    have goal : ∀ o', o' ||| (cd_rr v j &&& 15) = cd_rr v j → cd_dc b n (a + 1) o' (a + (j + 1) + 1) f v := fun o' ho' => by
      have h := ih n (a + 1) o' (by omega) hb2 ho'
      rw [show a + 1 + j + 1 = a + (j + 1) + 1 from by omega] at h
      exact h
    unfold cd_dc
    rw [e]
    rcases cd_g45 (cd_rr v j) with g | g
    · rw [g]
      have t := cd_byte (a := 4) (by decide) (cd_rr v (j + 1))
      rw [show nI 4 = 4 from by decide] at t
      rw [t.1, t.2, ho]
      exact ⟨fun _ => goal _ (s.1 g), fun z => absurd z (by decide), fun z => absurd rfl z⟩
    · rw [g]
      have t := cd_byte (a := 5) (by decide) (cd_rr v (j + 1))
      rw [show nI 5 = 5 from by decide] at t
      rw [t.1, t.2, ho]
      exact ⟨fun z => absurd z (by decide), fun _ => goal _ (s.2 g), fun _ z => absurd rfl z⟩
/-- k bytes are enough for v -/
def cd_fit (v : Int32) (k : Nat) : Prop := ∃ m, m < 2 ^ 31 ∧ m < 16 ^ k ∧ ((¬ v < 0 ∧ v = nI m ∧ 1 ≤ k) ∨ (v < 0 ∧ v ^^^ (-1) = nI m ∧ 2 ≤ k))
theorem cd_mono {v : Int32} {k k' : Nat} (h : k ≤ k') (H : cd_fit v k) : cd_fit v k' := by
  obtain ⟨m, h1, h2, H⟩ := H
  refine ⟨m, h1, Nat.lt_of_lt_of_le h2 (Nat.pow_le_pow_right (by decide) h), ?_⟩
  rcases H with ⟨a, b, d⟩ | ⟨a, b, d⟩
  · exact Or.inl ⟨a, b, by omega⟩
  · exact Or.inr ⟨a, b, by omega⟩
theorem cd_shrN {m : Nat} (h : m < 2 ^ 31) : nI m >>> ((4 : Int32) &&& 31) = nI (m / 16) := pk_shrN h _ 4 (by decide)
theorem cd_rr1 {v : Int32} {k m : Nat} (h1 : m < 2 ^ 31) (H : (¬ v < 0 ∧ v = nI m ∧ 1 ≤ k) ∨ (v < 0 ∧ v ^^^ (-1) = nI m ∧ 2 ≤ k)) : ∀ j, cd_rr v (j + 1) = nI (m / 16 ^ (j + 1)) := by
  intro j
  induction j with
  | zero =>
    show cd_r v = _
    unfold cd_r
    rcases H with ⟨a, b, _⟩ | ⟨a, b, _⟩
    · rw [if_neg a, b, cd_shrN h1]
    · rw [if_pos a, b, cd_shrN h1]
  | succ j ih =>
    show cd_r (cd_rr v (j + 1)) = _
    have h2 : m / 16 ^ (j + 1) < 2 ^ 31 := Nat.lt_of_le_of_lt (Nat.div_le_self _ _) h1
    rw [ih]
    unfold cd_r
    rw [if_neg (nI_pos h2), cd_shrN h2, Nat.div_div_eq_div_mul, ← Nat.pow_succ]
theorem cd_low {x : Nat} (h : x < 16) : (0 : Int32) ||| (nI x &&& 15) = nI x := (by decide +kernel : ∀ x, x < 16 → (0 : Int32) ||| (nI x &&& 15) = nI x) x h
theorem cd_first {v : Int32} {k : Nat} (H : cd_fit v (k + 1)) : (0 : Int32) ||| (cd_rr v k &&& 15) = cd_rr v k := by
  obtain ⟨m, h1, h2, H⟩ := H
  cases k with
  | zero =>
    rcases H with ⟨_, b, _⟩ | ⟨_, _, d⟩
    · show (0 : Int32) ||| (v &&& 15) = v
      rw [b]
      exact cd_low (by simpa using h2)
    · omega
  | succ k =>
    rw [cd_rr1 h1 H k]
    refine cd_low ?_
    rw [Nat.div_lt_iff_lt_mul (Nat.pow_pos (by decide))]
    rw [Nat.pow_succ] at h2
    omega
/-- what a place holds, when its k bytes are written -/
theorem cd_whole {b : Nat → Int32} {f v : Int32} {fa a k : Nat} (hf : f = nI fa) (hfa : fa < 16) (h4 : fa ≠ 4) (h5 : fa ≠ 5) (hk : 1 ≤ k) (hk8 : k ≤ 8) (H : cd_fit v k) (hb : ∀ j, j < k → b (a + (k - 1 - j)) = cd_b (cd_gg f v j) (cd_rr v j)) : cd_dc b 8 a 0 (a + k) f v := by
  obtain ⟨k, rfl⟩ : ∃ m, k = m + 1 := ⟨k - 1, by omega⟩
  exact cd_read hf hfa h4 h5 k 8 a 0 (by omega) (fun i hi => hb i (by omega)) (cd_first H)
theorem cd_sgn (x : Int32) : x < 0 ↔ bt x 31 = true := by
  rw [Int32.lt_iff_toInt_lt]
  show x.toBitVec.toInt < 0 ↔ x.toBitVec.getLsbD 31 = true
  rw [← decide_eq_true_iff (p := x.toBitVec.toInt < 0), ← BitVec.msb_eq_toInt, BitVec.msb_eq_getLsbD_last]
/-- a number of either sign, by its size -/
theorem cd_mag (v : Int32) : (¬ v < 0 ∧ ∃ m, m < 2 ^ 31 ∧ v = nI m) ∨ (v < 0 ∧ ∃ m, m < 2 ^ 31 ∧ v ^^^ (-1) = nI m) := by
  by_cases h : v < 0
  · refine Or.inr ⟨h, nI_of (fun z => ?_)⟩
    rw [cd_sgn, b_xor, b_m1 31 (by decide)] at z
    rw [cd_sgn] at h
    rw [h] at z
    exact absurd z (by decide)
  · exact Or.inl ⟨h, nI_of h⟩
end
section
/-! one instruction on both sides: reckoning and jumps -/
theorem pr_ra {N r : Nat} {st pr ra rb rc : Nat → Int32} {it xa xb xc sa sb sc a : Int32} (hN : N ≤ 8) (hr : r < 8) (H : rl_pr N st pr ra rb rc (nI r) it xa xb xc sa sb sc) : rl_pr N st pr (upd ra r a) rb rc (nI r) it a xb xc sa sb sc := by
  have h := pr_regs (a := a) (b := xb) (d := xc) hN hr H
  obtain ⟨_, _, _, _, eb, ec⟩ := pr_at hN hr H
  have e1 : upd rb r xb = rb := by rw [← eb]; exact ba_us
  have e2 : upd rc r xc = rc := by rw [← ec]; exact ba_us
  rw [e1, e2] at h
  exact h
section
variable {N C L B c r : Nat} {ad : Nat → Nat} {x y w : Int32}
variable {f_unused f_constant f_word f_target f_channel f_level f_prefix f_negate f_operate f_disableChannel f_disableTimer f_processCount f_channelCount f_length f_sealed f_timerHead f_running f_interrupted f_regA f_regB f_regC f_savedA f_savedB f_savedC f_operand f_clock f_faults : Int32} {a_ops a_xs a_ys a_sizes a_address a_bytes a_indexAt a_locals a_states a_priorities a_pointers a_branches a_deadlines a_held a_readyLink a_timerLink a_head a_tail a_writers a_readers a_counters : Nat → Int32}
variable {g_length g_procs g_chans g_clock g_faults g_sealed : Int32} {g_nextTicket : Int64} {b_ops b_xs b_ys b_st b_prio b_pos b_ra b_rb b_rc b_words b_chan b_held b_named b_wake b_open b_guard b_timer b_chosen b_sent b_received b_sentFold b_receivedFold : Nat → Int32} {b_ticket : Nat → Int64}
theorem op_ldc (hN : N ≤ 8) (hr : r < 8) (H : rl_dy N C L B c ad (nI r) f_interrupted f_regA f_regB f_regC f_savedA f_savedB f_savedC f_timerHead a_states a_priorities a_pointers a_branches a_deadlines a_held a_readyLink a_timerLink a_head a_tail a_writers a_readers a_counters g_nextTicket b_pos b_ra b_rb b_rc b_chan b_held b_named b_wake b_open b_guard b_timer b_chosen b_ticket b_sent b_received b_sentFold b_receivedFold) (hw : w = x) : jo_R N C L B c ad f_sealed a_ops a_xs a_ys a_address a_bytes a_indexAt (fun post => wpX_execute post (f_unused, f_constant, f_word, f_target, f_channel, f_level, f_prefix, f_negate, f_operate, f_disableChannel, f_disableTimer, nI N, nI C, nI L, f_sealed, f_timerHead, nI r, f_interrupted, f_regA, f_regB, f_regC, f_savedA, f_savedB, f_savedC, w, nI c, f_faults, a_ops, a_xs, a_ys, a_sizes, a_address, a_bytes, a_indexAt, a_locals, a_states, a_priorities, a_pointers, a_branches, a_deadlines, a_held, a_readyLink, a_timerLink, a_head, a_tail, a_writers, a_readers, a_counters) 0) (fun post => wpY_plain post (nI L, nI N, nI C, nI c, f_faults, f_sealed, g_nextTicket, a_ops, a_xs, a_ys, a_states, a_priorities, b_pos, b_ra, b_rb, b_rc, a_locals, b_chan, b_held, b_named, b_wake, b_open, b_guard, b_timer, b_chosen, b_ticket, b_sent, b_received, b_sentFold, b_receivedFold) (nI r) 0 x y) := by
  obtain ⟨_, _, _, ea, eb, ec⟩ := pr_at hN hr H.1
  subst hw
  refine ⟨(f_unused, f_constant, f_word, f_target, f_channel, f_level, f_prefix, f_negate, f_operate, f_disableChannel, f_disableTimer, nI N, nI C, nI L, f_sealed, f_timerHead, nI r, f_interrupted, w, f_regA, f_regB, f_savedA, f_savedB, f_savedC, w, nI c, f_faults, a_ops, a_xs, a_ys, a_sizes, a_address, a_bytes, a_indexAt, a_locals, a_states, a_priorities, a_pointers, a_branches, a_deadlines, a_held, a_readyLink, a_timerLink, a_head, a_tail, a_writers, a_readers, a_counters), (nI L, nI N, nI C, nI c, f_faults, f_sealed, g_nextTicket, a_ops, a_xs, a_ys, a_states, a_priorities, b_pos, upd b_ra r w, upd b_rb r f_regA, upd b_rc r f_regB, a_locals, b_chan, b_held, b_named, b_wake, b_open, b_guard, b_timer, b_chosen, b_ticket, b_sent, b_received, b_sentFold, b_receivedFold), rl_in ⟨pr_regs hN hr H.1, H.2⟩, fun post K => ?_, fun post K => ?_⟩
  · simp +decide only [wpX_execute, wpX_calculate, wpX_push, forall_eq, true_implies, false_implies, not_true_eq_false, not_false_eq_true, and_true, true_and, implies_true]
    exact K
  · simp +decide only [wpY_plain, wpY_push, ba_v hr, ba_c hr, ea, eb, forall_eq, true_implies, false_implies, not_true_eq_false, not_false_eq_true, and_true, true_and, implies_true]
    exact yq_10 (by decide) K
theorem op_ldl {k : Nat} (hN : N ≤ 8) (hr : r < 8) (H : rl_dy N C L B c ad (nI r) f_interrupted f_regA f_regB f_regC f_savedA f_savedB f_savedC f_timerHead a_states a_priorities a_pointers a_branches a_deadlines a_held a_readyLink a_timerLink a_head a_tail a_writers a_readers a_counters g_nextTicket b_pos b_ra b_rb b_rc b_chan b_held b_named b_wake b_open b_guard b_timer b_chosen b_ticket b_sent b_received b_sentFold b_receivedFold) (hk : k < 8) (hw : w &&& 7 = nI k) (hx : x = nI k) : jo_R N C L B c ad f_sealed a_ops a_xs a_ys a_address a_bytes a_indexAt (fun post => wpX_execute post (f_unused, f_constant, f_word, f_target, f_channel, f_level, f_prefix, f_negate, f_operate, f_disableChannel, f_disableTimer, nI N, nI C, nI L, f_sealed, f_timerHead, nI r, f_interrupted, f_regA, f_regB, f_regC, f_savedA, f_savedB, f_savedC, w, nI c, f_faults, a_ops, a_xs, a_ys, a_sizes, a_address, a_bytes, a_indexAt, a_locals, a_states, a_priorities, a_pointers, a_branches, a_deadlines, a_held, a_readyLink, a_timerLink, a_head, a_tail, a_writers, a_readers, a_counters) 1) (fun post => wpY_plain post (nI L, nI N, nI C, nI c, f_faults, f_sealed, g_nextTicket, a_ops, a_xs, a_ys, a_states, a_priorities, b_pos, b_ra, b_rb, b_rc, a_locals, b_chan, b_held, b_named, b_wake, b_open, b_guard, b_timer, b_chosen, b_ticket, b_sent, b_received, b_sentFold, b_receivedFold) (nI r) 1 x y) := by
  obtain ⟨_, _, _, ea, eb, ec⟩ := pr_at hN hr H.1
  subst hx
  refine ⟨(f_unused, f_constant, f_word, f_target, f_channel, f_level, f_prefix, f_negate, f_operate, f_disableChannel, f_disableTimer, nI N, nI C, nI L, f_sealed, f_timerHead, nI r, f_interrupted, a_locals (r * 8 + k), f_regA, f_regB, f_savedA, f_savedB, f_savedC, w, nI c, f_faults, a_ops, a_xs, a_ys, a_sizes, a_address, a_bytes, a_indexAt, a_locals, a_states, a_priorities, a_pointers, a_branches, a_deadlines, a_held, a_readyLink, a_timerLink, a_head, a_tail, a_writers, a_readers, a_counters), (nI L, nI N, nI C, nI c, f_faults, f_sealed, g_nextTicket, a_ops, a_xs, a_ys, a_states, a_priorities, b_pos, upd b_ra r (a_locals (r * 8 + k)), upd b_rb r f_regA, upd b_rc r f_regB, a_locals, b_chan, b_held, b_named, b_wake, b_open, b_guard, b_timer, b_chosen, b_ticket, b_sent, b_received, b_sentFold, b_receivedFold), rl_in ⟨pr_regs hN hr H.1, H.2⟩, fun post K => ?_, fun post K => ?_⟩
  · simp +decide only [wpX_execute, wpX_calculate, wpX_push, hw, ba_m8, nI_add, ba_v64 (show r * 8 + k < 64 by omega), ba_c64 (show r * 8 + k < 64 by omega), forall_eq, true_implies, false_implies, not_true_eq_false, not_false_eq_true, and_true, true_and, implies_true]
    exact K
  · refine br_f (by decide) ?_
    simp +decide only [wY_plain_10, wpY_push, ba_v hr, ba_c hr, ea, eb, ba_m8, nI_add, ba_v64 (show r * 8 + k < 64 by omega), ba_c64 (show r * 8 + k < 64 by omega), forall_eq, true_implies, false_implies, not_true_eq_false, not_false_eq_true, and_true, true_and, implies_true]
    exact yq_31 (by decide) K
theorem op_stl {k : Nat} (hN : N ≤ 8) (hr : r < 8) (H : rl_dy N C L B c ad (nI r) f_interrupted f_regA f_regB f_regC f_savedA f_savedB f_savedC f_timerHead a_states a_priorities a_pointers a_branches a_deadlines a_held a_readyLink a_timerLink a_head a_tail a_writers a_readers a_counters g_nextTicket b_pos b_ra b_rb b_rc b_chan b_held b_named b_wake b_open b_guard b_timer b_chosen b_ticket b_sent b_received b_sentFold b_receivedFold) (hk : k < 8) (hw : w &&& 7 = nI k) (hx : x = nI k) : jo_R N C L B c ad f_sealed a_ops a_xs a_ys a_address a_bytes a_indexAt (fun post => wpX_execute post (f_unused, f_constant, f_word, f_target, f_channel, f_level, f_prefix, f_negate, f_operate, f_disableChannel, f_disableTimer, nI N, nI C, nI L, f_sealed, f_timerHead, nI r, f_interrupted, f_regA, f_regB, f_regC, f_savedA, f_savedB, f_savedC, w, nI c, f_faults, a_ops, a_xs, a_ys, a_sizes, a_address, a_bytes, a_indexAt, a_locals, a_states, a_priorities, a_pointers, a_branches, a_deadlines, a_held, a_readyLink, a_timerLink, a_head, a_tail, a_writers, a_readers, a_counters) 2) (fun post => wpY_plain post (nI L, nI N, nI C, nI c, f_faults, f_sealed, g_nextTicket, a_ops, a_xs, a_ys, a_states, a_priorities, b_pos, b_ra, b_rb, b_rc, a_locals, b_chan, b_held, b_named, b_wake, b_open, b_guard, b_timer, b_chosen, b_ticket, b_sent, b_received, b_sentFold, b_receivedFold) (nI r) 2 x y) := by
  obtain ⟨_, _, _, ea, eb, ec⟩ := pr_at hN hr H.1
  subst hx
  refine ⟨(f_unused, f_constant, f_word, f_target, f_channel, f_level, f_prefix, f_negate, f_operate, f_disableChannel, f_disableTimer, nI N, nI C, nI L, f_sealed, f_timerHead, nI r, f_interrupted, f_regB, f_regC, 0, f_savedA, f_savedB, f_savedC, w, nI c, f_faults, a_ops, a_xs, a_ys, a_sizes, a_address, a_bytes, a_indexAt, upd a_locals (r * 8 + k) f_regA, a_states, a_priorities, a_pointers, a_branches, a_deadlines, a_held, a_readyLink, a_timerLink, a_head, a_tail, a_writers, a_readers, a_counters), (nI L, nI N, nI C, nI c, f_faults, f_sealed, g_nextTicket, a_ops, a_xs, a_ys, a_states, a_priorities, b_pos, upd b_ra r f_regB, upd b_rb r f_regC, upd b_rc r 0, upd a_locals (r * 8 + k) f_regA, b_chan, b_held, b_named, b_wake, b_open, b_guard, b_timer, b_chosen, b_ticket, b_sent, b_received, b_sentFold, b_receivedFold), rl_in ⟨pr_regs hN hr H.1, H.2⟩, fun post K => ?_, fun post K => ?_⟩
  · simp +decide only [wpX_execute, wpX_calculate, wpX_pop, hw, ba_m8, nI_add, ba_v64 (show r * 8 + k < 64 by omega), ba_c64 (show r * 8 + k < 64 by omega), forall_eq, true_implies, false_implies, not_true_eq_false, not_false_eq_true, and_true, true_and, implies_true]
    exact K
  · refine br_f (by decide) <| br_f (by decide) <|  ?_
    simp +decide only [wY_plain_31, wpY_pop, ba_v hr, ba_c hr, ea, eb, ec, ba_m8, nI_add, ba_v64 (show r * 8 + k < 64 by omega), ba_c64 (show r * 8 + k < 64 by omega), forall_eq, true_implies, false_implies, not_true_eq_false, not_false_eq_true, and_true, true_and, implies_true]
    exact yq_58 (by decide) K
theorem op_adc (hN : N ≤ 8) (hr : r < 8) (H : rl_dy N C L B c ad (nI r) f_interrupted f_regA f_regB f_regC f_savedA f_savedB f_savedC f_timerHead a_states a_priorities a_pointers a_branches a_deadlines a_held a_readyLink a_timerLink a_head a_tail a_writers a_readers a_counters g_nextTicket b_pos b_ra b_rb b_rc b_chan b_held b_named b_wake b_open b_guard b_timer b_chosen b_ticket b_sent b_received b_sentFold b_receivedFold) (hw : w = x) : jo_R N C L B c ad f_sealed a_ops a_xs a_ys a_address a_bytes a_indexAt (fun post => wpX_execute post (f_unused, f_constant, f_word, f_target, f_channel, f_level, f_prefix, f_negate, f_operate, f_disableChannel, f_disableTimer, nI N, nI C, nI L, f_sealed, f_timerHead, nI r, f_interrupted, f_regA, f_regB, f_regC, f_savedA, f_savedB, f_savedC, w, nI c, f_faults, a_ops, a_xs, a_ys, a_sizes, a_address, a_bytes, a_indexAt, a_locals, a_states, a_priorities, a_pointers, a_branches, a_deadlines, a_held, a_readyLink, a_timerLink, a_head, a_tail, a_writers, a_readers, a_counters) 3) (fun post => wpY_plain post (nI L, nI N, nI C, nI c, f_faults, f_sealed, g_nextTicket, a_ops, a_xs, a_ys, a_states, a_priorities, b_pos, b_ra, b_rb, b_rc, a_locals, b_chan, b_held, b_named, b_wake, b_open, b_guard, b_timer, b_chosen, b_ticket, b_sent, b_received, b_sentFold, b_receivedFold) (nI r) 3 x y) := by
  obtain ⟨_, _, _, ea, eb, ec⟩ := pr_at hN hr H.1
  subst hw
  refine ⟨(f_unused, f_constant, f_word, f_target, f_channel, f_level, f_prefix, f_negate, f_operate, f_disableChannel, f_disableTimer, nI N, nI C, nI L, f_sealed, f_timerHead, nI r, f_interrupted, f_regA + w, f_regB, f_regC, f_savedA, f_savedB, f_savedC, w, nI c, f_faults, a_ops, a_xs, a_ys, a_sizes, a_address, a_bytes, a_indexAt, a_locals, a_states, a_priorities, a_pointers, a_branches, a_deadlines, a_held, a_readyLink, a_timerLink, a_head, a_tail, a_writers, a_readers, a_counters), (nI L, nI N, nI C, nI c, f_faults, f_sealed, g_nextTicket, a_ops, a_xs, a_ys, a_states, a_priorities, b_pos, upd b_ra r (f_regA + w), b_rb, b_rc, a_locals, b_chan, b_held, b_named, b_wake, b_open, b_guard, b_timer, b_chosen, b_ticket, b_sent, b_received, b_sentFold, b_receivedFold), rl_in ⟨pr_ra hN hr H.1, H.2⟩, fun post K => ?_, fun post K => ?_⟩
  · simp +decide only [wpX_execute, wpX_calculate, forall_eq, true_implies, false_implies, not_true_eq_false, not_false_eq_true, and_true, true_and, implies_true]
    exact K
  · refine br_f (by decide) <| br_f (by decide) <| br_f (by decide) <|  ?_
    simp +decide only [wY_plain_58, ba_v hr, ba_c hr, ea, forall_eq, true_implies, false_implies, not_true_eq_false, not_false_eq_true, and_true, true_and, implies_true]
    exact yq_77 (by decide) K
theorem op_add (hN : N ≤ 8) (hr : r < 8) (H : rl_dy N C L B c ad (nI r) f_interrupted f_regA f_regB f_regC f_savedA f_savedB f_savedC f_timerHead a_states a_priorities a_pointers a_branches a_deadlines a_held a_readyLink a_timerLink a_head a_tail a_writers a_readers a_counters g_nextTicket b_pos b_ra b_rb b_rc b_chan b_held b_named b_wake b_open b_guard b_timer b_chosen b_ticket b_sent b_received b_sentFold b_receivedFold) : jo_R N C L B c ad f_sealed a_ops a_xs a_ys a_address a_bytes a_indexAt (fun post => wpX_execute post (f_unused, f_constant, f_word, f_target, f_channel, f_level, f_prefix, f_negate, f_operate, f_disableChannel, f_disableTimer, nI N, nI C, nI L, f_sealed, f_timerHead, nI r, f_interrupted, f_regA, f_regB, f_regC, f_savedA, f_savedB, f_savedC, w, nI c, f_faults, a_ops, a_xs, a_ys, a_sizes, a_address, a_bytes, a_indexAt, a_locals, a_states, a_priorities, a_pointers, a_branches, a_deadlines, a_held, a_readyLink, a_timerLink, a_head, a_tail, a_writers, a_readers, a_counters) 4) (fun post => wpY_plain post (nI L, nI N, nI C, nI c, f_faults, f_sealed, g_nextTicket, a_ops, a_xs, a_ys, a_states, a_priorities, b_pos, b_ra, b_rb, b_rc, a_locals, b_chan, b_held, b_named, b_wake, b_open, b_guard, b_timer, b_chosen, b_ticket, b_sent, b_received, b_sentFold, b_receivedFold) (nI r) 4 x y) := by
  obtain ⟨_, _, _, ea, eb, ec⟩ := pr_at hN hr H.1
  refine ⟨(f_unused, f_constant, f_word, f_target, f_channel, f_level, f_prefix, f_negate, f_operate, f_disableChannel, f_disableTimer, nI N, nI C, nI L, f_sealed, f_timerHead, nI r, f_interrupted, f_regB + f_regA, f_regC, 0, f_savedA, f_savedB, f_savedC, w, nI c, f_faults, a_ops, a_xs, a_ys, a_sizes, a_address, a_bytes, a_indexAt, a_locals, a_states, a_priorities, a_pointers, a_branches, a_deadlines, a_held, a_readyLink, a_timerLink, a_head, a_tail, a_writers, a_readers, a_counters), (nI L, nI N, nI C, nI c, f_faults, f_sealed, g_nextTicket, a_ops, a_xs, a_ys, a_states, a_priorities, b_pos, upd b_ra r (f_regB + f_regA), upd b_rb r f_regC, upd b_rc r 0, a_locals, b_chan, b_held, b_named, b_wake, b_open, b_guard, b_timer, b_chosen, b_ticket, b_sent, b_received, b_sentFold, b_receivedFold), rl_in ⟨pr_regs hN hr H.1, H.2⟩, fun post K => ?_, fun post K => ?_⟩
  · simp +decide only [wpX_execute, wpX_calculate, wX_calculate_132, wpX_pop, forall_eq, true_implies, false_implies, not_true_eq_false, not_false_eq_true, and_true, true_and, implies_true]
    exact K
  · refine br_f (by decide) <| br_f (by decide) <| br_f (by decide) <| br_f (by decide) <|  ?_
    simp +decide only [wY_plain_77, ba_v hr, ba_c hr, ea, eb, ec, forall_eq, true_implies, false_implies, not_true_eq_false, not_false_eq_true, and_true, true_and, implies_true]
    exact yq_120 (by decide) K
theorem op_sub (hN : N ≤ 8) (hr : r < 8) (H : rl_dy N C L B c ad (nI r) f_interrupted f_regA f_regB f_regC f_savedA f_savedB f_savedC f_timerHead a_states a_priorities a_pointers a_branches a_deadlines a_held a_readyLink a_timerLink a_head a_tail a_writers a_readers a_counters g_nextTicket b_pos b_ra b_rb b_rc b_chan b_held b_named b_wake b_open b_guard b_timer b_chosen b_ticket b_sent b_received b_sentFold b_receivedFold) : jo_R N C L B c ad f_sealed a_ops a_xs a_ys a_address a_bytes a_indexAt (fun post => wpX_execute post (f_unused, f_constant, f_word, f_target, f_channel, f_level, f_prefix, f_negate, f_operate, f_disableChannel, f_disableTimer, nI N, nI C, nI L, f_sealed, f_timerHead, nI r, f_interrupted, f_regA, f_regB, f_regC, f_savedA, f_savedB, f_savedC, w, nI c, f_faults, a_ops, a_xs, a_ys, a_sizes, a_address, a_bytes, a_indexAt, a_locals, a_states, a_priorities, a_pointers, a_branches, a_deadlines, a_held, a_readyLink, a_timerLink, a_head, a_tail, a_writers, a_readers, a_counters) 5) (fun post => wpY_plain post (nI L, nI N, nI C, nI c, f_faults, f_sealed, g_nextTicket, a_ops, a_xs, a_ys, a_states, a_priorities, b_pos, b_ra, b_rb, b_rc, a_locals, b_chan, b_held, b_named, b_wake, b_open, b_guard, b_timer, b_chosen, b_ticket, b_sent, b_received, b_sentFold, b_receivedFold) (nI r) 5 x y) := by
  obtain ⟨_, _, _, ea, eb, ec⟩ := pr_at hN hr H.1
  refine ⟨(f_unused, f_constant, f_word, f_target, f_channel, f_level, f_prefix, f_negate, f_operate, f_disableChannel, f_disableTimer, nI N, nI C, nI L, f_sealed, f_timerHead, nI r, f_interrupted, f_regB - f_regA, f_regC, 0, f_savedA, f_savedB, f_savedC, w, nI c, f_faults, a_ops, a_xs, a_ys, a_sizes, a_address, a_bytes, a_indexAt, a_locals, a_states, a_priorities, a_pointers, a_branches, a_deadlines, a_held, a_readyLink, a_timerLink, a_head, a_tail, a_writers, a_readers, a_counters), (nI L, nI N, nI C, nI c, f_faults, f_sealed, g_nextTicket, a_ops, a_xs, a_ys, a_states, a_priorities, b_pos, upd b_ra r (f_regB - f_regA), upd b_rb r f_regC, upd b_rc r 0, a_locals, b_chan, b_held, b_named, b_wake, b_open, b_guard, b_timer, b_chosen, b_ticket, b_sent, b_received, b_sentFold, b_receivedFold), rl_in ⟨pr_regs hN hr H.1, H.2⟩, fun post K => ?_, fun post K => ?_⟩
  · simp +decide only [wpX_execute, wpX_calculate, wX_calculate_132, wpX_pop, forall_eq, true_implies, false_implies, not_true_eq_false, not_false_eq_true, and_true, true_and, implies_true]
    exact K
  · refine br_f (by decide) <| br_f (by decide) <| br_f (by decide) <| br_f (by decide) <| br_f (by decide) <|  ?_
    simp +decide only [wY_plain_120, ba_v hr, ba_c hr, ea, eb, ec, forall_eq, true_implies, false_implies, not_true_eq_false, not_false_eq_true, and_true, true_and, implies_true]
    exact yq_163 (by decide) K
theorem op_cj {j k : Nat} (hN : N ≤ 8) (hr : r < 8) (H : rl_dy N C L B c ad (nI r) f_interrupted f_regA f_regB f_regC f_savedA f_savedB f_savedC f_timerHead a_states a_priorities a_pointers a_branches a_deadlines a_held a_readyLink a_timerLink a_head a_tail a_writers a_readers a_counters g_nextTicket b_pos b_ra b_rb b_rc b_chan b_held b_named b_wake b_open b_guard b_timer b_chosen b_ticket b_sent b_received b_sentFold b_receivedFold) (hk : k < L) (hp : a_pointers r = nI (ad j)) (hw : w = nI (ad k) - nI (ad j)) (hx : x = nI k) : jo_R N C L B c ad f_sealed a_ops a_xs a_ys a_address a_bytes a_indexAt (fun post => wpX_execute post (f_unused, f_constant, f_word, f_target, f_channel, f_level, f_prefix, f_negate, f_operate, f_disableChannel, f_disableTimer, nI N, nI C, nI L, f_sealed, f_timerHead, nI r, f_interrupted, f_regA, f_regB, f_regC, f_savedA, f_savedB, f_savedC, w, nI c, f_faults, a_ops, a_xs, a_ys, a_sizes, a_address, a_bytes, a_indexAt, a_locals, a_states, a_priorities, a_pointers, a_branches, a_deadlines, a_held, a_readyLink, a_timerLink, a_head, a_tail, a_writers, a_readers, a_counters) 7) (fun post => wpY_plain post (nI L, nI N, nI C, nI c, f_faults, f_sealed, g_nextTicket, a_ops, a_xs, a_ys, a_states, a_priorities, b_pos, b_ra, b_rb, b_rc, a_locals, b_chan, b_held, b_named, b_wake, b_open, b_guard, b_timer, b_chosen, b_ticket, b_sent, b_received, b_sentFold, b_receivedFold) (nI r) 7 x y) := by
  obtain ⟨_, _, _, ea, eb, ec⟩ := pr_at hN hr H.1
  subst hx
  by_cases z : f_regA = 0
  · refine ⟨(f_unused, f_constant, f_word, f_target, f_channel, f_level, f_prefix, f_negate, f_operate, f_disableChannel, f_disableTimer, nI N, nI C, nI L, f_sealed, f_timerHead, nI r, f_interrupted, f_regA, f_regB, f_regC, f_savedA, f_savedB, f_savedC, w, nI c, f_faults, a_ops, a_xs, a_ys, a_sizes, a_address, a_bytes, a_indexAt, a_locals, a_states, a_priorities, upd a_pointers r (nI (ad k)), a_branches, a_deadlines, a_held, a_readyLink, a_timerLink, a_head, a_tail, a_writers, a_readers, a_counters), (nI L, nI N, nI C, nI c, f_faults, f_sealed, g_nextTicket, a_ops, a_xs, a_ys, a_states, a_priorities, upd b_pos r (nI k), b_ra, b_rb, b_rc, a_locals, b_chan, b_held, b_named, b_wake, b_open, b_guard, b_timer, b_chosen, b_ticket, b_sent, b_received, b_sentFold, b_receivedFold), rl_in ⟨H.1, H.2.1, H.2.2.1, H.2.2.2.1, po_set hk H.2.2.2.2.1, H.2.2.2.2.2⟩, fun post K => ?_, fun post K => ?_⟩
    · have e : nI (ad j) + w = nI (ad k) := by rw [hw]; grind
      simp +decide only [wpX_execute, wpX_control, ba_v hr, ba_c hr, z, hp, e, forall_eq, true_implies, false_implies, not_true_eq_false, not_false_eq_true, and_true, true_and, implies_true]
      rw [z] at K
      exact K
    · refine br_f (by decide) <| br_f (by decide) <| br_f (by decide) <| br_f (by decide) <| br_f (by decide) <| br_f (by decide) <| br_f (by decide) <|  ?_
      simp +decide only [wY_plain_196, ba_v hr, ba_c hr, ea, z, forall_eq, true_implies, false_implies, not_true_eq_false, not_false_eq_true, and_true, true_and, implies_true]
      exact yq_226 (by decide) K
  · refine ⟨(f_unused, f_constant, f_word, f_target, f_channel, f_level, f_prefix, f_negate, f_operate, f_disableChannel, f_disableTimer, nI N, nI C, nI L, f_sealed, f_timerHead, nI r, f_interrupted, f_regB, f_regC, 0, f_savedA, f_savedB, f_savedC, w, nI c, f_faults, a_ops, a_xs, a_ys, a_sizes, a_address, a_bytes, a_indexAt, a_locals, a_states, a_priorities, a_pointers, a_branches, a_deadlines, a_held, a_readyLink, a_timerLink, a_head, a_tail, a_writers, a_readers, a_counters), (nI L, nI N, nI C, nI c, f_faults, f_sealed, g_nextTicket, a_ops, a_xs, a_ys, a_states, a_priorities, b_pos, upd b_ra r f_regB, upd b_rb r f_regC, upd b_rc r 0, a_locals, b_chan, b_held, b_named, b_wake, b_open, b_guard, b_timer, b_chosen, b_ticket, b_sent, b_received, b_sentFold, b_receivedFold), rl_in ⟨pr_regs hN hr H.1, H.2⟩, fun post K => ?_, fun post K => ?_⟩
    · simp +decide only [wpX_execute, wpX_control, wpX_pop, z, forall_eq, true_implies, false_implies, not_true_eq_false, not_false_eq_true, and_true, true_and, implies_true]
      exact K
    · refine br_f (by decide) <| br_f (by decide) <| br_f (by decide) <| br_f (by decide) <| br_f (by decide) <| br_f (by decide) <| br_f (by decide) <|  ?_
      simp +decide only [wY_plain_196, wpY_pop, ba_v hr, ba_c hr, ea, eb, ec, z, forall_eq, true_implies, false_implies, not_true_eq_false, not_false_eq_true, and_true, true_and, implies_true]
      exact yq_226 (by decide) K
theorem op_time (hN : N ≤ 8) (hr : r < 8) (H : rl_dy N C L B c ad (nI r) f_interrupted f_regA f_regB f_regC f_savedA f_savedB f_savedC f_timerHead a_states a_priorities a_pointers a_branches a_deadlines a_held a_readyLink a_timerLink a_head a_tail a_writers a_readers a_counters g_nextTicket b_pos b_ra b_rb b_rc b_chan b_held b_named b_wake b_open b_guard b_timer b_chosen b_ticket b_sent b_received b_sentFold b_receivedFold) : jo_R N C L B c ad f_sealed a_ops a_xs a_ys a_address a_bytes a_indexAt (fun post => wpX_execute post (f_unused, f_constant, f_word, f_target, f_channel, f_level, f_prefix, f_negate, f_operate, f_disableChannel, f_disableTimer, nI N, nI C, nI L, f_sealed, f_timerHead, nI r, f_interrupted, f_regA, f_regB, f_regC, f_savedA, f_savedB, f_savedC, w, nI c, f_faults, a_ops, a_xs, a_ys, a_sizes, a_address, a_bytes, a_indexAt, a_locals, a_states, a_priorities, a_pointers, a_branches, a_deadlines, a_held, a_readyLink, a_timerLink, a_head, a_tail, a_writers, a_readers, a_counters) 12) (fun post => wpY_plain post (nI L, nI N, nI C, nI c, f_faults, f_sealed, g_nextTicket, a_ops, a_xs, a_ys, a_states, a_priorities, b_pos, b_ra, b_rb, b_rc, a_locals, b_chan, b_held, b_named, b_wake, b_open, b_guard, b_timer, b_chosen, b_ticket, b_sent, b_received, b_sentFold, b_receivedFold) (nI r) 12 x y) := by
  obtain ⟨_, _, _, ea, eb, ec⟩ := pr_at hN hr H.1
  refine ⟨(f_unused, f_constant, f_word, f_target, f_channel, f_level, f_prefix, f_negate, f_operate, f_disableChannel, f_disableTimer, nI N, nI C, nI L, f_sealed, f_timerHead, nI r, f_interrupted, nI c, f_regA, f_regB, f_savedA, f_savedB, f_savedC, w, nI c, f_faults, a_ops, a_xs, a_ys, a_sizes, a_address, a_bytes, a_indexAt, a_locals, a_states, a_priorities, a_pointers, a_branches, a_deadlines, a_held, a_readyLink, a_timerLink, a_head, a_tail, a_writers, a_readers, a_counters), (nI L, nI N, nI C, nI c, f_faults, f_sealed, g_nextTicket, a_ops, a_xs, a_ys, a_states, a_priorities, b_pos, upd b_ra r (nI c), upd b_rb r f_regA, upd b_rc r f_regB, a_locals, b_chan, b_held, b_named, b_wake, b_open, b_guard, b_timer, b_chosen, b_ticket, b_sent, b_received, b_sentFold, b_receivedFold), rl_in ⟨pr_regs hN hr H.1, H.2⟩, fun post K => ?_, fun post K => ?_⟩
  · simp +decide only [wpX_execute, wpX_communicate, wpX_push, forall_eq, true_implies, false_implies, not_true_eq_false, not_false_eq_true, and_true, true_and, implies_true]
    exact K
  · refine br_f (by decide) <| br_f (by decide) <| br_f (by decide) <| br_f (by decide) <| br_f (by decide) <| br_f (by decide) <| br_f (by decide) <| br_f (by decide) <| br_f (by decide) <| br_f (by decide) <|  ?_
    simp +decide only [wY_plain_266, wpY_push, ba_v hr, ba_c hr, ea, eb, forall_eq, true_implies, false_implies, not_true_eq_false, not_false_eq_true, and_true, true_and, implies_true]
    exact yq_281 (by decide) K
end
end
section
/-! one instruction on both sides: jumps, processes, channels, delays -/
theorem pi_k {pr : Nat → Int32} (H : rl_pi pr) (p : Nat) : ∃ k, k < 2 ∧ pr p = nI k := by
  rcases H p with h | h
  · exact ⟨0, by decide, h⟩
  · exact ⟨1, by decide, h⟩
theorem pi_set {pr : Nat → Int32} {q k : Nat} (hk : k < 2) (H : rl_pi pr) : rl_pi (upd pr q (nI k)) := fun p => by
  by_cases e : p = q
  · rw [e, pk_us]
    match k, hk with
    | 0, _ => exact Or.inl rfl
    | 1, _ => exact Or.inr rfl
  · rw [pk_un e]
    exact H p
theorem ba_32 {j : Nat} (h : j < 32) : vp_in (nI j) 32 := vp_in_nI h (by decide)
theorem ba_c32 {j : Nat} (h : j < 32) : (nI j).toNatClampNeg = j := nI_clamp (by omega)
theorem ba_a2 (a : Nat) : nI a + 2 = nI (a + 2) := nI_add a 2
section
variable {f_unused f_constant f_word f_target f_channel f_level f_prefix f_negate f_operate f_disableChannel f_disableTimer f_processCount f_channelCount f_length f_sealed f_timerHead f_running f_interrupted f_regA f_regB f_regC f_savedA f_savedB f_savedC f_operand f_clock f_faults : Int32} {a_ops a_xs a_ys a_sizes a_address a_bytes a_indexAt a_locals a_states a_priorities a_pointers a_branches a_deadlines a_held a_readyLink a_timerLink a_head a_tail a_writers a_readers a_counters : Nat → Int32}
theorem xw_count0 {post : SX → Prop} {k : Nat} {v : Int32} (hk : k < 8) (K : post (f_unused, f_constant, f_word, f_target, f_channel, f_level, f_prefix, f_negate, f_operate, f_disableChannel, f_disableTimer, f_processCount, f_channelCount, f_length, f_sealed, f_timerHead, f_running, f_interrupted, f_regA, f_regB, f_regC, f_savedA, f_savedB, f_savedC, f_operand, f_clock, f_faults, a_ops, a_xs, a_ys, a_sizes, a_address, a_bytes, a_indexAt, a_locals, a_states, a_priorities, a_pointers, a_branches, a_deadlines, a_held, a_readyLink, a_timerLink, a_head, a_tail, a_writers, a_readers, cs_f (k * 4) v a_counters)) : wpX_count post (f_unused, f_constant, f_word, f_target, f_channel, f_level, f_prefix, f_negate, f_operate, f_disableChannel, f_disableTimer, f_processCount, f_channelCount, f_length, f_sealed, f_timerHead, f_running, f_interrupted, f_regA, f_regB, f_regC, f_savedA, f_savedB, f_savedC, f_operand, f_clock, f_faults, a_ops, a_xs, a_ys, a_sizes, a_address, a_bytes, a_indexAt, a_locals, a_states, a_priorities, a_pointers, a_branches, a_deadlines, a_held, a_readyLink, a_timerLink, a_head, a_tail, a_writers, a_readers, a_counters) (nI k) 0 v := by
  simp only [wpX_count, ba_m4, Int32.add_zero, ba_a2, ba_32 (show k * 4 < 32 by omega), ba_c32 (show k * 4 < 32 by omega), ba_32 (show k * 4 + 2 < 32 by omega), ba_c32 (show k * 4 + 2 < 32 by omega), forall_eq, true_implies, false_implies, not_true_eq_false, not_false_eq_true, and_true, true_and, implies_true]
  exact K
theorem xw_count1 {post : SX → Prop} {k : Nat} {v : Int32} (hk : k < 8) (K : post (f_unused, f_constant, f_word, f_target, f_channel, f_level, f_prefix, f_negate, f_operate, f_disableChannel, f_disableTimer, f_processCount, f_channelCount, f_length, f_sealed, f_timerHead, f_running, f_interrupted, f_regA, f_regB, f_regC, f_savedA, f_savedB, f_savedC, f_operand, f_clock, f_faults, a_ops, a_xs, a_ys, a_sizes, a_address, a_bytes, a_indexAt, a_locals, a_states, a_priorities, a_pointers, a_branches, a_deadlines, a_held, a_readyLink, a_timerLink, a_head, a_tail, a_writers, a_readers, cs_f (k * 4 + 1) v a_counters)) : wpX_count post (f_unused, f_constant, f_word, f_target, f_channel, f_level, f_prefix, f_negate, f_operate, f_disableChannel, f_disableTimer, f_processCount, f_channelCount, f_length, f_sealed, f_timerHead, f_running, f_interrupted, f_regA, f_regB, f_regC, f_savedA, f_savedB, f_savedC, f_operand, f_clock, f_faults, a_ops, a_xs, a_ys, a_sizes, a_address, a_bytes, a_indexAt, a_locals, a_states, a_priorities, a_pointers, a_branches, a_deadlines, a_held, a_readyLink, a_timerLink, a_head, a_tail, a_writers, a_readers, a_counters) (nI k) 1 v := by
  simp only [wpX_count, ba_m4, nI_1, ba_a2, ba_32 (show k * 4 + 1 < 32 by omega), ba_c32 (show k * 4 + 1 < 32 by omega), ba_32 (show k * 4 + 1 + 2 < 32 by omega), ba_c32 (show k * 4 + 1 + 2 < 32 by omega), forall_eq, true_implies, false_implies, not_true_eq_false, not_false_eq_true, and_true, true_and, implies_true]
  exact K
end
section
variable {N C L B c r : Nat} {ad : Nat → Nat} {x y w : Int32}
variable {f_unused f_constant f_word f_target f_channel f_level f_prefix f_negate f_operate f_disableChannel f_disableTimer f_processCount f_channelCount f_length f_sealed f_timerHead f_running f_interrupted f_regA f_regB f_regC f_savedA f_savedB f_savedC f_operand f_clock f_faults : Int32} {a_ops a_xs a_ys a_sizes a_address a_bytes a_indexAt a_locals a_states a_priorities a_pointers a_branches a_deadlines a_held a_readyLink a_timerLink a_head a_tail a_writers a_readers a_counters : Nat → Int32}
variable {g_length g_procs g_chans g_clock g_faults g_sealed : Int32} {g_nextTicket : Int64} {b_ops b_xs b_ys b_st b_prio b_pos b_ra b_rb b_rc b_words b_chan b_held b_named b_wake b_open b_guard b_timer b_chosen b_sent b_received b_sentFold b_receivedFold : Nat → Int32} {b_ticket : Nat → Int64}
theorem dy_end {px py : Int32} (hN : N ≤ 8) (hC : C ≤ 8) (hr : r < 8) (H : rl_dy N C L B c ad (nI r) f_interrupted f_regA f_regB f_regC f_savedA f_savedB f_savedC f_timerHead a_states a_priorities a_pointers a_branches a_deadlines a_held a_readyLink a_timerLink a_head a_tail a_writers a_readers a_counters g_nextTicket b_pos b_ra b_rb b_rc b_chan b_held b_named b_wake b_open b_guard b_timer b_chosen b_ticket b_sent b_received b_sentFold b_receivedFold) : rl_dy N C L B c ad (-1) f_interrupted 0 0 0 f_savedA f_savedB f_savedC f_timerHead (upd a_states r 0) a_priorities (upd a_pointers r py) (upd a_branches r (-2)) (upd a_deadlines r (-1)) a_held a_readyLink a_timerLink a_head a_tail a_writers (rd_f r C a_readers) a_counters g_nextTicket (upd b_pos r px) (upd b_ra r 0) (upd b_rb r 0) (upd b_rc r 0) b_chan b_held b_named b_wake (upd b_open r 0) (zr_f r 8 b_guard) (upd b_timer r (-1)) (upd b_chosen r (-1)) b_ticket b_sent b_received b_sentFold b_receivedFold := by
  obtain ⟨hrN, g, _, ea, eb, ec⟩ := pr_at hN hr H.1
  have h3 : a_states r ≠ 3 := by rw [g]; decide
  have h4 : a_states r ≠ 4 := by rw [g]; decide
  have h5 : a_states r ≠ 5 := by rw [g]; decide
  have h6 : a_states r ≠ 6 := by rw [g]; decide
  have h7 : a_states r ≠ 7 := by rw [g]; decide
  obtain ⟨H1, H2, H3, H4, H5, H6, H7, H8, H9⟩ := H
  refine ⟨pr_susp hN hr (by decide) (by decide) (pr_regs hN hr H1), qu_set h3 (by decide) H2, tm_set h6 (Or.inl h7) (by decide) (Or.inl (by decide)) H3, ch_st h4 h5 (by decide) (by decide) (ch_close hC hN hrN g H4), po_end H5, ?_, he_st (by decide) (by decide) H7, H8, H9⟩
  refine al_pt (r := r) H6 (fun p hp => ⟨pk_un hp, pk_un hp, pk_un hp, pk_un hp, pk_un hp, rfl, pk_un hp⟩) ?_
  simp only [pk_us]
  exact Or.inl ⟨rfl, rfl, by decide, fun z => absurd z (by decide), fun _ => rfl⟩
theorem dy_fault (hN : N ≤ 8) (hC : C ≤ 8) (hr : r < 8) (H : rl_dy N C L B c ad (nI r) f_interrupted f_regA f_regB f_regC f_savedA f_savedB f_savedC f_timerHead a_states a_priorities a_pointers a_branches a_deadlines a_held a_readyLink a_timerLink a_head a_tail a_writers a_readers a_counters g_nextTicket b_pos b_ra b_rb b_rc b_chan b_held b_named b_wake b_open b_guard b_timer b_chosen b_ticket b_sent b_received b_sentFold b_receivedFold) : rl_dy N C L B c ad (-1) f_interrupted 0 0 0 f_savedA f_savedB f_savedC f_timerHead (upd a_states r 0) a_priorities a_pointers (upd a_branches r (-2)) (upd a_deadlines r (-1)) a_held a_readyLink a_timerLink a_head a_tail a_writers (rd_f r C a_readers) a_counters g_nextTicket b_pos (upd b_ra r 0) (upd b_rb r 0) (upd b_rc r 0) b_chan b_held b_named b_wake (upd b_open r 0) (zr_f r 8 b_guard) (upd b_timer r (-1)) (upd b_chosen r (-1)) b_ticket b_sent b_received b_sentFold b_receivedFold := by
  have h := dy_end (px := b_pos r) (py := a_pointers r) hN hC hr H
  rw [ba_us, ba_us] at h
  exact h
theorem op_end {px py : Int32} (hN : N ≤ 8) (hC : C ≤ 8) (hr : r < 8) (H : rl_dy N C L B c ad (nI r) f_interrupted f_regA f_regB f_regC f_savedA f_savedB f_savedC f_timerHead a_states a_priorities a_pointers a_branches a_deadlines a_held a_readyLink a_timerLink a_head a_tail a_writers a_readers a_counters g_nextTicket b_pos b_ra b_rb b_rc b_chan b_held b_named b_wake b_open b_guard b_timer b_chosen b_ticket b_sent b_received b_sentFold b_receivedFold) : jo_R N C L B c ad f_sealed a_ops a_xs a_ys a_address a_bytes a_indexAt (fun post => wpX_execute post (f_unused, f_constant, f_word, f_target, f_channel, f_level, f_prefix, f_negate, f_operate, f_disableChannel, f_disableTimer, nI N, nI C, nI L, f_sealed, f_timerHead, nI r, f_interrupted, f_regA, f_regB, f_regC, f_savedA, f_savedB, f_savedC, w, nI c, f_faults, a_ops, a_xs, a_ys, a_sizes, a_address, a_bytes, a_indexAt, a_locals, a_states, a_priorities, upd a_pointers r py, a_branches, a_deadlines, a_held, a_readyLink, a_timerLink, a_head, a_tail, a_writers, a_readers, a_counters) 9) (fun post => wpY_plain post (nI L, nI N, nI C, nI c, f_faults, f_sealed, g_nextTicket, a_ops, a_xs, a_ys, a_states, a_priorities, upd b_pos r px, b_ra, b_rb, b_rc, a_locals, b_chan, b_held, b_named, b_wake, b_open, b_guard, b_timer, b_chosen, b_ticket, b_sent, b_received, b_sentFold, b_receivedFold) (nI r) 9 x y) := by
  refine ⟨(f_unused, f_constant, f_word, f_target, f_channel, f_level, f_prefix, f_negate, f_operate, f_disableChannel, f_disableTimer, nI N, nI C, nI L, f_sealed, f_timerHead, -1, f_interrupted, 0, 0, 0, f_savedA, f_savedB, f_savedC, w, nI c, f_faults, a_ops, a_xs, a_ys, a_sizes, a_address, a_bytes, a_indexAt, a_locals, upd a_states r 0, a_priorities, upd a_pointers r py, upd a_branches r (-2), upd a_deadlines r (-1), a_held, a_readyLink, a_timerLink, a_head, a_tail, a_writers, rd_f r C a_readers, a_counters), (nI L, nI N, nI C, nI c, f_faults, f_sealed, g_nextTicket, a_ops, a_xs, a_ys, upd a_states r 0, a_priorities, upd b_pos r px, upd b_ra r 0, upd b_rb r 0, upd b_rc r 0, a_locals, b_chan, b_held, b_named, b_wake, upd b_open r 0, zr_f r 8 b_guard, upd b_timer r (-1), upd b_chosen r (-1), b_ticket, b_sent, b_received, b_sentFold, b_receivedFold), rl_in (dy_end hN hC hr H), fun post K => ?_, fun post K => ?_⟩
  · simp +decide only [wpX_execute, wpX_control, forall_eq, true_implies, false_implies, not_true_eq_false, not_false_eq_true, and_true, true_and, implies_true]
    exact xw_end hC hr K
  · refine br_f (by decide) <| br_f (by decide) <| br_f (by decide) <| br_f (by decide) <| br_f (by decide) <| br_f (by decide) <| br_f (by decide) <| br_f (by decide) <| br_f (by decide) <|  br_t rfl ?_
    exact yw_end hr (yq_266 (by decide) K)
theorem op_j {j k : Nat} {px : Int32} (hN : N ≤ 8) (hC : C ≤ 8) (hr : r < 8) (H : rl_dy N C L B c ad (nI r) f_interrupted f_regA f_regB f_regC f_savedA f_savedB f_savedC f_timerHead a_states a_priorities a_pointers a_branches a_deadlines a_held a_readyLink a_timerLink a_head a_tail a_writers a_readers a_counters g_nextTicket b_pos b_ra b_rb b_rc b_chan b_held b_named b_wake b_open b_guard b_timer b_chosen b_ticket b_sent b_received b_sentFold b_receivedFold) (hk : k < L) (hw : w = nI (ad k) - nI (ad j)) (hx : x = nI k) : jo_R N C L (B + 1) c ad f_sealed a_ops a_xs a_ys a_address a_bytes a_indexAt (fun post => wpX_execute post (f_unused, f_constant, f_word, f_target, f_channel, f_level, f_prefix, f_negate, f_operate, f_disableChannel, f_disableTimer, nI N, nI C, nI L, f_sealed, f_timerHead, nI r, f_interrupted, f_regA, f_regB, f_regC, f_savedA, f_savedB, f_savedC, w, nI c, f_faults, a_ops, a_xs, a_ys, a_sizes, a_address, a_bytes, a_indexAt, a_locals, a_states, a_priorities, upd a_pointers r (nI (ad j)), a_branches, a_deadlines, a_held, a_readyLink, a_timerLink, a_head, a_tail, a_writers, a_readers, a_counters) 6) (fun post => wpY_plain post (nI L, nI N, nI C, nI c, f_faults, f_sealed, g_nextTicket, a_ops, a_xs, a_ys, a_states, a_priorities, upd b_pos r px, b_ra, b_rb, b_rc, a_locals, b_chan, b_held, b_named, b_wake, b_open, b_guard, b_timer, b_chosen, b_ticket, b_sent, b_received, b_sentFold, b_receivedFold) (nI r) 6 x y) := by
  obtain ⟨hrN, g, _, ea, eb, ec⟩ := pr_at hN hr H.1
  subst hx
  have e : nI (ad j) + w = nI (ad k) := by rw [hw]; grind
  have h3 : a_states r ≠ 3 := by rw [g]; decide
  have h4 : a_states r ≠ 4 := by rw [g]; decide
  have h5 : a_states r ≠ 5 := by rw [g]; decide
  have h6 : a_states r ≠ 6 := by rw [g]; decide
  have h7 : a_states r ≠ 7 := by rw [g]; decide
  obtain ⟨H1, H2, H3, H4, H5, H6, H7, H8, H9⟩ := H
  by_cases z : a_priorities r = 1
  · obtain ⟨hd, tl, lk, Q, W⟩ := xw_ready (f_unused := f_unused) (f_constant := f_constant) (f_word := f_word) (f_target := f_target) (f_channel := f_channel) (f_level := f_level) (f_prefix := f_prefix) (f_negate := f_negate) (f_operate := f_operate) (f_disableChannel := f_disableChannel) (f_disableTimer := f_disableTimer) (f_processCount := nI N) (f_channelCount := nI C) (f_length := nI L) (f_sealed := f_sealed) (f_timerHead := f_timerHead) (f_running := -1) (f_interrupted := f_interrupted) (f_regA := 0) (f_regB := 0) (f_regC := 0) (f_savedA := f_savedA) (f_savedB := f_savedB) (f_savedC := f_savedC) (f_operand := w) (f_clock := nI c) (f_faults := f_faults) (a_ops := a_ops) (a_xs := a_xs) (a_ys := a_ys) (a_sizes := a_sizes) (a_address := a_address) (a_bytes := a_bytes) (a_indexAt := a_indexAt) (a_locals := a_locals) (a_states := a_states) (a_priorities := a_priorities) (a_pointers := upd a_pointers r (nI (ad k))) (a_branches := a_branches) (a_deadlines := a_deadlines) (a_held := a_held) (a_readyLink := a_readyLink) (a_timerLink := a_timerLink) (a_head := a_head) (a_tail := a_tail) (a_writers := a_writers) (a_readers := a_readers) (a_counters := a_counters) (k := 1) hN (by decide) hrN h3 z H2
    refine ⟨(f_unused, f_constant, f_word, f_target, f_channel, f_level, f_prefix, f_negate, f_operate, f_disableChannel, f_disableTimer, nI N, nI C, nI L, f_sealed, f_timerHead, -1, f_interrupted, 0, 0, 0, f_savedA, f_savedB, f_savedC, w, nI c, f_faults, a_ops, a_xs, a_ys, a_sizes, a_address, a_bytes, a_indexAt, a_locals, upd a_states r 3, a_priorities, upd a_pointers r (nI (ad k)), a_branches, a_deadlines, a_held, lk, a_timerLink, hd, tl, a_writers, a_readers, a_counters), (nI L, nI N, nI C, nI c, f_faults, f_sealed, g_nextTicket + 1, a_ops, a_xs, a_ys, upd a_states r 3, a_priorities, upd b_pos r (nI k), upd b_ra r 0, upd b_rb r 0, upd b_rc r 0, a_locals, b_chan, b_held, b_named, b_wake, b_open, b_guard, b_timer, b_chosen, vp_updL b_ticket r g_nextTicket, b_sent, b_received, b_sentFold, b_receivedFold), rl_in ⟨pr_susp hN hr (by decide) (by decide) (pr_regs hN hr H1), Q, tm_st h6 (Or.inl h7) (by decide) (Or.inl (by decide)) H3, ch_st h4 h5 (by decide) (by decide) H4, po_new hk H5, al_st H6 (al_run h6 (Or.inr (Or.inr rfl)) (H6 r hrN)), he_st (by decide) (by decide) H7, H8, H9⟩, fun post K => ?_, fun post K => ?_⟩
    · simp +decide only [wpX_execute, wpX_control, wpX_jump, wpX_clear, ba_v hr, ba_c hr, z, pk_us, e, ba_uu, forall_eq, true_implies, false_implies, not_true_eq_false, not_false_eq_true, and_true, true_and, implies_true]
      exact W _ K
    · refine br_f (by decide) <| br_f (by decide) <| br_f (by decide) <| br_f (by decide) <| br_f (by decide) <| br_f (by decide) <|  br_t rfl ?_
      simp only [wpY_clear, wpY_ready, ba_v hr, ba_c hr, z, ba_uu, forall_eq, true_implies, false_implies, not_true_eq_false, not_false_eq_true, and_true, true_and, implies_true]
      exact yq_196 (by decide) K
  · refine ⟨(f_unused, f_constant, f_word, f_target, f_channel, f_level, f_prefix, f_negate, f_operate, f_disableChannel, f_disableTimer, nI N, nI C, nI L, f_sealed, f_timerHead, nI r, f_interrupted, 0, 0, 0, f_savedA, f_savedB, f_savedC, w, nI c, f_faults, a_ops, a_xs, a_ys, a_sizes, a_address, a_bytes, a_indexAt, a_locals, a_states, a_priorities, upd a_pointers r (nI (ad k)), a_branches, a_deadlines, a_held, a_readyLink, a_timerLink, a_head, a_tail, a_writers, a_readers, a_counters), (nI L, nI N, nI C, nI c, f_faults, f_sealed, g_nextTicket, a_ops, a_xs, a_ys, a_states, a_priorities, upd b_pos r (nI k), upd b_ra r 0, upd b_rb r 0, upd b_rc r 0, a_locals, b_chan, b_held, b_named, b_wake, b_open, b_guard, b_timer, b_chosen, b_ticket, b_sent, b_received, b_sentFold, b_receivedFold), rl_in ⟨pr_regs hN hr H1, qu_mono (by omega) H2, H3, H4, po_set hk H5, H6, H7, H8, H9⟩, fun post K => ?_, fun post K => ?_⟩
    · simp +decide only [wpX_execute, wpX_control, wpX_jump, wpX_clear, ba_v hr, ba_c hr, z, pk_us, e, ba_uu, forall_eq, true_implies, false_implies, not_true_eq_false, not_false_eq_true, and_true, true_and, implies_true]
      exact K
    · refine br_f (by decide) <| br_f (by decide) <| br_f (by decide) <| br_f (by decide) <| br_f (by decide) <| br_f (by decide) <|  br_t rfl ?_
      simp only [wpY_clear, wpY_ready, ba_v hr, ba_c hr, z, ba_uu, forall_eq, true_implies, false_implies, not_true_eq_false, not_false_eq_true, and_true, true_and, implies_true]
      exact yq_196 (by decide) K
/-- a new process q, on both sides -/
theorem dy_start {q k m : Nat} {hd tl lk : Nat → Int32} (hN : N ≤ 8) (hC : C ≤ 8) (hq : q < N) (g : a_states q = 0) (hm : m < 2) (hk : k < L) (H : rl_dy N C L B c ad f_running f_interrupted f_regA f_regB f_regC f_savedA f_savedB f_savedC f_timerHead a_states a_priorities a_pointers a_branches a_deadlines a_held a_readyLink a_timerLink a_head a_tail a_writers a_readers a_counters g_nextTicket b_pos b_ra b_rb b_rc b_chan b_held b_named b_wake b_open b_guard b_timer b_chosen b_ticket b_sent b_received b_sentFold b_receivedFold) (Q : rl_qu N (B + 1) (upd a_states q 3) (upd a_priorities q (nI m)) (vp_updL b_ticket q g_nextTicket) (g_nextTicket + 1) hd tl lk) :
    rl_dy N C L (B + 1) c ad f_running f_interrupted f_regA f_regB f_regC f_savedA f_savedB f_savedC f_timerHead (upd a_states q 3) (upd a_priorities q (nI m)) (upd a_pointers q (nI (ad k))) a_branches a_deadlines a_held lk a_timerLink hd tl a_writers a_readers a_counters (g_nextTicket + 1) (upd b_pos q (nI k)) (upd b_ra q 0) (upd b_rb q 0) (upd b_rc q 0) b_chan b_held b_named b_wake (upd b_open q 0) (zr_f q 8 b_guard) (upd b_timer q (-1)) (upd b_chosen q (-1)) (vp_updL b_ticket q g_nextTicket) b_sent b_received b_sentFold b_receivedFold := by
  obtain ⟨H1, H2, H3, H4, H5, H6, H7, H8, H9⟩ := H
  have g1 : a_states q ≠ 1 := by rw [g]; decide
  have g2 : a_states q ≠ 2 := by rw [g]; decide
  have g3 : a_states q ≠ 3 := by rw [g]; decide
  have g4 : a_states q ≠ 4 := by rw [g]; decide
  have g5 : a_states q ≠ 5 := by rw [g]; decide
  have g6 : a_states q ≠ 6 := by rw [g]; decide
  have g7 : a_states q ≠ 7 := by rw [g]; decide
  have A := H6 q hq
  have o0 := al_shut0 g1 g2 g3 g7 A
  refine ⟨pr_frame g1 g2 (by decide) (by decide) (pr_prio g1 (pr_clr g1 g2 H1)), Q, tm_st g6 (Or.inl g7) (by decide) (Or.inl (by decide)) H3, ch_st g4 g5 (by decide) (by decide) (ch_op hC g5 o0 H4), po_new hk H5, ?_, he_st (by decide) (by decide) H7, H8, pi_set hm H9⟩
  refine al_pt (r := q) H6 (fun p hp => ⟨pk_un hp, pk_un hp, pk_un hp, rfl, pk_un hp, rfl, rfl⟩) ?_
  simp only [pk_us]
  rcases A with ⟨_, h2, _, _, h5⟩ | ⟨h1, _⟩
  · exact Or.inl ⟨rfl, h2, by decide, fun z => absurd z (by decide), fun _ => h5 g6⟩
  · rw [o0] at h1
    exact absurd h1 (by decide)
theorem op_start {j k m : Nat} (hN : N ≤ 8) (hC : C ≤ 8) (hr : r < 8) (H : rl_dy N C L B c ad (nI r) f_interrupted f_regA f_regB f_regC f_savedA f_savedB f_savedC f_timerHead a_states a_priorities a_pointers a_branches a_deadlines a_held a_readyLink a_timerLink a_head a_tail a_writers a_readers a_counters g_nextTicket b_pos b_ra b_rb b_rc b_chan b_held b_named b_wake b_open b_guard b_timer b_chosen b_ticket b_sent b_received b_sentFold b_receivedFold) (hk : k < L) (hm : m < 2) (hp : a_pointers r = nI (ad j)) (hw : w >>> ((1 : Int32) &&& 31) = nI (ad k) - nI (ad j)) (hw2 : w &&& 1 = nI m) (hx : x = nI k) (hy : y = nI m) : jo_R N C L (B + 1) c ad f_sealed a_ops a_xs a_ys a_address a_bytes a_indexAt (fun post => wpX_execute post (f_unused, f_constant, f_word, f_target, f_channel, f_level, f_prefix, f_negate, f_operate, f_disableChannel, f_disableTimer, nI N, nI C, nI L, f_sealed, f_timerHead, nI r, f_interrupted, f_regA, f_regB, f_regC, f_savedA, f_savedB, f_savedC, w, nI c, f_faults, a_ops, a_xs, a_ys, a_sizes, a_address, a_bytes, a_indexAt, a_locals, a_states, a_priorities, a_pointers, a_branches, a_deadlines, a_held, a_readyLink, a_timerLink, a_head, a_tail, a_writers, a_readers, a_counters) 8) (fun post => wpY_plain post (nI L, nI N, nI C, nI c, f_faults, f_sealed, g_nextTicket, a_ops, a_xs, a_ys, a_states, a_priorities, b_pos, b_ra, b_rb, b_rc, a_locals, b_chan, b_held, b_named, b_wake, b_open, b_guard, b_timer, b_chosen, b_ticket, b_sent, b_received, b_sentFold, b_receivedFold) (nI r) 8 x y) := by
  obtain ⟨hrN, g, _, ea, eb, ec⟩ := pr_at hN hr H.1
  subst hx hy
  have e : nI (ad j) + (nI (ad k) - nI (ad j)) = nI (ad k) := by grind
  obtain ⟨p, hp0, hX, hY⟩ := jw_free (f_unused := f_unused) (f_constant := f_constant) (f_word := f_word) (f_target := f_target) (f_channel := f_channel) (f_level := f_level) (f_prefix := f_prefix) (f_negate := f_negate) (f_operate := f_operate) (f_disableChannel := f_disableChannel) (f_disableTimer := f_disableTimer) (f_channelCount := nI C) (f_length := nI L) (f_sealed := f_sealed) (f_timerHead := f_timerHead) (f_running := nI r) (f_interrupted := f_interrupted) (f_regA := f_regA) (f_regB := f_regB) (f_regC := f_regC) (f_savedA := f_savedA) (f_savedB := f_savedB) (f_savedC := f_savedC) (f_operand := w) (f_clock := nI c) (f_faults := f_faults) (a_ops := a_ops) (a_xs := a_xs) (a_ys := a_ys) (a_sizes := a_sizes) (a_address := a_address) (a_bytes := a_bytes) (a_indexAt := a_indexAt) (a_locals := a_locals) (a_states := a_states) (a_priorities := a_priorities) (a_pointers := a_pointers) (a_branches := a_branches) (a_deadlines := a_deadlines) (a_held := a_held) (a_readyLink := a_readyLink) (a_timerLink := a_timerLink) (a_head := a_head) (a_tail := a_tail) (a_writers := a_writers) (a_readers := a_readers) (a_counters := a_counters) (g_length := nI L) (g_chans := nI C) (g_clock := nI c) (g_faults := f_faults) (g_sealed := f_sealed) (g_nextTicket := g_nextTicket) (b_ops := a_ops) (b_xs := a_xs) (b_ys := a_ys) (b_prio := a_priorities) (b_pos := b_pos) (b_ra := b_ra) (b_rb := b_rb) (b_rc := b_rc) (b_words := a_locals) (b_chan := b_chan) (b_held := b_held) (b_named := b_named) (b_wake := b_wake) (b_open := b_open) (b_guard := b_guard) (b_timer := b_timer) (b_chosen := b_chosen) (b_ticket := b_ticket) (b_sent := b_sent) (b_received := b_received) (b_sentFold := b_sentFold) (b_receivedFold := b_receivedFold) (N := N) hN
  rcases hp0 with ⟨rfl, none⟩ | ⟨q, hq, rfl, g0⟩
  · refine ⟨(f_unused, f_constant, f_word, f_target, f_channel, f_level, f_prefix, f_negate, f_operate, f_disableChannel, f_disableTimer, nI N, nI C, nI L, f_sealed, f_timerHead, nI r, f_interrupted, -1, f_regB, f_regC, f_savedA, f_savedB, f_savedC, w, nI c, f_faults, a_ops, a_xs, a_ys, a_sizes, a_address, a_bytes, a_indexAt, a_locals, a_states, a_priorities, a_pointers, a_branches, a_deadlines, a_held, a_readyLink, a_timerLink, a_head, a_tail, a_writers, a_readers, a_counters), (nI L, nI N, nI C, nI c, f_faults, f_sealed, g_nextTicket, a_ops, a_xs, a_ys, a_states, a_priorities, b_pos, upd b_ra r (-1), b_rb, b_rc, a_locals, b_chan, b_held, b_named, b_wake, b_open, b_guard, b_timer, b_chosen, b_ticket, b_sent, b_received, b_sentFold, b_receivedFold), rl_in ⟨pr_ra hN hr H.1, qu_mono (by omega) H.2.1, H.2.2⟩, fun post K => ?_, fun post K => ?_⟩
    · simp +decide only [wpX_execute, wpX_control, wpX_startChild, forall_eq, true_implies, false_implies, not_true_eq_false, not_false_eq_true, and_true, true_and, implies_true]
      refine hX _ ?_
      simp +decide only [forall_eq, true_implies, false_implies, not_true_eq_false, not_false_eq_true, and_true, true_and, implies_true]
      exact K
    · refine br_f (by decide) <| br_f (by decide) <| br_f (by decide) <| br_f (by decide) <| br_f (by decide) <| br_f (by decide) <| br_f (by decide) <| br_f (by decide) <|  br_t rfl (And.intro (ba_v hr) ?_)
      unfold wpY_start
      refine hY _ (br_f (by decide) ?_)
      simp only [ba_v hr, ba_c hr, forall_eq, true_implies, false_implies, not_true_eq_false, not_false_eq_true, and_true, true_and, implies_true]
      exact yq_255 (by decide) K
  · obtain ⟨hd, tl, lk, Q, W⟩ := xw_start (f_unused := f_unused) (f_constant := f_constant) (f_word := f_word) (f_target := f_target) (f_channel := f_channel) (f_level := f_level) (f_prefix := f_prefix) (f_negate := f_negate) (f_operate := f_operate) (f_disableChannel := f_disableChannel) (f_disableTimer := f_disableTimer) (f_processCount := nI N) (f_channelCount := nI C) (f_length := nI L) (f_sealed := f_sealed) (f_timerHead := f_timerHead) (f_running := nI r) (f_interrupted := f_interrupted) (f_regA := f_regA) (f_regB := f_regB) (f_regC := f_regC) (f_savedA := f_savedA) (f_savedB := f_savedB) (f_savedC := f_savedC) (f_operand := w) (f_clock := nI c) (f_faults := f_faults) (a_ops := a_ops) (a_xs := a_xs) (a_ys := a_ys) (a_sizes := a_sizes) (a_address := a_address) (a_bytes := a_bytes) (a_indexAt := a_indexAt) (a_locals := a_locals) (a_states := a_states) (a_priorities := a_priorities) (a_pointers := a_pointers) (a_branches := a_branches) (a_deadlines := a_deadlines) (a_held := a_held) (a_readyLink := a_readyLink) (a_timerLink := a_timerLink) (a_head := a_head) (a_tail := a_tail) (a_writers := a_writers) (a_readers := a_readers) (a_counters := a_counters) (k := m) (q := q) (x2 := nI (ad k)) (x4 := f_regA) hN hm hq g0 H.2.1
    have nqr : r ≠ q := fun h => by
      rw [h, g0] at g
      exact absurd g (by decide)
    have D1 := dy_start (f_running := nI r) hN hC hq g0 hm hk H Q
    refine ⟨(f_unused, f_constant, f_word, f_target, f_channel, f_level, f_prefix, f_negate, f_operate, f_disableChannel, f_disableTimer, nI N, nI C, nI L, f_sealed, f_timerHead, nI r, f_interrupted, nI q, f_regB, f_regC, f_savedA, f_savedB, f_savedC, w, nI c, f_faults, a_ops, a_xs, a_ys, a_sizes, a_address, a_bytes, a_indexAt, upd (zr_f q 8 a_locals) (q * 8) f_regA, upd a_states q 3, upd a_priorities q (nI m), upd a_pointers q (nI (ad k)), a_branches, a_deadlines, a_held, lk, a_timerLink, hd, tl, a_writers, a_readers, a_counters), (nI L, nI N, nI C, nI c, f_faults, f_sealed, g_nextTicket + 1, a_ops, a_xs, a_ys, upd a_states q 3, upd a_priorities q (nI m), upd b_pos q (nI k), upd (upd b_ra q 0) r (nI q), upd b_rb q 0, upd b_rc q 0, upd (zr_f q 8 a_locals) (q * 8) f_regA, b_chan, b_held, b_named, b_wake, upd b_open q 0, zr_f q 8 b_guard, upd b_timer q (-1), upd b_chosen q (-1), vp_updL b_ticket q g_nextTicket, b_sent, b_received, b_sentFold, b_receivedFold), rl_in ⟨pr_ra hN hr D1.1, D1.2⟩, fun post K => ?_, fun post K => ?_⟩
    · simp +decide only [wpX_execute, wpX_control, wpX_startChild, forall_eq, true_implies, false_implies, not_true_eq_false, not_false_eq_true, and_true, true_and, implies_true]
      refine hX _ (br_f (ba_p (by omega)) ?_)
      simp only [ba_v hr, ba_c hr, hp, hw, hw2, e, forall_eq, true_implies, false_implies, not_true_eq_false, not_false_eq_true, and_true, true_and, implies_true]
      exact W _ K
    · refine br_f (by decide) <| br_f (by decide) <| br_f (by decide) <| br_f (by decide) <| br_f (by decide) <| br_f (by decide) <| br_f (by decide) <| br_f (by decide) <|  br_t rfl (And.intro (ba_v hr) ?_)
      simp only [ba_c hr, ea]
      refine yw_start (show q < 8 by omega) hY ?_
      simp only [ba_v hr, ba_c hr, forall_eq, true_implies, false_implies, not_true_eq_false, not_false_eq_true, and_true, true_and, implies_true]
      exact yq_255 (by decide) K
end
end
section
/-! words sent and received, delays: each side by itself -/
section
variable {f_unused f_constant f_word f_target f_channel f_level f_prefix f_negate f_operate f_disableChannel f_disableTimer f_processCount f_channelCount f_length f_sealed f_timerHead f_running f_interrupted f_regA f_regB f_regC f_savedA f_savedB f_savedC f_operand f_clock f_faults : Int32} {a_ops a_xs a_ys a_sizes a_address a_bytes a_indexAt a_locals a_states a_priorities a_pointers a_branches a_deadlines a_held a_readyLink a_timerLink a_head a_tail a_writers a_readers a_counters : Nat → Int32}
theorem xo_fault {post : SX → Prop} {C r k : Nat} (hC : C ≤ 8) (hr : r < 8) (hk : k < 8) (h : ¬ a_branches r = -2 ∨ ¬ a_writers k < 0) (K : post (f_unused, f_constant, f_word, f_target, f_channel, f_level, f_prefix, f_negate, f_operate, f_disableChannel, f_disableTimer, f_processCount, nI C, f_length, f_sealed, f_timerHead, -1, f_interrupted, 0, 0, 0, f_savedA, f_savedB, f_savedC, f_operand, f_clock, f_faults + 1, a_ops, a_xs, a_ys, a_sizes, a_address, a_bytes, a_indexAt, a_locals, upd a_states r 0, a_priorities, a_pointers, upd a_branches r (-2), upd a_deadlines r (-1), a_held, a_readyLink, a_timerLink, a_head, a_tail, a_writers, rd_f r C a_readers, a_counters)) : wpX_output post (f_unused, f_constant, f_word, f_target, f_channel, f_level, f_prefix, f_negate, f_operate, f_disableChannel, f_disableTimer, f_processCount, nI C, f_length, f_sealed, f_timerHead, nI r, f_interrupted, f_regA, f_regB, f_regC, f_savedA, f_savedB, f_savedC, f_operand, f_clock, f_faults, a_ops, a_xs, a_ys, a_sizes, a_address, a_bytes, a_indexAt, a_locals, a_states, a_priorities, a_pointers, a_branches, a_deadlines, a_held, a_readyLink, a_timerLink, a_head, a_tail, a_writers, a_readers, a_counters) (nI k) := by
  by_cases hb : a_branches r = -2
  · have hw : ¬ a_writers k < 0 := h.resolve_left (fun z => z hb)
    simp only [wpX_output, wX_output_23, ba_v hr, ba_c hr, ba_v hk, ba_c hk, hb, hw, forall_eq, true_implies, false_implies, not_true_eq_false, not_false_eq_true, and_true, true_and, implies_true]
    exact xw_fault hC hr K
  · simp only [wpX_output, wX_output_23, ba_v hr, ba_c hr, ba_v hk, ba_c hk, hb, forall_eq, true_implies, false_implies, not_true_eq_false, not_false_eq_true, and_true, true_and, implies_true]
    exact xw_fault hC hr K
theorem xo_none {post : SX → Prop} {r k : Nat} (hr : r < 8) (hk : k < 8) (hb : a_branches r = -2) (hw : a_writers k < 0) (hd : a_readers k < 0) (K : post (f_unused, f_constant, f_word, f_target, f_channel, f_level, f_prefix, f_negate, f_operate, f_disableChannel, f_disableTimer, f_processCount, f_channelCount, f_length, f_sealed, f_timerHead, -1, f_interrupted, 0, 0, 0, f_savedA, f_savedB, f_savedC, f_operand, f_clock, f_faults, a_ops, a_xs, a_ys, a_sizes, a_address, a_bytes, a_indexAt, a_locals, upd a_states r 4, a_priorities, a_pointers, a_branches, a_deadlines, upd a_held r f_regA, a_readyLink, a_timerLink, a_head, a_tail, upd a_writers k (nI r), a_readers, cs_f (k * 4) f_regA a_counters)) : wpX_output post (f_unused, f_constant, f_word, f_target, f_channel, f_level, f_prefix, f_negate, f_operate, f_disableChannel, f_disableTimer, f_processCount, f_channelCount, f_length, f_sealed, f_timerHead, nI r, f_interrupted, f_regA, f_regB, f_regC, f_savedA, f_savedB, f_savedC, f_operand, f_clock, f_faults, a_ops, a_xs, a_ys, a_sizes, a_address, a_bytes, a_indexAt, a_locals, a_states, a_priorities, a_pointers, a_branches, a_deadlines, a_held, a_readyLink, a_timerLink, a_head, a_tail, a_writers, a_readers, a_counters) (nI k) := by
  simp only [wpX_output, wpX_clear, ba_v hr, ba_c hr, ba_v hk, ba_c hk, hb, hw, hd, forall_eq, true_implies, false_implies, not_true_eq_false, not_false_eq_true, and_true, true_and, implies_true]
  refine xw_count0 hk ?_
  simp only [wX_output_102, wpX_suspend, ba_v hr, ba_c hr, ba_v hk, ba_c hk, hd, forall_eq, true_implies, false_implies, not_true_eq_false, not_false_eq_true, and_true, true_and, implies_true]
  exact K
theorem xo_idle {post : SX → Prop} {r k o : Nat} (hr : r < 8) (hk : k < 8) (ho : o < 8) (hor : o ≠ r) (hb : a_branches r = -2) (hw : a_writers k < 0) (hd : a_readers k = nI o) (h5 : ¬ a_states o = 5) (h7 : ¬ a_states o = 7) (K : post (f_unused, f_constant, f_word, f_target, f_channel, f_level, f_prefix, f_negate, f_operate, f_disableChannel, f_disableTimer, f_processCount, f_channelCount, f_length, f_sealed, f_timerHead, -1, f_interrupted, 0, 0, 0, f_savedA, f_savedB, f_savedC, f_operand, f_clock, f_faults, a_ops, a_xs, a_ys, a_sizes, a_address, a_bytes, a_indexAt, a_locals, upd a_states r 4, a_priorities, a_pointers, a_branches, a_deadlines, upd a_held r f_regA, a_readyLink, a_timerLink, a_head, a_tail, upd a_writers k (nI r), a_readers, cs_f (k * 4) f_regA a_counters)) : wpX_output post (f_unused, f_constant, f_word, f_target, f_channel, f_level, f_prefix, f_negate, f_operate, f_disableChannel, f_disableTimer, f_processCount, f_channelCount, f_length, f_sealed, f_timerHead, nI r, f_interrupted, f_regA, f_regB, f_regC, f_savedA, f_savedB, f_savedC, f_operand, f_clock, f_faults, a_ops, a_xs, a_ys, a_sizes, a_address, a_bytes, a_indexAt, a_locals, a_states, a_priorities, a_pointers, a_branches, a_deadlines, a_held, a_readyLink, a_timerLink, a_head, a_tail, a_writers, a_readers, a_counters) (nI k) := by
  have z := ba_p ho
  simp only [wpX_output, wpX_clear, ba_v hr, ba_c hr, ba_v hk, ba_c hk, hb, hw, hd, forall_eq, true_implies, false_implies, not_true_eq_false, not_false_eq_true, and_true, true_and, implies_true]
  refine xw_count0 hk ?_
  simp only [wX_output_102, wpX_suspend, ba_v hr, ba_c hr, ba_v hk, ba_c hk, ba_v ho, ba_c ho, z, h5, h7, pk_un hor, forall_eq, true_implies, false_implies, not_true_eq_false, not_false_eq_true, and_true, true_and, implies_true]
  exact K
theorem xo_wake {post : SX → Prop} {r k o : Nat} {th : Int32} {tk hd tl lk : Nat → Int32} (hr : r < 8) (hk : k < 8) (ho : o < 8) (hor : o ≠ r) (hb : a_branches r = -2) (hw : a_writers k < 0) (hd0 : a_readers k = nI o) (h7 : a_states o = 7)
    (KT : ∀ post : SX → Prop, post (f_unused, f_constant, f_word, f_target, f_channel, f_level, f_prefix, f_negate, f_operate, f_disableChannel, f_disableTimer, f_processCount, f_channelCount, f_length, f_sealed, th, -1, f_interrupted, 0, 0, 0, f_savedA, f_savedB, f_savedC, f_operand, f_clock, f_faults, a_ops, a_xs, a_ys, a_sizes, a_address, a_bytes, a_indexAt, a_locals, upd a_states r 4, a_priorities, a_pointers, a_branches, a_deadlines, upd a_held r f_regA, a_readyLink, tk, a_head, a_tail, upd a_writers k (nI r), a_readers, cs_f (k * 4) f_regA a_counters) → wpX_leaveTimer post (f_unused, f_constant, f_word, f_target, f_channel, f_level, f_prefix, f_negate, f_operate, f_disableChannel, f_disableTimer, f_processCount, f_channelCount, f_length, f_sealed, f_timerHead, -1, f_interrupted, 0, 0, 0, f_savedA, f_savedB, f_savedC, f_operand, f_clock, f_faults, a_ops, a_xs, a_ys, a_sizes, a_address, a_bytes, a_indexAt, a_locals, upd a_states r 4, a_priorities, a_pointers, a_branches, a_deadlines, upd a_held r f_regA, a_readyLink, a_timerLink, a_head, a_tail, upd a_writers k (nI r), a_readers, cs_f (k * 4) f_regA a_counters) (nI o))
    (KR : ∀ post : SX → Prop, post (f_unused, f_constant, f_word, f_target, f_channel, f_level, f_prefix, f_negate, f_operate, f_disableChannel, f_disableTimer, f_processCount, f_channelCount, f_length, f_sealed, th, -1, f_interrupted, 0, 0, 0, f_savedA, f_savedB, f_savedC, f_operand, f_clock, f_faults, a_ops, a_xs, a_ys, a_sizes, a_address, a_bytes, a_indexAt, a_locals, upd (upd a_states r 4) o 3, a_priorities, a_pointers, a_branches, a_deadlines, upd a_held r f_regA, lk, tk, hd, tl, upd a_writers k (nI r), a_readers, cs_f (k * 4) f_regA a_counters) → wpX_ready post (f_unused, f_constant, f_word, f_target, f_channel, f_level, f_prefix, f_negate, f_operate, f_disableChannel, f_disableTimer, f_processCount, f_channelCount, f_length, f_sealed, th, -1, f_interrupted, 0, 0, 0, f_savedA, f_savedB, f_savedC, f_operand, f_clock, f_faults, a_ops, a_xs, a_ys, a_sizes, a_address, a_bytes, a_indexAt, a_locals, upd a_states r 4, a_priorities, a_pointers, a_branches, a_deadlines, upd a_held r f_regA, a_readyLink, tk, a_head, a_tail, upd a_writers k (nI r), a_readers, cs_f (k * 4) f_regA a_counters) (nI o))
    (K : post (f_unused, f_constant, f_word, f_target, f_channel, f_level, f_prefix, f_negate, f_operate, f_disableChannel, f_disableTimer, f_processCount, f_channelCount, f_length, f_sealed, th, -1, f_interrupted, 0, 0, 0, f_savedA, f_savedB, f_savedC, f_operand, f_clock, f_faults, a_ops, a_xs, a_ys, a_sizes, a_address, a_bytes, a_indexAt, a_locals, upd (upd a_states r 4) o 3, a_priorities, a_pointers, a_branches, a_deadlines, upd a_held r f_regA, lk, tk, hd, tl, upd a_writers k (nI r), a_readers, cs_f (k * 4) f_regA a_counters)) : wpX_output post (f_unused, f_constant, f_word, f_target, f_channel, f_level, f_prefix, f_negate, f_operate, f_disableChannel, f_disableTimer, f_processCount, f_channelCount, f_length, f_sealed, f_timerHead, nI r, f_interrupted, f_regA, f_regB, f_regC, f_savedA, f_savedB, f_savedC, f_operand, f_clock, f_faults, a_ops, a_xs, a_ys, a_sizes, a_address, a_bytes, a_indexAt, a_locals, a_states, a_priorities, a_pointers, a_branches, a_deadlines, a_held, a_readyLink, a_timerLink, a_head, a_tail, a_writers, a_readers, a_counters) (nI k) := by
  have z := ba_p ho
  have h5 : ¬ a_states o = 5 := by rw [h7]; decide
  simp only [wpX_output, wpX_clear, ba_v hr, ba_c hr, ba_v hk, ba_c hk, hb, hw, hd0, forall_eq, true_implies, false_implies, not_true_eq_false, not_false_eq_true, and_true, true_and, implies_true]
  refine xw_count0 hk ?_
  simp +decide only [wX_output_102, wpX_suspend, ba_v hr, ba_c hr, ba_v hk, ba_c hk, ba_v ho, ba_c ho, z, h7, pk_un hor, forall_eq, true_implies, false_implies, not_true_eq_false, not_false_eq_true, and_true, true_and, implies_true]
  refine KT _ ?_
  exact KR _ K
theorem xo_meet {post : SX → Prop} {r k o h : Nat} (hr : r < 8) (hk : k < 8) (ho : o < 8) (hh : h < 8) (hb : a_branches r = -2) (hw : a_writers k < 0) (hd : a_readers k = nI o) (h5 : a_states o = 5) (eh : a_held o = nI h) (K : wpX_ready (fun u => match u with | (f_unused, f_constant, f_word, f_target, f_channel, f_level, f_prefix, f_negate, f_operate, f_disableChannel, f_disableTimer, f_processCount, f_channelCount, f_length, f_sealed, f_timerHead, f_running, f_interrupted, f_regA, f_regB, f_regC, f_savedA, f_savedB, f_savedC, f_operand, f_clock, f_faults, a_ops, a_xs, a_ys, a_sizes, a_address, a_bytes, a_indexAt, a_locals, a_states, a_priorities, a_pointers, a_branches, a_deadlines, a_held, a_readyLink, a_timerLink, a_head, a_tail, a_writers, a_readers, a_counters) => (post (f_unused, f_constant, f_word, f_target, f_channel, f_level, f_prefix, f_negate, f_operate, f_disableChannel, f_disableTimer, f_processCount, f_channelCount, f_length, f_sealed, f_timerHead, f_running, f_interrupted, f_regA, f_regB, f_regC, f_savedA, f_savedB, f_savedC, f_operand, f_clock, f_faults, a_ops, a_xs, a_ys, a_sizes, a_address, a_bytes, a_indexAt, a_locals, a_states, a_priorities, a_pointers, a_branches, a_deadlines, a_held, a_readyLink, a_timerLink, a_head, a_tail, a_writers, a_readers, a_counters))) (f_unused, f_constant, f_word, f_target, f_channel, f_level, f_prefix, f_negate, f_operate, f_disableChannel, f_disableTimer, f_processCount, f_channelCount, f_length, f_sealed, f_timerHead, nI r, f_interrupted, 0, 0, 0, f_savedA, f_savedB, f_savedC, f_operand, f_clock, f_faults, a_ops, a_xs, a_ys, a_sizes, a_address, a_bytes, a_indexAt, upd a_locals (o * 8 + h) f_regA, a_states, a_priorities, a_pointers, a_branches, a_deadlines, a_held, a_readyLink, a_timerLink, a_head, a_tail, a_writers, upd a_readers k (-1), cs_f (k * 4 + 1) f_regA (cs_f (k * 4) f_regA a_counters)) (nI o)) : wpX_output post (f_unused, f_constant, f_word, f_target, f_channel, f_level, f_prefix, f_negate, f_operate, f_disableChannel, f_disableTimer, f_processCount, f_channelCount, f_length, f_sealed, f_timerHead, nI r, f_interrupted, f_regA, f_regB, f_regC, f_savedA, f_savedB, f_savedC, f_operand, f_clock, f_faults, a_ops, a_xs, a_ys, a_sizes, a_address, a_bytes, a_indexAt, a_locals, a_states, a_priorities, a_pointers, a_branches, a_deadlines, a_held, a_readyLink, a_timerLink, a_head, a_tail, a_writers, a_readers, a_counters) (nI k) := by
  have z := ba_p ho
  simp only [wpX_output, wpX_clear, ba_v hr, ba_c hr, ba_v hk, ba_c hk, hb, hw, hd, forall_eq, true_implies, false_implies, not_true_eq_false, not_false_eq_true, and_true, true_and, implies_true]
  refine xw_count0 hk ?_
  simp only [ba_v ho, ba_c ho, z, h5, eh, ba_m8, nI_add, ba_v64 (show o * 8 + h < 64 by omega), ba_c64 (show o * 8 + h < 64 by omega), forall_eq, true_implies, false_implies, not_true_eq_false, not_false_eq_true, and_true, true_and, implies_true]
  refine xw_count1 hk ?_
  simp only [ba_v hk, ba_c hk, forall_eq, true_implies, false_implies, not_true_eq_false, not_false_eq_true, and_true, true_and, implies_true]
  exact K
theorem xi_fault {post : SX → Prop} {C r k : Nat} {p1 : Int32} (hC : C ≤ 8) (hr : r < 8) (hk : k < 8) (h : ¬ a_branches r = -2 ∨ ¬ a_readers k < 0) (K : post (f_unused, f_constant, f_word, f_target, f_channel, f_level, f_prefix, f_negate, f_operate, f_disableChannel, f_disableTimer, f_processCount, nI C, f_length, f_sealed, f_timerHead, -1, f_interrupted, 0, 0, 0, f_savedA, f_savedB, f_savedC, f_operand, f_clock, f_faults + 1, a_ops, a_xs, a_ys, a_sizes, a_address, a_bytes, a_indexAt, a_locals, upd a_states r 0, a_priorities, a_pointers, upd a_branches r (-2), upd a_deadlines r (-1), a_held, a_readyLink, a_timerLink, a_head, a_tail, a_writers, rd_f r C a_readers, a_counters)) : wpX_input post (f_unused, f_constant, f_word, f_target, f_channel, f_level, f_prefix, f_negate, f_operate, f_disableChannel, f_disableTimer, f_processCount, nI C, f_length, f_sealed, f_timerHead, nI r, f_interrupted, f_regA, f_regB, f_regC, f_savedA, f_savedB, f_savedC, f_operand, f_clock, f_faults, a_ops, a_xs, a_ys, a_sizes, a_address, a_bytes, a_indexAt, a_locals, a_states, a_priorities, a_pointers, a_branches, a_deadlines, a_held, a_readyLink, a_timerLink, a_head, a_tail, a_writers, a_readers, a_counters) (nI k) p1 := by
  by_cases hb : a_branches r = -2
  · have hw : ¬ a_readers k < 0 := h.resolve_left (fun z => z hb)
    simp only [wpX_input, wX_input_23, ba_v hr, ba_c hr, ba_v hk, ba_c hk, hb, hw, forall_eq, true_implies, false_implies, not_true_eq_false, not_false_eq_true, and_true, true_and, implies_true]
    exact xw_fault hC hr K
  · simp only [wpX_input, wX_input_23, ba_v hr, ba_c hr, ba_v hk, ba_c hk, hb, forall_eq, true_implies, false_implies, not_true_eq_false, not_false_eq_true, and_true, true_and, implies_true]
    exact xw_fault hC hr K
theorem xi_none {post : SX → Prop} {r k : Nat} {p1 : Int32} (hr : r < 8) (hk : k < 8) (hb : a_branches r = -2) (hd : a_readers k < 0) (hw : a_writers k < 0) (K : post (f_unused, f_constant, f_word, f_target, f_channel, f_level, f_prefix, f_negate, f_operate, f_disableChannel, f_disableTimer, f_processCount, f_channelCount, f_length, f_sealed, f_timerHead, -1, f_interrupted, 0, 0, 0, f_savedA, f_savedB, f_savedC, f_operand, f_clock, f_faults, a_ops, a_xs, a_ys, a_sizes, a_address, a_bytes, a_indexAt, a_locals, upd a_states r 5, a_priorities, a_pointers, a_branches, a_deadlines, upd a_held r p1, a_readyLink, a_timerLink, a_head, a_tail, a_writers, upd a_readers k (nI r), a_counters)) : wpX_input post (f_unused, f_constant, f_word, f_target, f_channel, f_level, f_prefix, f_negate, f_operate, f_disableChannel, f_disableTimer, f_processCount, f_channelCount, f_length, f_sealed, f_timerHead, nI r, f_interrupted, f_regA, f_regB, f_regC, f_savedA, f_savedB, f_savedC, f_operand, f_clock, f_faults, a_ops, a_xs, a_ys, a_sizes, a_address, a_bytes, a_indexAt, a_locals, a_states, a_priorities, a_pointers, a_branches, a_deadlines, a_held, a_readyLink, a_timerLink, a_head, a_tail, a_writers, a_readers, a_counters) (nI k) p1 := by
  simp only [wpX_input, wpX_clear, wpX_suspend, ba_v hr, ba_c hr, ba_v hk, ba_c hk, hb, hw, hd, forall_eq, true_implies, false_implies, not_true_eq_false, not_false_eq_true, and_true, true_and, implies_true]
  exact K
theorem xi_meet {post : SX → Prop} {r k o h : Nat} (hr : r < 8) (hk : k < 8) (ho : o < 8) (hh : h < 8) (hb : a_branches r = -2) (hd : a_readers k < 0) (hw : a_writers k = nI o) (K : wpX_ready (fun u => match u with | (f_unused, f_constant, f_word, f_target, f_channel, f_level, f_prefix, f_negate, f_operate, f_disableChannel, f_disableTimer, f_processCount, f_channelCount, f_length, f_sealed, f_timerHead, f_running, f_interrupted, f_regA, f_regB, f_regC, f_savedA, f_savedB, f_savedC, f_operand, f_clock, f_faults, a_ops, a_xs, a_ys, a_sizes, a_address, a_bytes, a_indexAt, a_locals, a_states, a_priorities, a_pointers, a_branches, a_deadlines, a_held, a_readyLink, a_timerLink, a_head, a_tail, a_writers, a_readers, a_counters) => (post (f_unused, f_constant, f_word, f_target, f_channel, f_level, f_prefix, f_negate, f_operate, f_disableChannel, f_disableTimer, f_processCount, f_channelCount, f_length, f_sealed, f_timerHead, f_running, f_interrupted, f_regA, f_regB, f_regC, f_savedA, f_savedB, f_savedC, f_operand, f_clock, f_faults, a_ops, a_xs, a_ys, a_sizes, a_address, a_bytes, a_indexAt, a_locals, a_states, a_priorities, a_pointers, a_branches, a_deadlines, a_held, a_readyLink, a_timerLink, a_head, a_tail, a_writers, a_readers, a_counters))) (f_unused, f_constant, f_word, f_target, f_channel, f_level, f_prefix, f_negate, f_operate, f_disableChannel, f_disableTimer, f_processCount, f_channelCount, f_length, f_sealed, f_timerHead, nI r, f_interrupted, 0, 0, 0, f_savedA, f_savedB, f_savedC, f_operand, f_clock, f_faults, a_ops, a_xs, a_ys, a_sizes, a_address, a_bytes, a_indexAt, upd a_locals (r * 8 + h) (a_held o), a_states, a_priorities, a_pointers, a_branches, a_deadlines, a_held, a_readyLink, a_timerLink, a_head, a_tail, upd a_writers k (-1), a_readers, cs_f (k * 4 + 1) (a_held o) a_counters) (nI o)) : wpX_input post (f_unused, f_constant, f_word, f_target, f_channel, f_level, f_prefix, f_negate, f_operate, f_disableChannel, f_disableTimer, f_processCount, f_channelCount, f_length, f_sealed, f_timerHead, nI r, f_interrupted, f_regA, f_regB, f_regC, f_savedA, f_savedB, f_savedC, f_operand, f_clock, f_faults, a_ops, a_xs, a_ys, a_sizes, a_address, a_bytes, a_indexAt, a_locals, a_states, a_priorities, a_pointers, a_branches, a_deadlines, a_held, a_readyLink, a_timerLink, a_head, a_tail, a_writers, a_readers, a_counters) (nI k) (nI h) := by
  have z := ba_p ho
  simp only [wpX_input, wpX_clear, ba_v hr, ba_c hr, ba_v hk, ba_c hk, hb, hw, hd, z, ba_v ho, ba_c ho, ba_m8, nI_add, ba_v64 (show r * 8 + h < 64 by omega), ba_c64 (show r * 8 + h < 64 by omega), forall_eq, true_implies, false_implies, not_true_eq_false, not_false_eq_true, and_true, true_and, implies_true]
  refine xw_count1 hk ?_
  simp only [ba_v hk, ba_c hk, forall_eq, true_implies, false_implies, not_true_eq_false, not_false_eq_true, and_true, true_and, implies_true]
  exact K
end
section
variable {g_length g_procs g_chans g_clock g_faults g_sealed : Int32} {g_nextTicket : Int64} {b_ops b_xs b_ys b_st b_prio b_pos b_ra b_rb b_rc b_words b_chan b_held b_named b_wake b_open b_guard b_timer b_chosen b_sent b_received b_sentFold b_receivedFold : Nat → Int32} {b_ticket : Nat → Int64}
theorem yo_open {post : SY → Prop} {N r k : Nat} (hr : r < 8) (ho : ¬ b_open r = 0) (K : post (g_length, nI N, g_chans, g_clock, g_faults + 1, g_sealed, g_nextTicket, b_ops, b_xs, b_ys, upd b_st r 0, b_prio, b_pos, upd b_ra r 0, upd b_rb r 0, upd b_rc r 0, b_words, b_chan, b_held, b_named, b_wake, upd b_open r 0, zr_f r 8 b_guard, upd b_timer r (-1), upd b_chosen r (-1), b_ticket, b_sent, b_received, b_sentFold, b_receivedFold)) : wpY_out post (g_length, nI N, g_chans, g_clock, g_faults, g_sealed, g_nextTicket, b_ops, b_xs, b_ys, b_st, b_prio, b_pos, b_ra, b_rb, b_rc, b_words, b_chan, b_held, b_named, b_wake, b_open, b_guard, b_timer, b_chosen, b_ticket, b_sent, b_received, b_sentFold, b_receivedFold) (nI r) (nI k) := by
  simp only [wpY_out, wY_out_17, ba_v hr, ba_c hr, ho, forall_eq, true_implies, false_implies, not_true_eq_false, not_false_eq_true, and_true, true_and, implies_true]
  exact yw_fault hr K
theorem yo_full {post : SY → Prop} {N r k : Nat} {x : Int32} (hN : N ≤ 8) (hr : r < 8) (ho : b_open r = 0) (W : ow_n N (fun p => b_st p = 4 ∧ b_chan p = nI k) x) (hx : ¬ x < 0) (K : post (g_length, nI N, g_chans, g_clock, g_faults + 1, g_sealed, g_nextTicket, b_ops, b_xs, b_ys, upd b_st r 0, b_prio, b_pos, upd b_ra r 0, upd b_rb r 0, upd b_rc r 0, b_words, b_chan, b_held, b_named, b_wake, upd b_open r 0, zr_f r 8 b_guard, upd b_timer r (-1), upd b_chosen r (-1), b_ticket, b_sent, b_received, b_sentFold, b_receivedFold)) : wpY_out post (g_length, nI N, g_chans, g_clock, g_faults, g_sealed, g_nextTicket, b_ops, b_xs, b_ys, b_st, b_prio, b_pos, b_ra, b_rb, b_rc, b_words, b_chan, b_held, b_named, b_wake, b_open, b_guard, b_timer, b_chosen, b_ticket, b_sent, b_received, b_sentFold, b_receivedFold) (nI r) (nI k) := by
  simp only [wpY_out, wY_out_17, ba_v hr, ba_c hr, ho, forall_eq, true_implies, false_implies, not_true_eq_false, not_false_eq_true, and_true, true_and, implies_true]
  refine yw_writer hN W (br_f hx ?_)
  exact yw_fault hr K
theorem yo_none {post : SY → Prop} {N r k : Nat} {x z : Int32} (hN : N ≤ 8) (hr : r < 8) (hk : k < 8) (ho : b_open r = 0) (W : ow_n N (fun p => b_st p = 4 ∧ b_chan p = nI k) x) (hx : x < 0) (R : ow_n N (fun p => (b_st p = 5 ∧ b_chan p = nI k) ∨ (b_open p ≠ 0 ∧ b_guard (p * 8 + k) ≠ 0)) z) (hz : z < 0)
    (K : post (g_length, nI N, g_chans, g_clock, g_faults, g_sealed, g_nextTicket, b_ops, b_xs, b_ys, upd b_st r 4, b_prio, b_pos, upd b_ra r 0, upd b_rb r 0, upd b_rc r 0, b_words, upd b_chan r (nI k), upd b_held r (b_ra r), b_named, b_wake, b_open, b_guard, b_timer, b_chosen, b_ticket, upd b_sent k (b_sent k + 1), b_received, upd b_sentFold k (b_sentFold k * 31 + b_ra r), b_receivedFold)) : wpY_out post (g_length, nI N, g_chans, g_clock, g_faults, g_sealed, g_nextTicket, b_ops, b_xs, b_ys, b_st, b_prio, b_pos, b_ra, b_rb, b_rc, b_words, b_chan, b_held, b_named, b_wake, b_open, b_guard, b_timer, b_chosen, b_ticket, b_sent, b_received, b_sentFold, b_receivedFold) (nI r) (nI k) := by
  simp only [wpY_out, ba_v hr, ba_c hr, ho, forall_eq, true_implies, false_implies, not_true_eq_false, not_false_eq_true, and_true, true_and, implies_true]
  refine yw_writer hN W (br_t hx ?_)
  refine yw_reader hN hk R ?_
  simp only [wpY_clear, wY_out_113, ba_v hr, ba_c hr, ba_v hk, ba_c hk, hz, forall_eq, true_implies, false_implies, not_true_eq_false, not_false_eq_true, and_true, true_and, implies_true]
  exact K
theorem yo_idle {post : SY → Prop} {N r k o : Nat} {x : Int32} (hN : N ≤ 8) (hr : r < 8) (hk : k < 8) (h8 : o < 8) (hor : o ≠ r) (ho : b_open r = 0) (W : ow_n N (fun p => b_st p = 4 ∧ b_chan p = nI k) x) (hx : x < 0) (R : ow_n N (fun p => (b_st p = 5 ∧ b_chan p = nI k) ∨ (b_open p ≠ 0 ∧ b_guard (p * 8 + k) ≠ 0)) (nI o)) (h5 : ¬ b_st o = 5) (h7 : ¬ b_st o = 7)
    (K : post (g_length, nI N, g_chans, g_clock, g_faults, g_sealed, g_nextTicket, b_ops, b_xs, b_ys, upd b_st r 4, b_prio, b_pos, upd b_ra r 0, upd b_rb r 0, upd b_rc r 0, b_words, upd b_chan r (nI k), upd b_held r (b_ra r), b_named, b_wake, b_open, b_guard, b_timer, b_chosen, b_ticket, upd b_sent k (b_sent k + 1), b_received, upd b_sentFold k (b_sentFold k * 31 + b_ra r), b_receivedFold)) : wpY_out post (g_length, nI N, g_chans, g_clock, g_faults, g_sealed, g_nextTicket, b_ops, b_xs, b_ys, b_st, b_prio, b_pos, b_ra, b_rb, b_rc, b_words, b_chan, b_held, b_named, b_wake, b_open, b_guard, b_timer, b_chosen, b_ticket, b_sent, b_received, b_sentFold, b_receivedFold) (nI r) (nI k) := by
  have z := ba_p h8
  simp only [wpY_out, ba_v hr, ba_c hr, ho, forall_eq, true_implies, false_implies, not_true_eq_false, not_false_eq_true, and_true, true_and, implies_true]
  refine yw_writer hN W (br_t hx ?_)
  refine yw_reader hN hk R ?_
  simp only [wpY_clear, wY_out_113, ba_v hr, ba_c hr, ba_v hk, ba_c hk, ba_v h8, ba_c h8, z, pk_un hor, h5, h7, forall_eq, true_implies, false_implies, not_true_eq_false, not_false_eq_true, and_true, true_and, implies_true]
  exact K
theorem yo_wake {post : SY → Prop} {N r k o : Nat} {x : Int32} (hN : N ≤ 8) (hr : r < 8) (hk : k < 8) (h8 : o < 8) (hor : o ≠ r) (ho : b_open r = 0) (W : ow_n N (fun p => b_st p = 4 ∧ b_chan p = nI k) x) (hx : x < 0) (R : ow_n N (fun p => (b_st p = 5 ∧ b_chan p = nI k) ∨ (b_open p ≠ 0 ∧ b_guard (p * 8 + k) ≠ 0)) (nI o)) (h7 : b_st o = 7)
    (K : post (g_length, nI N, g_chans, g_clock, g_faults, g_sealed, g_nextTicket + 1, b_ops, b_xs, b_ys, upd (upd b_st r 4) o 3, b_prio, b_pos, upd b_ra r 0, upd b_rb r 0, upd b_rc r 0, b_words, upd b_chan r (nI k), upd b_held r (b_ra r), b_named, b_wake, b_open, b_guard, b_timer, b_chosen, vp_updL b_ticket o g_nextTicket, upd b_sent k (b_sent k + 1), b_received, upd b_sentFold k (b_sentFold k * 31 + b_ra r), b_receivedFold)) : wpY_out post (g_length, nI N, g_chans, g_clock, g_faults, g_sealed, g_nextTicket, b_ops, b_xs, b_ys, b_st, b_prio, b_pos, b_ra, b_rb, b_rc, b_words, b_chan, b_held, b_named, b_wake, b_open, b_guard, b_timer, b_chosen, b_ticket, b_sent, b_received, b_sentFold, b_receivedFold) (nI r) (nI k) := by
  have z := ba_p h8
  have h5 : ¬ b_st o = 5 := by rw [h7]; decide
  simp only [wpY_out, ba_v hr, ba_c hr, ho, forall_eq, true_implies, false_implies, not_true_eq_false, not_false_eq_true, and_true, true_and, implies_true]
  refine yw_writer hN W (br_t hx ?_)
  refine yw_reader hN hk R ?_
  simp +decide only [wpY_clear, wY_out_113, wpY_ready, ba_v hr, ba_c hr, ba_v hk, ba_c hk, ba_v h8, ba_c h8, z, pk_un hor, h5, h7, forall_eq, true_implies, false_implies, not_true_eq_false, not_false_eq_true, and_true, true_and, implies_true]
  exact K
theorem yo_meet {post : SY → Prop} {N r k o h : Nat} {x : Int32} (hN : N ≤ 8) (hr : r < 8) (hk : k < 8) (h8 : o < 8) (hh : h < 8) (ho : b_open r = 0) (W : ow_n N (fun p => b_st p = 4 ∧ b_chan p = nI k) x) (hx : x < 0) (R : ow_n N (fun p => (b_st p = 5 ∧ b_chan p = nI k) ∨ (b_open p ≠ 0 ∧ b_guard (p * 8 + k) ≠ 0)) (nI o)) (h5 : b_st o = 5) (eh : b_named o = nI h)
    (K : post (g_length, nI N, g_chans, g_clock, g_faults, g_sealed, g_nextTicket + 1, b_ops, b_xs, b_ys, upd b_st o 3, b_prio, b_pos, upd b_ra r 0, upd b_rb r 0, upd b_rc r 0, upd b_words (o * 8 + h) (b_ra r), b_chan, b_held, b_named, b_wake, b_open, b_guard, b_timer, b_chosen, vp_updL b_ticket o g_nextTicket, upd b_sent k (b_sent k + 1), upd b_received k (b_received k + 1), upd b_sentFold k (b_sentFold k * 31 + b_ra r), upd b_receivedFold k (b_receivedFold k * 31 + b_ra r))) : wpY_out post (g_length, nI N, g_chans, g_clock, g_faults, g_sealed, g_nextTicket, b_ops, b_xs, b_ys, b_st, b_prio, b_pos, b_ra, b_rb, b_rc, b_words, b_chan, b_held, b_named, b_wake, b_open, b_guard, b_timer, b_chosen, b_ticket, b_sent, b_received, b_sentFold, b_receivedFold) (nI r) (nI k) := by
  have z := ba_p h8
  simp only [wpY_out, ba_v hr, ba_c hr, ho, forall_eq, true_implies, false_implies, not_true_eq_false, not_false_eq_true, and_true, true_and, implies_true]
  refine yw_writer hN W (br_t hx ?_)
  refine yw_reader hN hk R ?_
  simp only [wpY_clear, wpY_deliver, wpY_ready, ba_v hr, ba_c hr, ba_v hk, ba_c hk, ba_v h8, ba_c h8, z, h5, eh, ba_m8, nI_add, ba_v64 (show o * 8 + h < 64 by omega), ba_c64 (show o * 8 + h < 64 by omega), forall_eq, true_implies, false_implies, not_true_eq_false, not_false_eq_true, and_true, true_and, implies_true]
  exact K
theorem yi_open {post : SY → Prop} {N r k : Nat} {p2 : Int32} (hr : r < 8) (ho : ¬ b_open r = 0) (K : post (g_length, nI N, g_chans, g_clock, g_faults + 1, g_sealed, g_nextTicket, b_ops, b_xs, b_ys, upd b_st r 0, b_prio, b_pos, upd b_ra r 0, upd b_rb r 0, upd b_rc r 0, b_words, b_chan, b_held, b_named, b_wake, upd b_open r 0, zr_f r 8 b_guard, upd b_timer r (-1), upd b_chosen r (-1), b_ticket, b_sent, b_received, b_sentFold, b_receivedFold)) : wpY_in post (g_length, nI N, g_chans, g_clock, g_faults, g_sealed, g_nextTicket, b_ops, b_xs, b_ys, b_st, b_prio, b_pos, b_ra, b_rb, b_rc, b_words, b_chan, b_held, b_named, b_wake, b_open, b_guard, b_timer, b_chosen, b_ticket, b_sent, b_received, b_sentFold, b_receivedFold) (nI r) (nI k) p2 := by
  simp only [wpY_in, wY_in_17, ba_v hr, ba_c hr, ho, forall_eq, true_implies, false_implies, not_true_eq_false, not_false_eq_true, and_true, true_and, implies_true]
  exact yw_fault hr K
theorem yi_full {post : SY → Prop} {N r k : Nat} {z p2 : Int32} (hN : N ≤ 8) (hr : r < 8) (hk : k < 8) (ho : b_open r = 0) (R : ow_n N (fun p => (b_st p = 5 ∧ b_chan p = nI k) ∨ (b_open p ≠ 0 ∧ b_guard (p * 8 + k) ≠ 0)) z) (hz : ¬ z < 0) (K : post (g_length, nI N, g_chans, g_clock, g_faults + 1, g_sealed, g_nextTicket, b_ops, b_xs, b_ys, upd b_st r 0, b_prio, b_pos, upd b_ra r 0, upd b_rb r 0, upd b_rc r 0, b_words, b_chan, b_held, b_named, b_wake, upd b_open r 0, zr_f r 8 b_guard, upd b_timer r (-1), upd b_chosen r (-1), b_ticket, b_sent, b_received, b_sentFold, b_receivedFold)) : wpY_in post (g_length, nI N, g_chans, g_clock, g_faults, g_sealed, g_nextTicket, b_ops, b_xs, b_ys, b_st, b_prio, b_pos, b_ra, b_rb, b_rc, b_words, b_chan, b_held, b_named, b_wake, b_open, b_guard, b_timer, b_chosen, b_ticket, b_sent, b_received, b_sentFold, b_receivedFold) (nI r) (nI k) p2 := by
  simp only [wpY_in, wY_in_17, ba_v hr, ba_c hr, ho, forall_eq, true_implies, false_implies, not_true_eq_false, not_false_eq_true, and_true, true_and, implies_true]
  refine yw_reader hN hk R (br_f hz ?_)
  exact yw_fault hr K
theorem yi_none {post : SY → Prop} {N r k : Nat} {z x p2 : Int32} (hN : N ≤ 8) (hr : r < 8) (hk : k < 8) (ho : b_open r = 0) (R : ow_n N (fun p => (b_st p = 5 ∧ b_chan p = nI k) ∨ (b_open p ≠ 0 ∧ b_guard (p * 8 + k) ≠ 0)) z) (hz : z < 0) (W : ow_n N (fun p => b_st p = 4 ∧ b_chan p = nI k) x) (hx : x < 0)
    (K : post (g_length, nI N, g_chans, g_clock, g_faults, g_sealed, g_nextTicket, b_ops, b_xs, b_ys, upd b_st r 5, b_prio, b_pos, upd b_ra r 0, upd b_rb r 0, upd b_rc r 0, b_words, upd b_chan r (nI k), b_held, upd b_named r p2, b_wake, b_open, b_guard, b_timer, b_chosen, b_ticket, b_sent, b_received, b_sentFold, b_receivedFold)) : wpY_in post (g_length, nI N, g_chans, g_clock, g_faults, g_sealed, g_nextTicket, b_ops, b_xs, b_ys, b_st, b_prio, b_pos, b_ra, b_rb, b_rc, b_words, b_chan, b_held, b_named, b_wake, b_open, b_guard, b_timer, b_chosen, b_ticket, b_sent, b_received, b_sentFold, b_receivedFold) (nI r) (nI k) p2 := by
  simp only [wpY_in, ba_v hr, ba_c hr, ho, forall_eq, true_implies, false_implies, not_true_eq_false, not_false_eq_true, and_true, true_and, implies_true]
  refine yw_reader hN hk R (br_t hz ?_)
  simp only [wpY_clear, ba_v hr, ba_c hr, forall_eq, true_implies, false_implies, not_true_eq_false, not_false_eq_true, and_true, true_and, implies_true]
  refine yw_writer hN W (br_t hx ?_)
  exact K
theorem yi_meet {post : SY → Prop} {N r k o h : Nat} {z : Int32} (hN : N ≤ 8) (hr : r < 8) (hk : k < 8) (h8 : o < 8) (hh : h < 8) (ho : b_open r = 0) (R : ow_n N (fun p => (b_st p = 5 ∧ b_chan p = nI k) ∨ (b_open p ≠ 0 ∧ b_guard (p * 8 + k) ≠ 0)) z) (hz : z < 0) (W : ow_n N (fun p => b_st p = 4 ∧ b_chan p = nI k) (nI o))
    (K : post (g_length, nI N, g_chans, g_clock, g_faults, g_sealed, g_nextTicket + 1, b_ops, b_xs, b_ys, upd b_st o 3, b_prio, b_pos, upd b_ra r 0, upd b_rb r 0, upd b_rc r 0, upd b_words (r * 8 + h) (b_held o), b_chan, b_held, b_named, b_wake, b_open, b_guard, b_timer, b_chosen, vp_updL b_ticket o g_nextTicket, b_sent, upd b_received k (b_received k + 1), b_sentFold, upd b_receivedFold k (b_receivedFold k * 31 + b_held o))) : wpY_in post (g_length, nI N, g_chans, g_clock, g_faults, g_sealed, g_nextTicket, b_ops, b_xs, b_ys, b_st, b_prio, b_pos, b_ra, b_rb, b_rc, b_words, b_chan, b_held, b_named, b_wake, b_open, b_guard, b_timer, b_chosen, b_ticket, b_sent, b_received, b_sentFold, b_receivedFold) (nI r) (nI k) (nI h) := by
  have zo := ba_p h8
  simp only [wpY_in, ba_v hr, ba_c hr, ho, forall_eq, true_implies, false_implies, not_true_eq_false, not_false_eq_true, and_true, true_and, implies_true]
  refine yw_reader hN hk R (br_t hz ?_)
  simp only [wpY_clear, ba_v hr, ba_c hr, forall_eq, true_implies, false_implies, not_true_eq_false, not_false_eq_true, and_true, true_and, implies_true]
  refine yw_writer hN W (br_f zo ?_)
  simp only [wpY_deliver, wpY_ready, ba_v hk, ba_c hk, ba_v h8, ba_c h8, ba_m8, nI_add, ba_v64 (show r * 8 + h < 64 by omega), ba_c64 (show r * 8 + h < 64 by omega), forall_eq, true_implies, false_implies, not_true_eq_false, not_false_eq_true, and_true, true_and, implies_true]
  exact K
end
end
section
/-! words sent and received, delays: both sides -/
section
variable {N C L B c r : Nat} {ad : Nat → Nat} {x y w : Int32}
variable {f_unused f_constant f_word f_target f_channel f_level f_prefix f_negate f_operate f_disableChannel f_disableTimer f_processCount f_channelCount f_length f_sealed f_timerHead f_running f_interrupted f_regA f_regB f_regC f_savedA f_savedB f_savedC f_operand f_clock f_faults : Int32} {a_ops a_xs a_ys a_sizes a_address a_bytes a_indexAt a_locals a_states a_priorities a_pointers a_branches a_deadlines a_held a_readyLink a_timerLink a_head a_tail a_writers a_readers a_counters : Nat → Int32}
variable {g_length g_procs g_chans g_clock g_faults g_sealed : Int32} {g_nextTicket : Int64} {b_ops b_xs b_ys b_st b_prio b_pos b_ra b_rb b_rc b_words b_chan b_held b_named b_wake b_open b_guard b_timer b_chosen b_sent b_received b_sentFold b_receivedFold : Nat → Int32} {b_ticket : Nat → Int64}
/-- the running process waits to send -/
theorem dy_send {k : Nat} {v : Int32} (hN : N ≤ 8) (hC : C ≤ 8) (hr : r < 8) (hk : k < C) (ho : b_open r = 0) (hw : a_writers k < 0) (H : rl_dy N C L B c ad (nI r) f_interrupted f_regA f_regB f_regC f_savedA f_savedB f_savedC f_timerHead a_states a_priorities a_pointers a_branches a_deadlines a_held a_readyLink a_timerLink a_head a_tail a_writers a_readers a_counters g_nextTicket b_pos b_ra b_rb b_rc b_chan b_held b_named b_wake b_open b_guard b_timer b_chosen b_ticket b_sent b_received b_sentFold b_receivedFold) : rl_dy N C L B c ad (-1) f_interrupted 0 0 0 f_savedA f_savedB f_savedC f_timerHead (upd a_states r 4) a_priorities a_pointers a_branches a_deadlines (upd a_held r v) a_readyLink a_timerLink a_head a_tail (upd a_writers k (nI r)) a_readers (cs_f (k * 4) v a_counters) g_nextTicket b_pos (upd b_ra r 0) (upd b_rb r 0) (upd b_rc r 0) (upd b_chan r (nI k)) (upd b_held r v) b_named b_wake b_open b_guard b_timer b_chosen b_ticket (upd b_sent k (b_sent k + 1)) b_received (upd b_sentFold k (b_sentFold k * 31 + v)) b_receivedFold := by
  obtain ⟨hrN, g, _, ea, eb, ec⟩ := pr_at hN hr H.1
  have h3 : a_states r ≠ 3 := by rw [g]; decide
  have h6 : a_states r ≠ 6 := by rw [g]; decide
  have h7 : a_states r ≠ 7 := by rw [g]; decide
  have h0 : a_states r ≠ 0 := by rw [g]; decide
  obtain ⟨H1, H2, H3, H4, H5, H6, H7, H8, H9⟩ := H
  refine ⟨pr_susp hN hr (by decide) (by decide) (pr_regs hN hr H1), qu_set h3 (by decide) H2, tm_st h6 (Or.inl h7) (by decide) (Or.inl (by decide)) H3, ch_send hC hN hrN hk g hw H4, po_s1 h0 H5, al_st H6 (al_shut ho h6 (by decide) (by decide) (H6 r hrN)), ?_, co_sent H8, H9⟩
  refine he_pt (r := r) H7 (fun p hp => ⟨pk_un hp, pk_un hp, pk_un hp, pk_un hp, rfl⟩) ?_
  simp only [pk_us]
  exact ⟨fun _ => ⟨rfl, k, hk, rfl⟩, fun z => absurd z (by decide)⟩
/-- one that chooses is made ready -/
theorem dy_wake {o : Nat} {hd tl lk : Nat → Int32} {th : Int32} {tk : Nat → Int32} (ho : o < N) (g : a_states o = 7) (H : rl_dy N C L B c ad f_running f_interrupted f_regA f_regB f_regC f_savedA f_savedB f_savedC f_timerHead a_states a_priorities a_pointers a_branches a_deadlines a_held a_readyLink a_timerLink a_head a_tail a_writers a_readers a_counters g_nextTicket b_pos b_ra b_rb b_rc b_chan b_held b_named b_wake b_open b_guard b_timer b_chosen b_ticket b_sent b_received b_sentFold b_receivedFold) (Q : rl_qu N (B + 1) (upd a_states o 3) a_priorities (vp_updL b_ticket o g_nextTicket) (g_nextTicket + 1) hd tl lk) (T : rl_tm N 1 c (upd a_states o 3) a_deadlines th tk) :
    rl_dy N C L (B + 1) c ad f_running f_interrupted f_regA f_regB f_regC f_savedA f_savedB f_savedC th (upd a_states o 3) a_priorities a_pointers a_branches a_deadlines a_held lk tk hd tl a_writers a_readers a_counters (g_nextTicket + 1) b_pos b_ra b_rb b_rc b_chan b_held b_named b_wake b_open b_guard b_timer b_chosen (vp_updL b_ticket o g_nextTicket) b_sent b_received b_sentFold b_receivedFold := by
  obtain ⟨H1, H2, H3, H4, H5, H6, H7, H8, H9⟩ := H
  have g0 : a_states o ≠ 0 := by rw [g]; decide
  have g1 : a_states o ≠ 1 := by rw [g]; decide
  have g2 : a_states o ≠ 2 := by rw [g]; decide
  have g4 : a_states o ≠ 4 := by rw [g]; decide
  have g5 : a_states o ≠ 5 := by rw [g]; decide
  have g6 : a_states o ≠ 6 := by rw [g]; decide
  exact ⟨pr_frame g1 g2 (by decide) (by decide) H1, Q, T, ch_st g4 g5 (by decide) (by decide) H4, po_s1 g0 H5, al_st H6 (al_run g6 (Or.inr (Or.inr rfl)) (H6 o ho)), he_st (by decide) (by decide) H7, H8, H9⟩
/-- a receiver is served by the running process -/
theorem dy_meet {o k : Nat} {v : Int32} {hd tl lk : Nat → Int32} (hN : N ≤ 8) (hC : C ≤ 8) (hr : r < 8) (hk : k < C) (ho : o < N) (g : a_states o = 5) (gc : b_chan o = nI k) (H : rl_dy N C L B c ad (nI r) f_interrupted f_regA f_regB f_regC f_savedA f_savedB f_savedC f_timerHead a_states a_priorities a_pointers a_branches a_deadlines a_held a_readyLink a_timerLink a_head a_tail a_writers a_readers a_counters g_nextTicket b_pos b_ra b_rb b_rc b_chan b_held b_named b_wake b_open b_guard b_timer b_chosen b_ticket b_sent b_received b_sentFold b_receivedFold) (Q : rl_qu N (B + 1) (upd a_states o 3) a_priorities (vp_updL b_ticket o g_nextTicket) (g_nextTicket + 1) hd tl lk) :
    rl_dy N C L (B + 1) c ad (nI r) f_interrupted 0 0 0 f_savedA f_savedB f_savedC f_timerHead (upd a_states o 3) a_priorities a_pointers a_branches a_deadlines a_held lk a_timerLink hd tl a_writers (upd a_readers k (-1)) (cs_f (k * 4 + 1) v (cs_f (k * 4) v a_counters)) (g_nextTicket + 1) b_pos (upd b_ra r 0) (upd b_rb r 0) (upd b_rc r 0) b_chan b_held b_named b_wake b_open b_guard b_timer b_chosen (vp_updL b_ticket o g_nextTicket) (upd b_sent k (b_sent k + 1)) (upd b_received k (b_received k + 1)) (upd b_sentFold k (b_sentFold k * 31 + v)) (upd b_receivedFold k (b_receivedFold k * 31 + v)) := by
  obtain ⟨H1, H2, H3, H4, H5, H6, H7, H8, H9⟩ := H
  have g0 : a_states o ≠ 0 := by rw [g]; decide
  have g1 : a_states o ≠ 1 := by rw [g]; decide
  have g2 : a_states o ≠ 2 := by rw [g]; decide
  have g3 : a_states o ≠ 3 := by rw [g]; decide
  have g6 : a_states o ≠ 6 := by rw [g]; decide
  have g7 : a_states o ≠ 7 := by rw [g]; decide
  exact ⟨pr_frame g1 g2 (by decide) (by decide) (pr_regs hN hr H1), Q, tm_st g6 (Or.inl g7) (by decide) (Or.inl (by decide)) H3, ch_wake hC hN ho hk g gc (al_shut0 g1 g2 g3 g7 (H6 o ho)) H4, po_s1 g0 H5, al_st H6 (al_run g6 (Or.inr (Or.inr rfl)) (H6 o ho)), he_st (by decide) (by decide) H7, co_recv (co_sent H8), H9⟩
/-- a sender is served by the running process -/
theorem dy_take {o k : Nat} {v : Int32} {hd tl lk : Nat → Int32} (hN : N ≤ 8) (hC : C ≤ 8) (hr : r < 8) (hk : k < C) (ho : o < N) (g : a_states o = 4) (gc : b_chan o = nI k) (H : rl_dy N C L B c ad (nI r) f_interrupted f_regA f_regB f_regC f_savedA f_savedB f_savedC f_timerHead a_states a_priorities a_pointers a_branches a_deadlines a_held a_readyLink a_timerLink a_head a_tail a_writers a_readers a_counters g_nextTicket b_pos b_ra b_rb b_rc b_chan b_held b_named b_wake b_open b_guard b_timer b_chosen b_ticket b_sent b_received b_sentFold b_receivedFold) (Q : rl_qu N (B + 1) (upd a_states o 3) a_priorities (vp_updL b_ticket o g_nextTicket) (g_nextTicket + 1) hd tl lk) :
    rl_dy N C L (B + 1) c ad (nI r) f_interrupted 0 0 0 f_savedA f_savedB f_savedC f_timerHead (upd a_states o 3) a_priorities a_pointers a_branches a_deadlines a_held lk a_timerLink hd tl (upd a_writers k (-1)) a_readers (cs_f (k * 4 + 1) v a_counters) (g_nextTicket + 1) b_pos (upd b_ra r 0) (upd b_rb r 0) (upd b_rc r 0) b_chan b_held b_named b_wake b_open b_guard b_timer b_chosen (vp_updL b_ticket o g_nextTicket) b_sent (upd b_received k (b_received k + 1)) b_sentFold (upd b_receivedFold k (b_receivedFold k * 31 + v)) := by
  obtain ⟨H1, H2, H3, H4, H5, H6, H7, H8, H9⟩ := H
  have g0 : a_states o ≠ 0 := by rw [g]; decide
  have g1 : a_states o ≠ 1 := by rw [g]; decide
  have g2 : a_states o ≠ 2 := by rw [g]; decide
  have g6 : a_states o ≠ 6 := by rw [g]; decide
  have g7 : a_states o ≠ 7 := by rw [g]; decide
  exact ⟨pr_frame g1 g2 (by decide) (by decide) (pr_regs hN hr H1), Q, tm_st g6 (Or.inl g7) (by decide) (Or.inl (by decide)) H3, ch_wakew hC hN ho hk g gc H4, po_s1 g0 H5, al_st H6 (al_run g6 (Or.inr (Or.inr rfl)) (H6 o ho)), he_st (by decide) (by decide) H7, co_recv H8, H9⟩
/-- the running process waits to receive -/
theorem dy_recv {k h : Nat} (hN : N ≤ 8) (hC : C ≤ 8) (hr : r < 8) (hk : k < C) (hh : h < 8) (ho : b_open r = 0) (hw : a_readers k < 0) (H : rl_dy N C L B c ad (nI r) f_interrupted f_regA f_regB f_regC f_savedA f_savedB f_savedC f_timerHead a_states a_priorities a_pointers a_branches a_deadlines a_held a_readyLink a_timerLink a_head a_tail a_writers a_readers a_counters g_nextTicket b_pos b_ra b_rb b_rc b_chan b_held b_named b_wake b_open b_guard b_timer b_chosen b_ticket b_sent b_received b_sentFold b_receivedFold) : rl_dy N C L B c ad (-1) f_interrupted 0 0 0 f_savedA f_savedB f_savedC f_timerHead (upd a_states r 5) a_priorities a_pointers a_branches a_deadlines (upd a_held r (nI h)) a_readyLink a_timerLink a_head a_tail a_writers (upd a_readers k (nI r)) a_counters g_nextTicket b_pos (upd b_ra r 0) (upd b_rb r 0) (upd b_rc r 0) (upd b_chan r (nI k)) b_held (upd b_named r (nI h)) b_wake b_open b_guard b_timer b_chosen b_ticket b_sent b_received b_sentFold b_receivedFold := by
  obtain ⟨hrN, g, _, ea, eb, ec⟩ := pr_at hN hr H.1
  have h3 : a_states r ≠ 3 := by rw [g]; decide
  have h6 : a_states r ≠ 6 := by rw [g]; decide
  have h7 : a_states r ≠ 7 := by rw [g]; decide
  have h0 : a_states r ≠ 0 := by rw [g]; decide
  obtain ⟨H1, H2, H3, H4, H5, H6, H7, H8, H9⟩ := H
  refine ⟨pr_susp hN hr (by decide) (by decide) (pr_regs hN hr H1), qu_set h3 (by decide) H2, tm_st h6 (Or.inl h7) (by decide) (Or.inl (by decide)) H3, ch_recv hC hN hrN hk g ho hw H4, po_s1 h0 H5, al_st H6 (al_shut ho h6 (by decide) (by decide) (H6 r hrN)), ?_, H8, H9⟩
  refine he_pt (r := r) H7 (fun p hp => ⟨pk_un hp, pk_un hp, pk_un hp, rfl, pk_un hp⟩) ?_
  simp only [pk_us]
  exact ⟨fun z => absurd z (by decide), fun _ => ⟨⟨h, hh, rfl, rfl⟩, k, hk, rfl⟩⟩
theorem dy_mono {B' : Nat} (h : B ≤ B') (H : rl_dy N C L B c ad f_running f_interrupted f_regA f_regB f_regC f_savedA f_savedB f_savedC f_timerHead a_states a_priorities a_pointers a_branches a_deadlines a_held a_readyLink a_timerLink a_head a_tail a_writers a_readers a_counters g_nextTicket b_pos b_ra b_rb b_rc b_chan b_held b_named b_wake b_open b_guard b_timer b_chosen b_ticket b_sent b_received b_sentFold b_receivedFold) : rl_dy N C L B' c ad f_running f_interrupted f_regA f_regB f_regC f_savedA f_savedB f_savedC f_timerHead a_states a_priorities a_pointers a_branches a_deadlines a_held a_readyLink a_timerLink a_head a_tail a_writers a_readers a_counters g_nextTicket b_pos b_ra b_rb b_rc b_chan b_held b_named b_wake b_open b_guard b_timer b_chosen b_ticket b_sent b_received b_sentFold b_receivedFold := ⟨H.1, qu_mono h H.2.1, H.2.2⟩
theorem op_out {k : Nat} (hN : N ≤ 8) (hC : C ≤ 8) (hr : r < 8) (had : ∀ i, i < L → ad i < 2 ^ 31) (H : rl_dy N C L B c ad (nI r) f_interrupted f_regA f_regB f_regC f_savedA f_savedB f_savedC f_timerHead a_states a_priorities a_pointers a_branches a_deadlines a_held a_readyLink a_timerLink a_head a_tail a_writers a_readers a_counters g_nextTicket b_pos b_ra b_rb b_rc b_chan b_held b_named b_wake b_open b_guard b_timer b_chosen b_ticket b_sent b_received b_sentFold b_receivedFold) (hk : k < C) (hw : w &&& 7 = nI k) (hx : x = nI k) : jo_R N C L (B + 1) c ad f_sealed a_ops a_xs a_ys a_address a_bytes a_indexAt (fun post => wpX_execute post (f_unused, f_constant, f_word, f_target, f_channel, f_level, f_prefix, f_negate, f_operate, f_disableChannel, f_disableTimer, nI N, nI C, nI L, f_sealed, f_timerHead, nI r, f_interrupted, f_regA, f_regB, f_regC, f_savedA, f_savedB, f_savedC, w, nI c, f_faults, a_ops, a_xs, a_ys, a_sizes, a_address, a_bytes, a_indexAt, a_locals, a_states, a_priorities, a_pointers, a_branches, a_deadlines, a_held, a_readyLink, a_timerLink, a_head, a_tail, a_writers, a_readers, a_counters) 10) (fun post => wpY_out post (nI L, nI N, nI C, nI c, f_faults, f_sealed, g_nextTicket, a_ops, a_xs, a_ys, a_states, a_priorities, b_pos, b_ra, b_rb, b_rc, a_locals, b_chan, b_held, b_named, b_wake, b_open, b_guard, b_timer, b_chosen, b_ticket, b_sent, b_received, b_sentFold, b_receivedFold) (nI r) x) := by
  obtain ⟨hrN, g, _, ea, eb, ec⟩ := pr_at hN hr H.1
  subst hx
  have hk8 : k < 8 := by omega
  have A := H.2.2.2.2.2.1 r hrN
  have CW := (H.2.2.2.1 k hk).1
  have CR := (H.2.2.2.1 k hk).2
  have toX : ∀ post : SX → Prop, wpX_output (fun u => match u with | (f_unused, f_constant, f_word, f_target, f_channel, f_level, f_prefix, f_negate, f_operate, f_disableChannel, f_disableTimer, f_processCount, f_channelCount, f_length, f_sealed, f_timerHead, f_running, f_interrupted, f_regA, f_regB, f_regC, f_savedA, f_savedB, f_savedC, f_operand, f_clock, f_faults, a_ops, a_xs, a_ys, a_sizes, a_address, a_bytes, a_indexAt, a_locals, a_states, a_priorities, a_pointers, a_branches, a_deadlines, a_held, a_readyLink, a_timerLink, a_head, a_tail, a_writers, a_readers, a_counters) => (post (f_unused, f_constant, f_word, f_target, f_channel, f_level, f_prefix, f_negate, f_operate, f_disableChannel, f_disableTimer, f_processCount, f_channelCount, f_length, f_sealed, f_timerHead, f_running, f_interrupted, f_regA, f_regB, f_regC, f_savedA, f_savedB, f_savedC, f_operand, f_clock, f_faults, a_ops, a_xs, a_ys, a_sizes, a_address, a_bytes, a_indexAt, a_locals, a_states, a_priorities, a_pointers, a_branches, a_deadlines, a_held, a_readyLink, a_timerLink, a_head, a_tail, a_writers, a_readers, a_counters))) (f_unused, f_constant, f_word, f_target, f_channel, f_level, f_prefix, f_negate, f_operate, f_disableChannel, f_disableTimer, nI N, nI C, nI L, f_sealed, f_timerHead, nI r, f_interrupted, f_regA, f_regB, f_regC, f_savedA, f_savedB, f_savedC, w, nI c, f_faults, a_ops, a_xs, a_ys, a_sizes, a_address, a_bytes, a_indexAt, a_locals, a_states, a_priorities, a_pointers, a_branches, a_deadlines, a_held, a_readyLink, a_timerLink, a_head, a_tail, a_writers, a_readers, a_counters) (nI k) → wpX_execute post (f_unused, f_constant, f_word, f_target, f_channel, f_level, f_prefix, f_negate, f_operate, f_disableChannel, f_disableTimer, nI N, nI C, nI L, f_sealed, f_timerHead, nI r, f_interrupted, f_regA, f_regB, f_regC, f_savedA, f_savedB, f_savedC, w, nI c, f_faults, a_ops, a_xs, a_ys, a_sizes, a_address, a_bytes, a_indexAt, a_locals, a_states, a_priorities, a_pointers, a_branches, a_deadlines, a_held, a_readyLink, a_timerLink, a_head, a_tail, a_writers, a_readers, a_counters) 10 := fun post K => by
    simp +decide only [wpX_execute, wpX_communicate, hw, forall_eq, true_implies, false_implies, not_true_eq_false, not_false_eq_true, and_true, true_and, implies_true]
    exact K
  have fault : (¬ a_branches r = -2 ∨ ¬ a_writers k < 0) → (∀ post : SY → Prop, post (nI L, nI N, nI C, nI c, f_faults + 1, f_sealed, g_nextTicket, a_ops, a_xs, a_ys, upd a_states r 0, a_priorities, b_pos, upd b_ra r 0, upd b_rb r 0, upd b_rc r 0, a_locals, b_chan, b_held, b_named, b_wake, upd b_open r 0, zr_f r 8 b_guard, upd b_timer r (-1), upd b_chosen r (-1), b_ticket, b_sent, b_received, b_sentFold, b_receivedFold) → wpY_out post (nI L, nI N, nI C, nI c, f_faults, f_sealed, g_nextTicket, a_ops, a_xs, a_ys, a_states, a_priorities, b_pos, b_ra, b_rb, b_rc, a_locals, b_chan, b_held, b_named, b_wake, b_open, b_guard, b_timer, b_chosen, b_ticket, b_sent, b_received, b_sentFold, b_receivedFold) (nI r) (nI k)) → jo_R N C L (B + 1) c ad f_sealed a_ops a_xs a_ys a_address a_bytes a_indexAt (fun post => wpX_execute post (f_unused, f_constant, f_word, f_target, f_channel, f_level, f_prefix, f_negate, f_operate, f_disableChannel, f_disableTimer, nI N, nI C, nI L, f_sealed, f_timerHead, nI r, f_interrupted, f_regA, f_regB, f_regC, f_savedA, f_savedB, f_savedC, w, nI c, f_faults, a_ops, a_xs, a_ys, a_sizes, a_address, a_bytes, a_indexAt, a_locals, a_states, a_priorities, a_pointers, a_branches, a_deadlines, a_held, a_readyLink, a_timerLink, a_head, a_tail, a_writers, a_readers, a_counters) 10) (fun post => wpY_out post (nI L, nI N, nI C, nI c, f_faults, f_sealed, g_nextTicket, a_ops, a_xs, a_ys, a_states, a_priorities, b_pos, b_ra, b_rb, b_rc, a_locals, b_chan, b_held, b_named, b_wake, b_open, b_guard, b_timer, b_chosen, b_ticket, b_sent, b_received, b_sentFold, b_receivedFold) (nI r) (nI k)) := fun h hY =>
    ⟨(f_unused, f_constant, f_word, f_target, f_channel, f_level, f_prefix, f_negate, f_operate, f_disableChannel, f_disableTimer, nI N, nI C, nI L, f_sealed, f_timerHead, -1, f_interrupted, 0, 0, 0, f_savedA, f_savedB, f_savedC, w, nI c, f_faults + 1, a_ops, a_xs, a_ys, a_sizes, a_address, a_bytes, a_indexAt, a_locals, upd a_states r 0, a_priorities, a_pointers, upd a_branches r (-2), upd a_deadlines r (-1), a_held, a_readyLink, a_timerLink, a_head, a_tail, a_writers, rd_f r C a_readers, a_counters), (nI L, nI N, nI C, nI c, f_faults + 1, f_sealed, g_nextTicket, a_ops, a_xs, a_ys, upd a_states r 0, a_priorities, b_pos, upd b_ra r 0, upd b_rb r 0, upd b_rc r 0, a_locals, b_chan, b_held, b_named, b_wake, upd b_open r 0, zr_f r 8 b_guard, upd b_timer r (-1), upd b_chosen r (-1), b_ticket, b_sent, b_received, b_sentFold, b_receivedFold), rl_in (dy_mono (Nat.le_succ _) (dy_fault hN hC hr H)), fun post K => toX post (xo_fault hC hr hk8 h K), hY⟩
  rcases al_br had A with ⟨hb, ho⟩ | ⟨hb, ho⟩
  · by_cases zw : a_writers k < 0
    · by_cases zr : a_readers k < 0
      · refine ⟨(f_unused, f_constant, f_word, f_target, f_channel, f_level, f_prefix, f_negate, f_operate, f_disableChannel, f_disableTimer, nI N, nI C, nI L, f_sealed, f_timerHead, -1, f_interrupted, 0, 0, 0, f_savedA, f_savedB, f_savedC, w, nI c, f_faults, a_ops, a_xs, a_ys, a_sizes, a_address, a_bytes, a_indexAt, a_locals, upd a_states r 4, a_priorities, a_pointers, a_branches, a_deadlines, upd a_held r f_regA, a_readyLink, a_timerLink, a_head, a_tail, upd a_writers k (nI r), a_readers, cs_f (k * 4) f_regA a_counters), (nI L, nI N, nI C, nI c, f_faults, f_sealed, g_nextTicket, a_ops, a_xs, a_ys, upd a_states r 4, a_priorities, b_pos, upd b_ra r 0, upd b_rb r 0, upd b_rc r 0, a_locals, upd b_chan r (nI k), upd b_held r f_regA, b_named, b_wake, b_open, b_guard, b_timer, b_chosen, b_ticket, upd b_sent k (b_sent k + 1), b_received, upd b_sentFold k (b_sentFold k * 31 + f_regA), b_receivedFold), rl_in (dy_mono (Nat.le_succ _) (dy_send hN hC hr hk ho zw H)), fun post K => toX post (xo_none hr hk8 hb zw zr K), fun post K => ?_⟩
        rw [← ea] at K
        exact yo_none hN hr hk8 ho CW zw CR zr K
      · obtain ⟨o, hoN, eo, Qo, uo⟩ := ow_pos CR zr
        rw [eo] at CR
        have ho8 : o < 8 := by omega
        by_cases h5 : a_states o = 5
        · have c5 := (H.2.2.2.2.2.2.1 o hoN).2 h5
          obtain ⟨⟨h, hh, eh1, eh2⟩, _⟩ := c5
          have gc : b_chan o = nI k := by
            rcases Qo with q | q
            · exact q.2
            · exact absurd (al_shut0 (by rw [h5]; decide) (by rw [h5]; decide) (by rw [h5]; decide) (by rw [h5]; decide) (H.2.2.2.2.2.1 o hoN)) q.1
          obtain ⟨kp, hkp, ekp⟩ := pi_k H.2.2.2.2.2.2.2.2 o
          obtain ⟨hd, tl, lk, Q, W⟩ := xw_ready (f_unused := f_unused) (f_constant := f_constant) (f_word := f_word) (f_target := f_target) (f_channel := f_channel) (f_level := f_level) (f_prefix := f_prefix) (f_negate := f_negate) (f_operate := f_operate) (f_disableChannel := f_disableChannel) (f_disableTimer := f_disableTimer) (f_processCount := nI N) (f_channelCount := nI C) (f_length := nI L) (f_sealed := f_sealed) (f_timerHead := f_timerHead) (f_running := nI r) (f_interrupted := f_interrupted) (f_regA := 0) (f_regB := 0) (f_regC := 0) (f_savedA := f_savedA) (f_savedB := f_savedB) (f_savedC := f_savedC) (f_operand := w) (f_clock := nI c) (f_faults := f_faults) (a_ops := a_ops) (a_xs := a_xs) (a_ys := a_ys) (a_sizes := a_sizes) (a_address := a_address) (a_bytes := a_bytes) (a_indexAt := a_indexAt) (a_locals := upd a_locals (o * 8 + h) f_regA) (a_states := a_states) (a_priorities := a_priorities) (a_pointers := a_pointers) (a_branches := a_branches) (a_deadlines := a_deadlines) (a_held := a_held) (a_readyLink := a_readyLink) (a_timerLink := a_timerLink) (a_head := a_head) (a_tail := a_tail) (a_writers := a_writers) (a_readers := upd a_readers k (-1)) (a_counters := cs_f (k * 4 + 1) f_regA (cs_f (k * 4) f_regA a_counters)) hN hkp hoN (by rw [h5]; decide) ekp H.2.1
          refine ⟨(f_unused, f_constant, f_word, f_target, f_channel, f_level, f_prefix, f_negate, f_operate, f_disableChannel, f_disableTimer, nI N, nI C, nI L, f_sealed, f_timerHead, nI r, f_interrupted, 0, 0, 0, f_savedA, f_savedB, f_savedC, w, nI c, f_faults, a_ops, a_xs, a_ys, a_sizes, a_address, a_bytes, a_indexAt, upd a_locals (o * 8 + h) f_regA, upd a_states o 3, a_priorities, a_pointers, a_branches, a_deadlines, a_held, lk, a_timerLink, hd, tl, a_writers, upd a_readers k (-1), cs_f (k * 4 + 1) f_regA (cs_f (k * 4) f_regA a_counters)), (nI L, nI N, nI C, nI c, f_faults, f_sealed, g_nextTicket + 1, a_ops, a_xs, a_ys, upd a_states o 3, a_priorities, b_pos, upd b_ra r 0, upd b_rb r 0, upd b_rc r 0, upd a_locals (o * 8 + h) f_regA, b_chan, b_held, b_named, b_wake, b_open, b_guard, b_timer, b_chosen, vp_updL b_ticket o g_nextTicket, upd b_sent k (b_sent k + 1), upd b_received k (b_received k + 1), upd b_sentFold k (b_sentFold k * 31 + f_regA), upd b_receivedFold k (b_receivedFold k * 31 + f_regA)), rl_in (dy_meet hN hC hr hk hoN h5 gc H Q), fun post K => toX post (xo_meet hr hk8 ho8 hh hb zw eo h5 eh1 (W _ K)), fun post K => ?_⟩
          rw [← ea] at K
          exact yo_meet hN hr hk8 ho8 hh ho CW zw CR h5 eh2 K
        · have hor : o ≠ r := fun e => by
            subst e
            rcases Qo with q | q
            · exact h5 q.1
            · exact q.1 ho
          have D1 := dy_send (v := f_regA) hN hC hr hk ho zw H
          by_cases h7 : a_states o = 7
          · have s7 : upd a_states r 4 o = 7 := by rw [pk_un hor]; exact h7
            obtain ⟨kp, hkp, ekp⟩ := pi_k H.2.2.2.2.2.2.2.2 o
            obtain ⟨th, tk, T, WT⟩ := xw_leave (f_unused := f_unused) (f_constant := f_constant) (f_word := f_word) (f_target := f_target) (f_channel := f_channel) (f_level := f_level) (f_prefix := f_prefix) (f_negate := f_negate) (f_operate := f_operate) (f_disableChannel := f_disableChannel) (f_disableTimer := f_disableTimer) (f_processCount := nI N) (f_channelCount := nI C) (f_length := nI L) (f_sealed := f_sealed) (f_timerHead := f_timerHead) (f_running := -1) (f_interrupted := f_interrupted) (f_regA := 0) (f_regB := 0) (f_regC := 0) (f_savedA := f_savedA) (f_savedB := f_savedB) (f_savedC := f_savedC) (f_operand := w) (f_clock := nI c) (f_faults := f_faults) (a_ops := a_ops) (a_xs := a_xs) (a_ys := a_ys) (a_sizes := a_sizes) (a_address := a_address) (a_bytes := a_bytes) (a_indexAt := a_indexAt) (a_locals := a_locals) (a_states := upd a_states r 4) (a_priorities := a_priorities) (a_pointers := a_pointers) (a_branches := a_branches) (a_deadlines := a_deadlines) (a_held := upd a_held r f_regA) (a_readyLink := a_readyLink) (a_timerLink := a_timerLink) (a_head := a_head) (a_tail := a_tail) (a_writers := upd a_writers k (nI r)) (a_readers := a_readers) (a_counters := cs_f (k * 4) f_regA a_counters) hN hoN s7 D1.2.2.1
            obtain ⟨hd, tl, lk, Q, W⟩ := xw_ready (f_unused := f_unused) (f_constant := f_constant) (f_word := f_word) (f_target := f_target) (f_channel := f_channel) (f_level := f_level) (f_prefix := f_prefix) (f_negate := f_negate) (f_operate := f_operate) (f_disableChannel := f_disableChannel) (f_disableTimer := f_disableTimer) (f_processCount := nI N) (f_channelCount := nI C) (f_length := nI L) (f_sealed := f_sealed) (f_timerHead := th) (f_running := -1) (f_interrupted := f_interrupted) (f_regA := 0) (f_regB := 0) (f_regC := 0) (f_savedA := f_savedA) (f_savedB := f_savedB) (f_savedC := f_savedC) (f_operand := w) (f_clock := nI c) (f_faults := f_faults) (a_ops := a_ops) (a_xs := a_xs) (a_ys := a_ys) (a_sizes := a_sizes) (a_address := a_address) (a_bytes := a_bytes) (a_indexAt := a_indexAt) (a_locals := a_locals) (a_states := upd a_states r 4) (a_priorities := a_priorities) (a_pointers := a_pointers) (a_branches := a_branches) (a_deadlines := a_deadlines) (a_held := upd a_held r f_regA) (a_readyLink := a_readyLink) (a_timerLink := tk) (a_head := a_head) (a_tail := a_tail) (a_writers := upd a_writers k (nI r)) (a_readers := a_readers) (a_counters := cs_f (k * 4) f_regA a_counters) hN hkp hoN (by rw [s7]; decide) ekp D1.2.1
            refine ⟨(f_unused, f_constant, f_word, f_target, f_channel, f_level, f_prefix, f_negate, f_operate, f_disableChannel, f_disableTimer, nI N, nI C, nI L, f_sealed, th, -1, f_interrupted, 0, 0, 0, f_savedA, f_savedB, f_savedC, w, nI c, f_faults, a_ops, a_xs, a_ys, a_sizes, a_address, a_bytes, a_indexAt, a_locals, upd (upd a_states r 4) o 3, a_priorities, a_pointers, a_branches, a_deadlines, upd a_held r f_regA, lk, tk, hd, tl, upd a_writers k (nI r), a_readers, cs_f (k * 4) f_regA a_counters), (nI L, nI N, nI C, nI c, f_faults, f_sealed, g_nextTicket + 1, a_ops, a_xs, a_ys, upd (upd a_states r 4) o 3, a_priorities, b_pos, upd b_ra r 0, upd b_rb r 0, upd b_rc r 0, a_locals, upd b_chan r (nI k), upd b_held r f_regA, b_named, b_wake, b_open, b_guard, b_timer, b_chosen, vp_updL b_ticket o g_nextTicket, upd b_sent k (b_sent k + 1), b_received, upd b_sentFold k (b_sentFold k * 31 + f_regA), b_receivedFold), rl_in (dy_wake hoN s7 D1 Q T), fun post K => toX post (xo_wake hr hk8 ho8 hor hb zw eo h7 WT W K), fun post K => ?_⟩
            rw [← ea] at K
            exact yo_wake hN hr hk8 ho8 hor ho CW zw CR h7 K
          · refine ⟨(f_unused, f_constant, f_word, f_target, f_channel, f_level, f_prefix, f_negate, f_operate, f_disableChannel, f_disableTimer, nI N, nI C, nI L, f_sealed, f_timerHead, -1, f_interrupted, 0, 0, 0, f_savedA, f_savedB, f_savedC, w, nI c, f_faults, a_ops, a_xs, a_ys, a_sizes, a_address, a_bytes, a_indexAt, a_locals, upd a_states r 4, a_priorities, a_pointers, a_branches, a_deadlines, upd a_held r f_regA, a_readyLink, a_timerLink, a_head, a_tail, upd a_writers k (nI r), a_readers, cs_f (k * 4) f_regA a_counters), (nI L, nI N, nI C, nI c, f_faults, f_sealed, g_nextTicket, a_ops, a_xs, a_ys, upd a_states r 4, a_priorities, b_pos, upd b_ra r 0, upd b_rb r 0, upd b_rc r 0, a_locals, upd b_chan r (nI k), upd b_held r f_regA, b_named, b_wake, b_open, b_guard, b_timer, b_chosen, b_ticket, upd b_sent k (b_sent k + 1), b_received, upd b_sentFold k (b_sentFold k * 31 + f_regA), b_receivedFold), rl_in (dy_mono (Nat.le_succ _) D1), fun post K => toX post (xo_idle hr hk8 ho8 hor hb zw eo h5 h7 K), fun post K => ?_⟩
            rw [← ea] at K
            exact yo_idle hN hr hk8 ho8 hor ho CW zw CR h5 h7 K
    · exact fault (Or.inr zw) (fun post K => yo_full hN hr ho CW zw K)
  · exact fault (Or.inl hb) (fun post K => yo_open hr (by rw [ho]; decide) K)
theorem op_in {k h : Nat} (hN : N ≤ 8) (hC : C ≤ 8) (hr : r < 8) (had : ∀ i, i < L → ad i < 2 ^ 31) (H : rl_dy N C L B c ad (nI r) f_interrupted f_regA f_regB f_regC f_savedA f_savedB f_savedC f_timerHead a_states a_priorities a_pointers a_branches a_deadlines a_held a_readyLink a_timerLink a_head a_tail a_writers a_readers a_counters g_nextTicket b_pos b_ra b_rb b_rc b_chan b_held b_named b_wake b_open b_guard b_timer b_chosen b_ticket b_sent b_received b_sentFold b_receivedFold) (hk : k < C) (hh : h < 8) (hw : w &&& 7 = nI k) (hw2 : (w >>> ((3 : Int32) &&& 31)) &&& 7 = nI h) (hx : x = nI k) (hy : y = nI h) : jo_R N C L (B + 1) c ad f_sealed a_ops a_xs a_ys a_address a_bytes a_indexAt (fun post => wpX_execute post (f_unused, f_constant, f_word, f_target, f_channel, f_level, f_prefix, f_negate, f_operate, f_disableChannel, f_disableTimer, nI N, nI C, nI L, f_sealed, f_timerHead, nI r, f_interrupted, f_regA, f_regB, f_regC, f_savedA, f_savedB, f_savedC, w, nI c, f_faults, a_ops, a_xs, a_ys, a_sizes, a_address, a_bytes, a_indexAt, a_locals, a_states, a_priorities, a_pointers, a_branches, a_deadlines, a_held, a_readyLink, a_timerLink, a_head, a_tail, a_writers, a_readers, a_counters) 11) (fun post => wpY_in post (nI L, nI N, nI C, nI c, f_faults, f_sealed, g_nextTicket, a_ops, a_xs, a_ys, a_states, a_priorities, b_pos, b_ra, b_rb, b_rc, a_locals, b_chan, b_held, b_named, b_wake, b_open, b_guard, b_timer, b_chosen, b_ticket, b_sent, b_received, b_sentFold, b_receivedFold) (nI r) x y) := by
  obtain ⟨hrN, g, _, ea, eb, ec⟩ := pr_at hN hr H.1
  subst hx hy
  have hk8 : k < 8 := by omega
  have A := H.2.2.2.2.2.1 r hrN
  have CW := (H.2.2.2.1 k hk).1
  have CR := (H.2.2.2.1 k hk).2
  have toX : ∀ post : SX → Prop, wpX_input (fun u => match u with | (f_unused, f_constant, f_word, f_target, f_channel, f_level, f_prefix, f_negate, f_operate, f_disableChannel, f_disableTimer, f_processCount, f_channelCount, f_length, f_sealed, f_timerHead, f_running, f_interrupted, f_regA, f_regB, f_regC, f_savedA, f_savedB, f_savedC, f_operand, f_clock, f_faults, a_ops, a_xs, a_ys, a_sizes, a_address, a_bytes, a_indexAt, a_locals, a_states, a_priorities, a_pointers, a_branches, a_deadlines, a_held, a_readyLink, a_timerLink, a_head, a_tail, a_writers, a_readers, a_counters) => (post (f_unused, f_constant, f_word, f_target, f_channel, f_level, f_prefix, f_negate, f_operate, f_disableChannel, f_disableTimer, f_processCount, f_channelCount, f_length, f_sealed, f_timerHead, f_running, f_interrupted, f_regA, f_regB, f_regC, f_savedA, f_savedB, f_savedC, f_operand, f_clock, f_faults, a_ops, a_xs, a_ys, a_sizes, a_address, a_bytes, a_indexAt, a_locals, a_states, a_priorities, a_pointers, a_branches, a_deadlines, a_held, a_readyLink, a_timerLink, a_head, a_tail, a_writers, a_readers, a_counters))) (f_unused, f_constant, f_word, f_target, f_channel, f_level, f_prefix, f_negate, f_operate, f_disableChannel, f_disableTimer, nI N, nI C, nI L, f_sealed, f_timerHead, nI r, f_interrupted, f_regA, f_regB, f_regC, f_savedA, f_savedB, f_savedC, w, nI c, f_faults, a_ops, a_xs, a_ys, a_sizes, a_address, a_bytes, a_indexAt, a_locals, a_states, a_priorities, a_pointers, a_branches, a_deadlines, a_held, a_readyLink, a_timerLink, a_head, a_tail, a_writers, a_readers, a_counters) (nI k) (nI h) → wpX_execute post (f_unused, f_constant, f_word, f_target, f_channel, f_level, f_prefix, f_negate, f_operate, f_disableChannel, f_disableTimer, nI N, nI C, nI L, f_sealed, f_timerHead, nI r, f_interrupted, f_regA, f_regB, f_regC, f_savedA, f_savedB, f_savedC, w, nI c, f_faults, a_ops, a_xs, a_ys, a_sizes, a_address, a_bytes, a_indexAt, a_locals, a_states, a_priorities, a_pointers, a_branches, a_deadlines, a_held, a_readyLink, a_timerLink, a_head, a_tail, a_writers, a_readers, a_counters) 11 := fun post K => by
    simp +decide only [wpX_execute, wpX_communicate, hw, hw2, forall_eq, true_implies, false_implies, not_true_eq_false, not_false_eq_true, and_true, true_and, implies_true]
    exact K
  have fault : (¬ a_branches r = -2 ∨ ¬ a_readers k < 0) → (∀ post : SY → Prop, post (nI L, nI N, nI C, nI c, f_faults + 1, f_sealed, g_nextTicket, a_ops, a_xs, a_ys, upd a_states r 0, a_priorities, b_pos, upd b_ra r 0, upd b_rb r 0, upd b_rc r 0, a_locals, b_chan, b_held, b_named, b_wake, upd b_open r 0, zr_f r 8 b_guard, upd b_timer r (-1), upd b_chosen r (-1), b_ticket, b_sent, b_received, b_sentFold, b_receivedFold) → wpY_in post (nI L, nI N, nI C, nI c, f_faults, f_sealed, g_nextTicket, a_ops, a_xs, a_ys, a_states, a_priorities, b_pos, b_ra, b_rb, b_rc, a_locals, b_chan, b_held, b_named, b_wake, b_open, b_guard, b_timer, b_chosen, b_ticket, b_sent, b_received, b_sentFold, b_receivedFold) (nI r) (nI k) (nI h)) → jo_R N C L (B + 1) c ad f_sealed a_ops a_xs a_ys a_address a_bytes a_indexAt (fun post => wpX_execute post (f_unused, f_constant, f_word, f_target, f_channel, f_level, f_prefix, f_negate, f_operate, f_disableChannel, f_disableTimer, nI N, nI C, nI L, f_sealed, f_timerHead, nI r, f_interrupted, f_regA, f_regB, f_regC, f_savedA, f_savedB, f_savedC, w, nI c, f_faults, a_ops, a_xs, a_ys, a_sizes, a_address, a_bytes, a_indexAt, a_locals, a_states, a_priorities, a_pointers, a_branches, a_deadlines, a_held, a_readyLink, a_timerLink, a_head, a_tail, a_writers, a_readers, a_counters) 11) (fun post => wpY_in post (nI L, nI N, nI C, nI c, f_faults, f_sealed, g_nextTicket, a_ops, a_xs, a_ys, a_states, a_priorities, b_pos, b_ra, b_rb, b_rc, a_locals, b_chan, b_held, b_named, b_wake, b_open, b_guard, b_timer, b_chosen, b_ticket, b_sent, b_received, b_sentFold, b_receivedFold) (nI r) (nI k) (nI h)) := fun h hY =>
    ⟨(f_unused, f_constant, f_word, f_target, f_channel, f_level, f_prefix, f_negate, f_operate, f_disableChannel, f_disableTimer, nI N, nI C, nI L, f_sealed, f_timerHead, -1, f_interrupted, 0, 0, 0, f_savedA, f_savedB, f_savedC, w, nI c, f_faults + 1, a_ops, a_xs, a_ys, a_sizes, a_address, a_bytes, a_indexAt, a_locals, upd a_states r 0, a_priorities, a_pointers, upd a_branches r (-2), upd a_deadlines r (-1), a_held, a_readyLink, a_timerLink, a_head, a_tail, a_writers, rd_f r C a_readers, a_counters), (nI L, nI N, nI C, nI c, f_faults + 1, f_sealed, g_nextTicket, a_ops, a_xs, a_ys, upd a_states r 0, a_priorities, b_pos, upd b_ra r 0, upd b_rb r 0, upd b_rc r 0, a_locals, b_chan, b_held, b_named, b_wake, upd b_open r 0, zr_f r 8 b_guard, upd b_timer r (-1), upd b_chosen r (-1), b_ticket, b_sent, b_received, b_sentFold, b_receivedFold), rl_in (dy_mono (Nat.le_succ _) (dy_fault hN hC hr H)), fun post K => toX post (xi_fault hC hr hk8 h K), hY⟩
  rcases al_br had A with ⟨hb, ho⟩ | ⟨hb, ho⟩
  · by_cases zr : a_readers k < 0
    · by_cases zw : a_writers k < 0
      · exact ⟨(f_unused, f_constant, f_word, f_target, f_channel, f_level, f_prefix, f_negate, f_operate, f_disableChannel, f_disableTimer, nI N, nI C, nI L, f_sealed, f_timerHead, -1, f_interrupted, 0, 0, 0, f_savedA, f_savedB, f_savedC, w, nI c, f_faults, a_ops, a_xs, a_ys, a_sizes, a_address, a_bytes, a_indexAt, a_locals, upd a_states r 5, a_priorities, a_pointers, a_branches, a_deadlines, upd a_held r (nI h), a_readyLink, a_timerLink, a_head, a_tail, a_writers, upd a_readers k (nI r), a_counters), (nI L, nI N, nI C, nI c, f_faults, f_sealed, g_nextTicket, a_ops, a_xs, a_ys, upd a_states r 5, a_priorities, b_pos, upd b_ra r 0, upd b_rb r 0, upd b_rc r 0, a_locals, upd b_chan r (nI k), b_held, upd b_named r (nI h), b_wake, b_open, b_guard, b_timer, b_chosen, b_ticket, b_sent, b_received, b_sentFold, b_receivedFold), rl_in (dy_mono (Nat.le_succ _) (dy_recv hN hC hr hk hh ho zr H)), fun post K => toX post (xi_none hr hk8 hb zr zw K), fun post K => yi_none hN hr hk8 ho CR zr CW zw K⟩
      · obtain ⟨o, hoN, eo, Qo, uo⟩ := ow_pos CW zw
        rw [eo] at CW
        have ho8 : o < 8 := by omega
        have g3 : a_states o ≠ 3 := by rw [Qo.1]; decide
        have eh := ((H.2.2.2.2.2.2.1 o hoN).1 Qo.1).1
        obtain ⟨kp, hkp, ekp⟩ := pi_k H.2.2.2.2.2.2.2.2 o
        obtain ⟨hd, tl, lk, Q, W⟩ := xw_ready (f_unused := f_unused) (f_constant := f_constant) (f_word := f_word) (f_target := f_target) (f_channel := f_channel) (f_level := f_level) (f_prefix := f_prefix) (f_negate := f_negate) (f_operate := f_operate) (f_disableChannel := f_disableChannel) (f_disableTimer := f_disableTimer) (f_processCount := nI N) (f_channelCount := nI C) (f_length := nI L) (f_sealed := f_sealed) (f_timerHead := f_timerHead) (f_running := nI r) (f_interrupted := f_interrupted) (f_regA := 0) (f_regB := 0) (f_regC := 0) (f_savedA := f_savedA) (f_savedB := f_savedB) (f_savedC := f_savedC) (f_operand := w) (f_clock := nI c) (f_faults := f_faults) (a_ops := a_ops) (a_xs := a_xs) (a_ys := a_ys) (a_sizes := a_sizes) (a_address := a_address) (a_bytes := a_bytes) (a_indexAt := a_indexAt) (a_locals := upd a_locals (r * 8 + h) (a_held o)) (a_states := a_states) (a_priorities := a_priorities) (a_pointers := a_pointers) (a_branches := a_branches) (a_deadlines := a_deadlines) (a_held := a_held) (a_readyLink := a_readyLink) (a_timerLink := a_timerLink) (a_head := a_head) (a_tail := a_tail) (a_writers := upd a_writers k (-1)) (a_readers := a_readers) (a_counters := cs_f (k * 4 + 1) (a_held o) a_counters) hN hkp hoN g3 ekp H.2.1
        refine ⟨(f_unused, f_constant, f_word, f_target, f_channel, f_level, f_prefix, f_negate, f_operate, f_disableChannel, f_disableTimer, nI N, nI C, nI L, f_sealed, f_timerHead, nI r, f_interrupted, 0, 0, 0, f_savedA, f_savedB, f_savedC, w, nI c, f_faults, a_ops, a_xs, a_ys, a_sizes, a_address, a_bytes, a_indexAt, upd a_locals (r * 8 + h) (a_held o), upd a_states o 3, a_priorities, a_pointers, a_branches, a_deadlines, a_held, lk, a_timerLink, hd, tl, upd a_writers k (-1), a_readers, cs_f (k * 4 + 1) (a_held o) a_counters), (nI L, nI N, nI C, nI c, f_faults, f_sealed, g_nextTicket + 1, a_ops, a_xs, a_ys, upd a_states o 3, a_priorities, b_pos, upd b_ra r 0, upd b_rb r 0, upd b_rc r 0, upd a_locals (r * 8 + h) (a_held o), b_chan, b_held, b_named, b_wake, b_open, b_guard, b_timer, b_chosen, vp_updL b_ticket o g_nextTicket, b_sent, upd b_received k (b_received k + 1), b_sentFold, upd b_receivedFold k (b_receivedFold k * 31 + a_held o)), rl_in (dy_take hN hC hr hk hoN Qo.1 Qo.2 H Q), fun post K => toX post (xi_meet hr hk8 ho8 hh hb zr eo (W _ K)), fun post K => ?_⟩
        rw [eh] at K
        exact yi_meet hN hr hk8 ho8 hh ho CR zr CW K
    · exact fault (Or.inr zr) (fun post K => yi_full hN hr hk8 ho CR zr K)
  · exact fault (Or.inl hb) (fun post K => yi_open hr (by rw [ho]; decide) K)
end
end
section
/-! delays and alternations: both sides -/
theorem du_iff {m : Nat} (h : m < 256) : (128 : Int32) ≤ nI m ↔ 128 ≤ m := nI_leI (a := 128) (by omega) (by omega)
theorem du_sw {c d : Nat} (hc : c < 256) (hd : d < 256) (h : 128 ≤ tm_w d c) : 1 ≤ tm_w c d ∧ tm_w c d ≤ 128 := by
  unfold tm_w at h ⊢
  omega
section
variable {f_unused f_constant f_word f_target f_channel f_level f_prefix f_negate f_operate f_disableChannel f_disableTimer f_processCount f_channelCount f_length f_sealed f_timerHead f_running f_interrupted f_regA f_regB f_regC f_savedA f_savedB f_savedC f_operand f_clock f_faults : Int32} {a_ops a_xs a_ys a_sizes a_address a_bytes a_indexAt a_locals a_states a_priorities a_pointers a_branches a_deadlines a_held a_readyLink a_timerLink a_head a_tail a_writers a_readers a_counters : Nat → Int32}
theorem xu_due {post : Int32 → Prop} {c d : Nat} (hc : c < 256) (hd : d < 256) (K0 : 128 ≤ tm_w d c → post 0) (K1 : ¬ 128 ≤ tm_w d c → post 1) : wpX_due post (f_unused, f_constant, f_word, f_target, f_channel, f_level, f_prefix, f_negate, f_operate, f_disableChannel, f_disableTimer, f_processCount, f_channelCount, f_length, f_sealed, f_timerHead, f_running, f_interrupted, f_regA, f_regB, f_regC, f_savedA, f_savedB, f_savedC, f_operand, nI c, f_faults, a_ops, a_xs, a_ys, a_sizes, a_address, a_bytes, a_indexAt, a_locals, a_states, a_priorities, a_pointers, a_branches, a_deadlines, a_held, a_readyLink, a_timerLink, a_head, a_tail, a_writers, a_readers, a_counters) (nI d) := by
  simp only [wpX_due, tm_and hd hc, du_iff (tm_lt d c)]
  exact ⟨K0, K1⟩
end
section
variable {g_length g_procs g_chans g_clock g_faults g_sealed : Int32} {g_nextTicket : Int64} {b_ops b_xs b_ys b_st b_prio b_pos b_ra b_rb b_rc b_words b_chan b_held b_named b_wake b_open b_guard b_timer b_chosen b_sent b_received b_sentFold b_receivedFold : Nat → Int32} {b_ticket : Nat → Int64}
theorem yu_due {post : Int32 → Prop} {c d : Nat} (hc : c < 256) (hd : d < 256) (K0 : 128 ≤ tm_w d c → post 0) (K1 : ¬ 128 ≤ tm_w d c → post 1) : wpY_due post (g_length, g_procs, g_chans, nI c, g_faults, g_sealed, g_nextTicket, b_ops, b_xs, b_ys, b_st, b_prio, b_pos, b_ra, b_rb, b_rc, b_words, b_chan, b_held, b_named, b_wake, b_open, b_guard, b_timer, b_chosen, b_ticket, b_sent, b_received, b_sentFold, b_receivedFold) (nI d) := by
  simp only [wpY_due, tm_and hd hc, du_iff (tm_lt d c)]
  exact ⟨K0, K1⟩
end
section
variable {N C L B c r : Nat} {ad : Nat → Nat} {x y w : Int32}
variable {f_unused f_constant f_word f_target f_channel f_level f_prefix f_negate f_operate f_disableChannel f_disableTimer f_processCount f_channelCount f_length f_sealed f_timerHead f_running f_interrupted f_regA f_regB f_regC f_savedA f_savedB f_savedC f_operand f_clock f_faults : Int32} {a_ops a_xs a_ys a_sizes a_address a_bytes a_indexAt a_locals a_states a_priorities a_pointers a_branches a_deadlines a_held a_readyLink a_timerLink a_head a_tail a_writers a_readers a_counters : Nat → Int32}
variable {g_length g_procs g_chans g_clock g_faults g_sealed : Int32} {g_nextTicket : Int64} {b_ops b_xs b_ys b_st b_prio b_pos b_ra b_rb b_rc b_words b_chan b_held b_named b_wake b_open b_guard b_timer b_chosen b_sent b_received b_sentFold b_receivedFold : Nat → Int32} {b_ticket : Nat → Int64}
theorem op_delay (hN : N ≤ 8) (hC : C ≤ 8) (hc : c < 256) (hr : r < 8) (had : ∀ i, i < L → ad i < 2 ^ 31) (H : rl_dy N C L B c ad (nI r) f_interrupted f_regA f_regB f_regC f_savedA f_savedB f_savedC f_timerHead a_states a_priorities a_pointers a_branches a_deadlines a_held a_readyLink a_timerLink a_head a_tail a_writers a_readers a_counters g_nextTicket b_pos b_ra b_rb b_rc b_chan b_held b_named b_wake b_open b_guard b_timer b_chosen b_ticket b_sent b_received b_sentFold b_receivedFold) : jo_R N C L B c ad f_sealed a_ops a_xs a_ys a_address a_bytes a_indexAt (fun post => wpX_execute post (f_unused, f_constant, f_word, f_target, f_channel, f_level, f_prefix, f_negate, f_operate, f_disableChannel, f_disableTimer, nI N, nI C, nI L, f_sealed, f_timerHead, nI r, f_interrupted, f_regA, f_regB, f_regC, f_savedA, f_savedB, f_savedC, w, nI c, f_faults, a_ops, a_xs, a_ys, a_sizes, a_address, a_bytes, a_indexAt, a_locals, a_states, a_priorities, a_pointers, a_branches, a_deadlines, a_held, a_readyLink, a_timerLink, a_head, a_tail, a_writers, a_readers, a_counters) 13) (fun post => wpY_plain post (nI L, nI N, nI C, nI c, f_faults, f_sealed, g_nextTicket, a_ops, a_xs, a_ys, a_states, a_priorities, b_pos, b_ra, b_rb, b_rc, a_locals, b_chan, b_held, b_named, b_wake, b_open, b_guard, b_timer, b_chosen, b_ticket, b_sent, b_received, b_sentFold, b_receivedFold) (nI r) 13 x y) := by
  obtain ⟨hrN, g, _, ea, eb, ec⟩ := pr_at hN hr H.1
  have h0 : a_states r ≠ 0 := by rw [g]; decide
  have h3 : a_states r ≠ 3 := by rw [g]; decide
  have h4 : a_states r ≠ 4 := by rw [g]; decide
  have h5 : a_states r ≠ 5 := by rw [g]; decide
  have h6 : a_states r ≠ 6 := by rw [g]; decide
  have h7 : a_states r ≠ 7 := by rw [g]; decide
  have A := H.2.2.2.2.2.1 r hrN
  obtain ⟨d, hd, ed⟩ := pk_andE f_regA (m := 255) 8 (by decide)
  have hd : d < 256 := hd
  rcases al_br had A with ⟨hb, ho⟩ | ⟨hb, ho⟩
  · by_cases du : 128 ≤ tm_w d c
    · obtain ⟨w1, w2⟩ := du_sw hc hd du
      have T0 : rl_tm N 1 c a_states (upd a_deadlines r (nI d)) f_timerHead a_timerLink := tm_dl h6 h7 H.2.2.1
      obtain ⟨th, tk, T, W⟩ := xw_enter (f_unused := f_unused) (f_constant := f_constant) (f_word := f_word) (f_target := f_target) (f_channel := f_channel) (f_level := f_level) (f_prefix := f_prefix) (f_negate := f_negate) (f_operate := f_operate) (f_disableChannel := f_disableChannel) (f_disableTimer := f_disableTimer) (f_processCount := nI N) (f_channelCount := nI C) (f_length := nI L) (f_sealed := f_sealed) (f_timerHead := f_timerHead) (f_running := nI r) (f_interrupted := f_interrupted) (f_regA := 0) (f_regB := 0) (f_regC := 0) (f_savedA := f_savedA) (f_savedB := f_savedB) (f_savedC := f_savedC) (f_operand := w) (f_faults := f_faults) (a_ops := a_ops) (a_xs := a_xs) (a_ys := a_ys) (a_sizes := a_sizes) (a_address := a_address) (a_bytes := a_bytes) (a_indexAt := a_indexAt) (a_locals := a_locals) (a_states := a_states) (a_priorities := a_priorities) (a_pointers := a_pointers) (a_branches := a_branches) (a_deadlines := upd a_deadlines r (nI d)) (a_held := a_held) (a_readyLink := a_readyLink) (a_timerLink := a_timerLink) (a_head := a_head) (a_tail := a_tail) (a_writers := a_writers) (a_readers := a_readers) (a_counters := a_counters) (s := 6) hN hc hrN h6 h7 (Or.inl rfl) hd pk_us w1 w2 T0
      obtain ⟨H1, H2, H3, H4, H5, H6, H7, H8, H9⟩ := H
      refine ⟨(f_unused, f_constant, f_word, f_target, f_channel, f_level, f_prefix, f_negate, f_operate, f_disableChannel, f_disableTimer, nI N, nI C, nI L, f_sealed, th, -1, f_interrupted, 0, 0, 0, f_savedA, f_savedB, f_savedC, w, nI c, f_faults, a_ops, a_xs, a_ys, a_sizes, a_address, a_bytes, a_indexAt, a_locals, upd a_states r 6, a_priorities, a_pointers, a_branches, upd a_deadlines r (nI d), a_held, a_readyLink, tk, a_head, a_tail, a_writers, a_readers, a_counters), (nI L, nI N, nI C, nI c, f_faults, f_sealed, g_nextTicket, a_ops, a_xs, a_ys, upd a_states r 6, a_priorities, b_pos, upd b_ra r 0, upd b_rb r 0, upd b_rc r 0, a_locals, b_chan, b_held, b_named, upd b_wake r (nI d), b_open, b_guard, b_timer, b_chosen, b_ticket, b_sent, b_received, b_sentFold, b_receivedFold), rl_in ⟨pr_susp hN hr (by decide) (by decide) (pr_regs hN hr H1), qu_set h3 (by decide) H2, T, ch_st h4 h5 (by decide) (by decide) H4, po_s1 h0 H5, ?_, he_st (by decide) (by decide) H7, H8, H9⟩, fun post K => ?_, fun post K => ?_⟩
      · refine al_pt (r := r) H6 (fun p hp => ⟨pk_un hp, rfl, rfl, rfl, rfl, pk_un hp, pk_un hp⟩) ?_
        simp only [pk_us]
        exact Or.inl ⟨ho, hb, by decide, fun _ => ⟨rfl, d, hd, rfl⟩, fun z => absurd rfl z⟩
      · simp +decide only [wpX_execute, wpX_communicate, wpX_delay, wpX_clear, ba_v hr, ba_c hr, hb, ed, forall_eq, true_implies, false_implies, not_true_eq_false, not_false_eq_true, and_true, true_and, implies_true]
        refine xu_due hc hd (fun _ => br_t rfl ?_) (fun z => absurd du z)
        refine W _ ?_
        simp only [wpX_suspend, ba_v hr, ba_c hr, forall_eq, true_implies, false_implies, not_true_eq_false, not_false_eq_true, and_true, true_and, implies_true]
        exact K
      · refine br_f (by decide) <| br_f (by decide) <| br_f (by decide) <| br_f (by decide) <| br_f (by decide) <| br_f (by decide) <| br_f (by decide) <| br_f (by decide) <| br_f (by decide) <| br_f (by decide) <| br_f (by decide) <|  br_t rfl ?_
        simp only [wpY_clear, ba_v hr, ba_c hr, ho, ea, ed, forall_eq, true_implies, false_implies, not_true_eq_false, not_false_eq_true, and_true, true_and, implies_true]
        refine yu_due hc hd (fun _ => br_t rfl ?_) (fun z => absurd du z)
        exact K
    · refine ⟨(f_unused, f_constant, f_word, f_target, f_channel, f_level, f_prefix, f_negate, f_operate, f_disableChannel, f_disableTimer, nI N, nI C, nI L, f_sealed, f_timerHead, nI r, f_interrupted, 0, 0, 0, f_savedA, f_savedB, f_savedC, w, nI c, f_faults, a_ops, a_xs, a_ys, a_sizes, a_address, a_bytes, a_indexAt, a_locals, a_states, a_priorities, a_pointers, a_branches, a_deadlines, a_held, a_readyLink, a_timerLink, a_head, a_tail, a_writers, a_readers, a_counters), (nI L, nI N, nI C, nI c, f_faults, f_sealed, g_nextTicket, a_ops, a_xs, a_ys, a_states, a_priorities, b_pos, upd b_ra r 0, upd b_rb r 0, upd b_rc r 0, a_locals, b_chan, b_held, b_named, b_wake, b_open, b_guard, b_timer, b_chosen, b_ticket, b_sent, b_received, b_sentFold, b_receivedFold), rl_in ⟨pr_regs hN hr H.1, H.2⟩, fun post K => ?_, fun post K => ?_⟩
      · simp +decide only [wpX_execute, wpX_communicate, wpX_delay, wpX_clear, ba_v hr, ba_c hr, hb, ed, forall_eq, true_implies, false_implies, not_true_eq_false, not_false_eq_true, and_true, true_and, implies_true]
        exact xu_due hc hd (fun z => absurd z du) (fun _ => br_f (by decide) K)
      · refine br_f (by decide) <| br_f (by decide) <| br_f (by decide) <| br_f (by decide) <| br_f (by decide) <| br_f (by decide) <| br_f (by decide) <| br_f (by decide) <| br_f (by decide) <| br_f (by decide) <| br_f (by decide) <|  br_t rfl ?_
        simp only [wpY_clear, ba_v hr, ba_c hr, ho, ea, ed, forall_eq, true_implies, false_implies, not_true_eq_false, not_false_eq_true, and_true, true_and, implies_true]
        exact yu_due hc hd (fun z => absurd z du) (fun _ => br_f (by decide) K)
  · have ho0 : ¬ b_open r = 0 := by rw [ho]; decide
    refine ⟨(f_unused, f_constant, f_word, f_target, f_channel, f_level, f_prefix, f_negate, f_operate, f_disableChannel, f_disableTimer, nI N, nI C, nI L, f_sealed, f_timerHead, -1, f_interrupted, 0, 0, 0, f_savedA, f_savedB, f_savedC, w, nI c, f_faults + 1, a_ops, a_xs, a_ys, a_sizes, a_address, a_bytes, a_indexAt, a_locals, upd a_states r 0, a_priorities, a_pointers, upd a_branches r (-2), upd a_deadlines r (-1), a_held, a_readyLink, a_timerLink, a_head, a_tail, a_writers, rd_f r C a_readers, a_counters), (nI L, nI N, nI C, nI c, f_faults + 1, f_sealed, g_nextTicket, a_ops, a_xs, a_ys, upd a_states r 0, a_priorities, b_pos, upd b_ra r 0, upd b_rb r 0, upd b_rc r 0, a_locals, b_chan, b_held, b_named, b_wake, upd b_open r 0, zr_f r 8 b_guard, upd b_timer r (-1), upd b_chosen r (-1), b_ticket, b_sent, b_received, b_sentFold, b_receivedFold), rl_in (dy_fault hN hC hr H), fun post K => ?_, fun post K => ?_⟩
    · simp +decide only [wpX_execute, wpX_communicate, wpX_delay, ba_v hr, ba_c hr, hb, forall_eq, true_implies, false_implies, not_true_eq_false, not_false_eq_true, and_true, true_and, implies_true]
      exact xw_fault hC hr K
    · refine br_f (by decide) <| br_f (by decide) <| br_f (by decide) <| br_f (by decide) <| br_f (by decide) <| br_f (by decide) <| br_f (by decide) <| br_f (by decide) <| br_f (by decide) <| br_f (by decide) <| br_f (by decide) <|  br_t rfl ?_
      simp only [ba_v hr, ba_c hr, ho0, forall_eq, true_implies, false_implies, not_true_eq_false, not_false_eq_true, and_true, true_and, implies_true]
      exact yw_fault hr K
/-- an alternation's instruction at the wrong time -/
theorem op_afault {o : Int32} (hN : N ≤ 8) (hC : C ≤ 8) (hr : r < 8) (H : rl_dy N C L B c ad (nI r) f_interrupted f_regA f_regB f_regC f_savedA f_savedB f_savedC f_timerHead a_states a_priorities a_pointers a_branches a_deadlines a_held a_readyLink a_timerLink a_head a_tail a_writers a_readers a_counters g_nextTicket b_pos b_ra b_rb b_rc b_chan b_held b_named b_wake b_open b_guard b_timer b_chosen b_ticket b_sent b_received b_sentFold b_receivedFold) (ho1 : (13 : Int32) < o) (ho2 : (5 : Int32) < o) (ho3 : (9 : Int32) < o)
    (h : (o = 14 ∧ ¬ a_branches r = -2 ∧ b_open r = 1) ∨ (¬ o = 14 ∧ a_branches r = -2 ∧ b_open r = 0)) : jo_R N C L B c ad f_sealed a_ops a_xs a_ys a_address a_bytes a_indexAt (fun post => wpX_execute post (f_unused, f_constant, f_word, f_target, f_channel, f_level, f_prefix, f_negate, f_operate, f_disableChannel, f_disableTimer, nI N, nI C, nI L, f_sealed, f_timerHead, nI r, f_interrupted, f_regA, f_regB, f_regC, f_savedA, f_savedB, f_savedC, w, nI c, f_faults, a_ops, a_xs, a_ys, a_sizes, a_address, a_bytes, a_indexAt, a_locals, a_states, a_priorities, a_pointers, a_branches, a_deadlines, a_held, a_readyLink, a_timerLink, a_head, a_tail, a_writers, a_readers, a_counters) o) (fun post => wpY_alternation post (nI L, nI N, nI C, nI c, f_faults, f_sealed, g_nextTicket, a_ops, a_xs, a_ys, a_states, a_priorities, b_pos, b_ra, b_rb, b_rc, a_locals, b_chan, b_held, b_named, b_wake, b_open, b_guard, b_timer, b_chosen, b_ticket, b_sent, b_received, b_sentFold, b_receivedFold) (nI r) o x y) := by
  refine ⟨(f_unused, f_constant, f_word, f_target, f_channel, f_level, f_prefix, f_negate, f_operate, f_disableChannel, f_disableTimer, nI N, nI C, nI L, f_sealed, f_timerHead, -1, f_interrupted, 0, 0, 0, f_savedA, f_savedB, f_savedC, w, nI c, f_faults + 1, a_ops, a_xs, a_ys, a_sizes, a_address, a_bytes, a_indexAt, a_locals, upd a_states r 0, a_priorities, a_pointers, upd a_branches r (-2), upd a_deadlines r (-1), a_held, a_readyLink, a_timerLink, a_head, a_tail, a_writers, rd_f r C a_readers, a_counters), (nI L, nI N, nI C, nI c, f_faults + 1, f_sealed, g_nextTicket, a_ops, a_xs, a_ys, upd a_states r 0, a_priorities, b_pos, upd b_ra r 0, upd b_rb r 0, upd b_rc r 0, a_locals, b_chan, b_held, b_named, b_wake, upd b_open r 0, zr_f r 8 b_guard, upd b_timer r (-1), upd b_chosen r (-1), b_ticket, b_sent, b_received, b_sentFold, b_receivedFold), rl_in (dy_fault hN hC hr H), fun post K => ?_, fun post K => ?_⟩
  · refine br_t ho2 (br_t ho3 (br_t ho1 ?_))
    rcases h with ⟨h1, h2, h3⟩ | ⟨h1, h2, h3⟩
    · simp +decide only [wpX_alternate, wX_alternate_19, wX_alternate_32, ba_v hr, ba_c hr, h1, h2, forall_eq, true_implies, false_implies, not_true_eq_false, not_false_eq_true, and_true, true_and, implies_true]
      exact xw_fault hC hr K
    · simp +decide only [wpX_alternate, wX_alternate_19, wX_alternate_32, ba_v hr, ba_c hr, h1, h2, forall_eq, true_implies, false_implies, not_true_eq_false, not_false_eq_true, and_true, true_and, implies_true]
      exact xw_fault hC hr K
  · rcases h with ⟨h1, h2, h3⟩ | ⟨h1, h2, h3⟩
    · simp +decide only [wpY_alternation, wY_alternation_17, ba_v hr, ba_c hr, h1, h3, forall_eq, true_implies, false_implies, not_true_eq_false, not_false_eq_true, and_true, true_and, implies_true]
      exact yw_fault hr K
    · simp +decide only [wpY_alternation, wY_alternation_17, ba_v hr, ba_c hr, h1, h3, forall_eq, true_implies, false_implies, not_true_eq_false, not_false_eq_true, and_true, true_and, implies_true]
      exact yw_fault hr K
theorem op_alt (hN : N ≤ 8) (hC : C ≤ 8) (hr : r < 8) (had : ∀ i, i < L → ad i < 2 ^ 31) (H : rl_dy N C L B c ad (nI r) f_interrupted f_regA f_regB f_regC f_savedA f_savedB f_savedC f_timerHead a_states a_priorities a_pointers a_branches a_deadlines a_held a_readyLink a_timerLink a_head a_tail a_writers a_readers a_counters g_nextTicket b_pos b_ra b_rb b_rc b_chan b_held b_named b_wake b_open b_guard b_timer b_chosen b_ticket b_sent b_received b_sentFold b_receivedFold) : jo_R N C L B c ad f_sealed a_ops a_xs a_ys a_address a_bytes a_indexAt (fun post => wpX_execute post (f_unused, f_constant, f_word, f_target, f_channel, f_level, f_prefix, f_negate, f_operate, f_disableChannel, f_disableTimer, nI N, nI C, nI L, f_sealed, f_timerHead, nI r, f_interrupted, f_regA, f_regB, f_regC, f_savedA, f_savedB, f_savedC, w, nI c, f_faults, a_ops, a_xs, a_ys, a_sizes, a_address, a_bytes, a_indexAt, a_locals, a_states, a_priorities, a_pointers, a_branches, a_deadlines, a_held, a_readyLink, a_timerLink, a_head, a_tail, a_writers, a_readers, a_counters) 14) (fun post => wpY_alternation post (nI L, nI N, nI C, nI c, f_faults, f_sealed, g_nextTicket, a_ops, a_xs, a_ys, a_states, a_priorities, b_pos, b_ra, b_rb, b_rc, a_locals, b_chan, b_held, b_named, b_wake, b_open, b_guard, b_timer, b_chosen, b_ticket, b_sent, b_received, b_sentFold, b_receivedFold) (nI r) 14 x y) := by
  obtain ⟨hrN, g, _, ea, eb, ec⟩ := pr_at hN hr H.1
  have A := H.2.2.2.2.2.1 r hrN
  rcases al_br had A with ⟨hb, ho⟩ | ⟨hb, ho⟩
  · have h5 : a_states r ≠ 5 := by rw [g]; decide
    have h6 : a_states r ≠ 6 := by rw [g]; decide
    have ed : a_deadlines r = -1 := by
      rcases A with ⟨_, _, _, _, z⟩ | ⟨z, _⟩
      · exact z h6
      · rw [ho] at z; exact absurd z (by decide)
    obtain ⟨H1, H2, H3, H4, H5, H6, H7, H8, H9⟩ := H
    refine ⟨(f_unused, f_constant, f_word, f_target, f_channel, f_level, f_prefix, f_negate, f_operate, f_disableChannel, f_disableTimer, nI N, nI C, nI L, f_sealed, f_timerHead, nI r, f_interrupted, f_regA, f_regB, f_regC, f_savedA, f_savedB, f_savedC, w, nI c, f_faults, a_ops, a_xs, a_ys, a_sizes, a_address, a_bytes, a_indexAt, a_locals, a_states, a_priorities, a_pointers, upd a_branches r (-1), a_deadlines, a_held, a_readyLink, a_timerLink, a_head, a_tail, a_writers, a_readers, a_counters), (nI L, nI N, nI C, nI c, f_faults, f_sealed, g_nextTicket, a_ops, a_xs, a_ys, a_states, a_priorities, b_pos, b_ra, b_rb, b_rc, a_locals, b_chan, b_held, b_named, b_wake, upd b_open r 1, zr_f r 8 b_guard, upd b_timer r (-1), upd b_chosen r (-1), b_ticket, b_sent, b_received, b_sentFold, b_receivedFold), rl_in ⟨H1, H2, H3, ch_op hC h5 ho H4, H5, ?_, H7, H8, H9⟩, fun post K => ?_, fun post K => ?_⟩
    · refine al_pt (r := r) H6 (fun p hp => ⟨rfl, pk_un hp, pk_un hp, pk_un hp, pk_un hp, rfl, rfl⟩) ?_
      simp only [pk_us]
      exact Or.inr ⟨rfl, Or.inl g, ed, Or.inl rfl, Or.inl ⟨rfl, rfl⟩⟩
    · simp +decide only [wpX_execute, wpX_alternate, wX_alternate_19, wX_alternate_32, ba_v hr, ba_c hr, hb, forall_eq, true_implies, false_implies, not_true_eq_false, not_false_eq_true, and_true, true_and, implies_true]
      exact K
    · simp +decide only [wpY_alternation, wY_alternation_17, ba_v hr, ba_c hr, ho, forall_eq, true_implies, false_implies, not_true_eq_false, not_false_eq_true, and_true, true_and, implies_true]
      refine yw_close hr ?_
      simp only [ba_v hr, ba_c hr, ba_nb1, ba_uu, forall_eq, true_implies, false_implies, not_true_eq_false, not_false_eq_true, and_true, true_and, implies_true]
      exact yz_44 (by decide) K
  · exact op_afault hN hC hr H (by decide) (by decide) (by decide) (Or.inl ⟨rfl, hb, ho⟩)
theorem op_enbc {k : Nat} (hN : N ≤ 8) (hC : C ≤ 8) (hr : r < 8) (had : ∀ i, i < L → ad i < 2 ^ 31) (H : rl_dy N C L B c ad (nI r) f_interrupted f_regA f_regB f_regC f_savedA f_savedB f_savedC f_timerHead a_states a_priorities a_pointers a_branches a_deadlines a_held a_readyLink a_timerLink a_head a_tail a_writers a_readers a_counters g_nextTicket b_pos b_ra b_rb b_rc b_chan b_held b_named b_wake b_open b_guard b_timer b_chosen b_ticket b_sent b_received b_sentFold b_receivedFold) (hk : k < C) (hw : w &&& 7 = nI k) (hx : x = nI k) : jo_R N C L B c ad f_sealed a_ops a_xs a_ys a_address a_bytes a_indexAt (fun post => wpX_execute post (f_unused, f_constant, f_word, f_target, f_channel, f_level, f_prefix, f_negate, f_operate, f_disableChannel, f_disableTimer, nI N, nI C, nI L, f_sealed, f_timerHead, nI r, f_interrupted, f_regA, f_regB, f_regC, f_savedA, f_savedB, f_savedC, w, nI c, f_faults, a_ops, a_xs, a_ys, a_sizes, a_address, a_bytes, a_indexAt, a_locals, a_states, a_priorities, a_pointers, a_branches, a_deadlines, a_held, a_readyLink, a_timerLink, a_head, a_tail, a_writers, a_readers, a_counters) 15) (fun post => wpY_alternation post (nI L, nI N, nI C, nI c, f_faults, f_sealed, g_nextTicket, a_ops, a_xs, a_ys, a_states, a_priorities, b_pos, b_ra, b_rb, b_rc, a_locals, b_chan, b_held, b_named, b_wake, b_open, b_guard, b_timer, b_chosen, b_ticket, b_sent, b_received, b_sentFold, b_receivedFold) (nI r) 15 x y) := by
  obtain ⟨hrN, g, _, ea, eb, ec⟩ := pr_at hN hr H.1
  have A := H.2.2.2.2.2.1 r hrN
  rcases al_br had A with ⟨hb, ho⟩ | ⟨hb, ho⟩
  · exact op_afault hN hC hr H (by decide) (by decide) (by decide) (Or.inr ⟨by decide, hb, ho⟩)
  · subst hx
    have hk8 : k < 8 := by omega
    have ho0 : b_open r ≠ 0 := by rw [ho]; decide
    have CR := (H.2.2.2.1 k hk).2
    have mine : (a_readers k < 0 ∨ a_readers k = nI r) → jo_R N C L B c ad f_sealed a_ops a_xs a_ys a_address a_bytes a_indexAt (fun post => wpX_execute post (f_unused, f_constant, f_word, f_target, f_channel, f_level, f_prefix, f_negate, f_operate, f_disableChannel, f_disableTimer, nI N, nI C, nI L, f_sealed, f_timerHead, nI r, f_interrupted, f_regA, f_regB, f_regC, f_savedA, f_savedB, f_savedC, w, nI c, f_faults, a_ops, a_xs, a_ys, a_sizes, a_address, a_bytes, a_indexAt, a_locals, a_states, a_priorities, a_pointers, a_branches, a_deadlines, a_held, a_readyLink, a_timerLink, a_head, a_tail, a_writers, a_readers, a_counters) 15) (fun post => wpY_alternation post (nI L, nI N, nI C, nI c, f_faults, f_sealed, g_nextTicket, a_ops, a_xs, a_ys, a_states, a_priorities, b_pos, b_ra, b_rb, b_rc, a_locals, b_chan, b_held, b_named, b_wake, b_open, b_guard, b_timer, b_chosen, b_ticket, b_sent, b_received, b_sentFold, b_receivedFold) (nI r) 15 (nI k) y) := fun h => by
      have D1 := ch_enb hC hN hrN hk ho0 h H.2.2.2.1
      refine ⟨(f_unused, f_constant, f_word, f_target, f_channel, f_level, f_prefix, f_negate, f_operate, f_disableChannel, f_disableTimer, nI N, nI C, nI L, f_sealed, f_timerHead, nI r, f_interrupted, f_regA, f_regB, f_regC, f_savedA, f_savedB, f_savedC, w, nI c, f_faults, a_ops, a_xs, a_ys, a_sizes, a_address, a_bytes, a_indexAt, a_locals, a_states, a_priorities, a_pointers, a_branches, a_deadlines, a_held, a_readyLink, a_timerLink, a_head, a_tail, a_writers, upd a_readers k (nI r), a_counters), (nI L, nI N, nI C, nI c, f_faults, f_sealed, g_nextTicket, a_ops, a_xs, a_ys, a_states, a_priorities, b_pos, b_ra, b_rb, b_rc, a_locals, b_chan, b_held, b_named, b_wake, b_open, upd b_guard (r * 8 + k) 1, b_timer, b_chosen, b_ticket, b_sent, b_received, b_sentFold, b_receivedFold), rl_in ⟨H.1, H.2.1, H.2.2.1, D1, H.2.2.2.2⟩, fun post K => ?_, fun post K => ?_⟩
      · simp +decide only [wpX_execute, wpX_alternate, wX_alternate_19, wX_alternate_32, wpX_enableChannel, ba_v hr, ba_c hr, hb, hw, ba_v hk8, ba_c hk8, forall_eq, true_implies, false_implies, not_true_eq_false, not_false_eq_true, and_true, true_and, implies_true]
        rcases h with h | h
        · exact br_t h K
        · refine br_c (fun _ => K) (fun _ => br_t h K)
      · simp +decide only [wpY_alternation, wY_alternation_17, ba_v hr, ba_c hr, ho, forall_eq, true_implies, false_implies, not_true_eq_false, not_false_eq_true, and_true, true_and, implies_true]
        refine br_t rfl (yw_reader hN hk8 CR ?_)
        have K2 : wY_alternation_76 post (nI r) 15 (nI k) y (nI L) (nI N) (nI C) (nI c) f_faults f_sealed g_nextTicket a_ops a_xs a_ys a_states a_priorities b_pos b_ra b_rb b_rc a_locals b_chan b_held b_named b_wake b_open b_guard b_timer b_chosen b_ticket b_sent b_received b_sentFold b_receivedFold := by
          simp only [wY_alternation_76, ba_m8, nI_add, ba_v64 (show r * 8 + k < 64 by omega), ba_c64 (show r * 8 + k < 64 by omega), ba_nb1, forall_eq, true_implies, false_implies, not_true_eq_false, not_false_eq_true, and_true, true_and, implies_true]
          exact yz_88 (by decide) K
        rcases h with h | h
        · exact br_t h K2
        · exact br_c (fun _ => K2) (fun _ => br_t h K2)
    by_cases z : a_readers k < 0
    · exact mine (Or.inl z)
    · by_cases z2 : a_readers k = nI r
      · exact mine (Or.inr z2)
      · refine ⟨(f_unused, f_constant, f_word, f_target, f_channel, f_level, f_prefix, f_negate, f_operate, f_disableChannel, f_disableTimer, nI N, nI C, nI L, f_sealed, f_timerHead, -1, f_interrupted, 0, 0, 0, f_savedA, f_savedB, f_savedC, w, nI c, f_faults + 1, a_ops, a_xs, a_ys, a_sizes, a_address, a_bytes, a_indexAt, a_locals, upd a_states r 0, a_priorities, a_pointers, upd a_branches r (-2), upd a_deadlines r (-1), a_held, a_readyLink, a_timerLink, a_head, a_tail, a_writers, rd_f r C a_readers, a_counters), (nI L, nI N, nI C, nI c, f_faults + 1, f_sealed, g_nextTicket, a_ops, a_xs, a_ys, upd a_states r 0, a_priorities, b_pos, upd b_ra r 0, upd b_rb r 0, upd b_rc r 0, a_locals, b_chan, b_held, b_named, b_wake, upd b_open r 0, zr_f r 8 b_guard, upd b_timer r (-1), upd b_chosen r (-1), b_ticket, b_sent, b_received, b_sentFold, b_receivedFold), rl_in (dy_fault hN hC hr H), fun post K => ?_, fun post K => ?_⟩
        · simp +decide only [wpX_execute, wpX_alternate, wX_alternate_19, wX_alternate_32, wpX_enableChannel, ba_v hr, ba_c hr, hb, hw, ba_v hk8, ba_c hk8, z, z2, forall_eq, true_implies, false_implies, not_true_eq_false, not_false_eq_true, and_true, true_and, implies_true]
          exact xw_fault hC hr K
        · simp +decide only [wpY_alternation, wY_alternation_17, ba_v hr, ba_c hr, ho, forall_eq, true_implies, false_implies, not_true_eq_false, not_false_eq_true, and_true, true_and, implies_true]
          refine br_t rfl (yw_reader hN hk8 CR (br_f z (br_f z2 ?_)))
          exact yw_fault hr (yz_88 (by decide) K)
theorem al_open {s o a b t v d : Int32} (ho : o = 1) (h : rl_a1 L ad s o a b t v d) : d = t ∧ (t = -1 ∨ ∃ e, e < 256 ∧ t = nI e) ∧ ((a = -1 ∧ b = -1) ∨ ∃ i, i < L ∧ a = nI i ∧ b = nI (ad i)) := by
  rcases h with ⟨z, _⟩ | ⟨_, _, z⟩
  · rw [ho] at z; exact absurd z (by decide)
  · exact z
theorem op_enbt (hN : N ≤ 8) (hC : C ≤ 8) (hr : r < 8) (had : ∀ i, i < L → ad i < 2 ^ 31) (H : rl_dy N C L B c ad (nI r) f_interrupted f_regA f_regB f_regC f_savedA f_savedB f_savedC f_timerHead a_states a_priorities a_pointers a_branches a_deadlines a_held a_readyLink a_timerLink a_head a_tail a_writers a_readers a_counters g_nextTicket b_pos b_ra b_rb b_rc b_chan b_held b_named b_wake b_open b_guard b_timer b_chosen b_ticket b_sent b_received b_sentFold b_receivedFold) : jo_R N C L B c ad f_sealed a_ops a_xs a_ys a_address a_bytes a_indexAt (fun post => wpX_execute post (f_unused, f_constant, f_word, f_target, f_channel, f_level, f_prefix, f_negate, f_operate, f_disableChannel, f_disableTimer, nI N, nI C, nI L, f_sealed, f_timerHead, nI r, f_interrupted, f_regA, f_regB, f_regC, f_savedA, f_savedB, f_savedC, w, nI c, f_faults, a_ops, a_xs, a_ys, a_sizes, a_address, a_bytes, a_indexAt, a_locals, a_states, a_priorities, a_pointers, a_branches, a_deadlines, a_held, a_readyLink, a_timerLink, a_head, a_tail, a_writers, a_readers, a_counters) 16) (fun post => wpY_alternation post (nI L, nI N, nI C, nI c, f_faults, f_sealed, g_nextTicket, a_ops, a_xs, a_ys, a_states, a_priorities, b_pos, b_ra, b_rb, b_rc, a_locals, b_chan, b_held, b_named, b_wake, b_open, b_guard, b_timer, b_chosen, b_ticket, b_sent, b_received, b_sentFold, b_receivedFold) (nI r) 16 x y) := by
  obtain ⟨hrN, g, _, ea, eb, ec⟩ := pr_at hN hr H.1
  have A := H.2.2.2.2.2.1 r hrN
  rcases al_br had A with ⟨hb, ho⟩ | ⟨hb, ho⟩
  · exact op_afault hN hC hr H (by decide) (by decide) (by decide) (Or.inr ⟨by decide, hb, ho⟩)
  · have h6 : a_states r ≠ 6 := by rw [g]; decide
    have h7 : a_states r ≠ 7 := by rw [g]; decide
    obtain ⟨a1, a2, a3⟩ := al_open ho A
    obtain ⟨d, hd, ed⟩ := pk_andE f_regA (m := 255) 8 (by decide)
    have hd : d < 256 := hd
    by_cases z : a_deadlines r < 0
    · have z2 : b_timer r < 0 := by rw [← a1]; exact z
      obtain ⟨H1, H2, H3, H4, H5, H6, H7, H8, H9⟩ := H
      refine ⟨(f_unused, f_constant, f_word, f_target, f_channel, f_level, f_prefix, f_negate, f_operate, f_disableChannel, f_disableTimer, nI N, nI C, nI L, f_sealed, f_timerHead, nI r, f_interrupted, f_regB, f_regC, 0, f_savedA, f_savedB, f_savedC, w, nI c, f_faults, a_ops, a_xs, a_ys, a_sizes, a_address, a_bytes, a_indexAt, a_locals, a_states, a_priorities, a_pointers, a_branches, upd a_deadlines r (nI d), a_held, a_readyLink, a_timerLink, a_head, a_tail, a_writers, a_readers, a_counters), (nI L, nI N, nI C, nI c, f_faults, f_sealed, g_nextTicket, a_ops, a_xs, a_ys, a_states, a_priorities, b_pos, upd b_ra r f_regB, upd b_rb r f_regC, upd b_rc r 0, a_locals, b_chan, b_held, b_named, b_wake, b_open, b_guard, upd b_timer r (nI d), b_chosen, b_ticket, b_sent, b_received, b_sentFold, b_receivedFold), rl_in ⟨pr_regs hN hr H1, H2, tm_dl h6 h7 H3, H4, H5, ?_, H7, H8, H9⟩, fun post K => ?_, fun post K => ?_⟩
      · refine al_pt (r := r) H6 (fun p hp => ⟨rfl, rfl, rfl, rfl, pk_un hp, rfl, pk_un hp⟩) ?_
        simp only [pk_us]
        exact Or.inr ⟨ho, Or.inl g, rfl, Or.inr ⟨d, hd, rfl⟩, a3⟩
      · simp +decide only [wpX_execute, wpX_alternate, wX_alternate_19, wX_alternate_32, wpX_enableTimer, wpX_pop, ba_v hr, ba_c hr, hb, z, ed, forall_eq, true_implies, false_implies, not_true_eq_false, not_false_eq_true, and_true, true_and, implies_true]
        exact K
      · simp +decide only [wpY_alternation, wY_alternation_17, ba_v hr, ba_c hr, ho, forall_eq, true_implies, false_implies, not_true_eq_false, not_false_eq_true, and_true, true_and, implies_true]
        refine br_f (by decide) <|  br_t rfl ?_
        simp only [wpY_pop, ba_v hr, ba_c hr, z2, ea, eb, ec, ed, forall_eq, true_implies, false_implies, not_true_eq_false, not_false_eq_true, and_true, true_and, implies_true]
        exact yz_132 (by decide) K
    · have z2 : ¬ b_timer r < 0 := by rw [← a1]; exact z
      refine ⟨(f_unused, f_constant, f_word, f_target, f_channel, f_level, f_prefix, f_negate, f_operate, f_disableChannel, f_disableTimer, nI N, nI C, nI L, f_sealed, f_timerHead, -1, f_interrupted, 0, 0, 0, f_savedA, f_savedB, f_savedC, w, nI c, f_faults + 1, a_ops, a_xs, a_ys, a_sizes, a_address, a_bytes, a_indexAt, a_locals, upd a_states r 0, a_priorities, a_pointers, upd a_branches r (-2), upd a_deadlines r (-1), a_held, a_readyLink, a_timerLink, a_head, a_tail, a_writers, rd_f r C a_readers, a_counters), (nI L, nI N, nI C, nI c, f_faults + 1, f_sealed, g_nextTicket, a_ops, a_xs, a_ys, upd a_states r 0, a_priorities, b_pos, upd b_ra r 0, upd b_rb r 0, upd b_rc r 0, a_locals, b_chan, b_held, b_named, b_wake, upd b_open r 0, zr_f r 8 b_guard, upd b_timer r (-1), upd b_chosen r (-1), b_ticket, b_sent, b_received, b_sentFold, b_receivedFold), rl_in (dy_fault hN hC hr H), fun post K => ?_, fun post K => ?_⟩
      · simp +decide only [wpX_execute, wpX_alternate, wX_alternate_19, wX_alternate_32, wpX_enableTimer, ba_v hr, ba_c hr, hb, z, forall_eq, true_implies, false_implies, not_true_eq_false, not_false_eq_true, and_true, true_and, implies_true]
        exact xw_fault hC hr K
      · simp +decide only [wpY_alternation, wY_alternation_17, ba_v hr, ba_c hr, ho, forall_eq, true_implies, false_implies, not_true_eq_false, not_false_eq_true, and_true, true_and, implies_true]
        refine br_f (by decide) <|  br_t rfl ?_
        simp only [ba_v hr, ba_c hr, z2, forall_eq, true_implies, false_implies, not_true_eq_false, not_false_eq_true, and_true, true_and, implies_true]
        exact yw_fault hr (yz_132 (by decide) K)
end
end
section
/-! alternations: both sides, the second half -/
section
variable {N C L B c r : Nat} {ad : Nat → Nat} {x y w : Int32}
variable {f_unused f_constant f_word f_target f_channel f_level f_prefix f_negate f_operate f_disableChannel f_disableTimer f_processCount f_channelCount f_length f_sealed f_timerHead f_running f_interrupted f_regA f_regB f_regC f_savedA f_savedB f_savedC f_operand f_clock f_faults : Int32} {a_ops a_xs a_ys a_sizes a_address a_bytes a_indexAt a_locals a_states a_priorities a_pointers a_branches a_deadlines a_held a_readyLink a_timerLink a_head a_tail a_writers a_readers a_counters : Nat → Int32}
variable {g_length g_procs g_chans g_clock g_faults g_sealed : Int32} {g_nextTicket : Int64} {b_ops b_xs b_ys b_st b_prio b_pos b_ra b_rb b_rc b_words b_chan b_held b_named b_wake b_open b_guard b_timer b_chosen b_sent b_received b_sentFold b_receivedFold : Nat → Int32} {b_ticket : Nat → Int64}
/-- the running process's guards: the component's word and the reference's bit -/
theorem ch_mine {k : Nat} (hN : N ≤ 8) (hr : r < N) (g : a_states r = 1) (ho : b_open r = 1) (CR : ow_n N (fun p => (a_states p = 5 ∧ b_chan p = nI k) ∨ (b_open p ≠ 0 ∧ b_guard (p * 8 + k) ≠ 0)) (a_readers k)) : a_readers k = nI r ↔ ¬ b_guard (r * 8 + k) = 0 := by
  constructor
  · intro h
    rw [h] at CR
    rcases (ow_at hN (by omega) CR).2.1 with z | z
    · rw [g] at z
      exact absurd z.1 (by decide)
    · exact z.2
  · intro h
    exact ow_is CR hr (Or.inr ⟨by rw [ho]; decide, h⟩)
theorem jw_await (hN : N ≤ 8) (hC : C ≤ 8) (hr : r < N) (g : a_states r = 1) (ho : b_open r = 1) (H : rl_ch N C a_states b_chan b_open b_guard a_writers a_readers) {x1 : Int32} : ∀ d i, i + d = C → ∀ a e : Int32, ∃ a' e' : Int32, (e' = 0 → e = 0) ∧
    (∀ post : SX → Prop, wX_awaitGuard_41 post x1 f_unused f_constant f_word f_target f_channel f_level f_prefix f_negate f_operate f_disableChannel f_disableTimer (nI N) (nI C) (nI L) f_sealed f_timerHead (nI r) f_interrupted f_regA f_regB f_regC f_savedA f_savedB f_savedC w (nI c) f_faults a_ops a_xs a_ys a_sizes a_address a_bytes a_indexAt a_locals a_states a_priorities a_pointers a_branches a_deadlines a_held a_readyLink a_timerLink a_head a_tail a_writers a_readers a_counters 1 a' e' (nI C) → wX_awaitGuard_41 post x1 f_unused f_constant f_word f_target f_channel f_level f_prefix f_negate f_operate f_disableChannel f_disableTimer (nI N) (nI C) (nI L) f_sealed f_timerHead (nI r) f_interrupted f_regA f_regB f_regC f_savedA f_savedB f_savedC w (nI c) f_faults a_ops a_xs a_ys a_sizes a_address a_bytes a_indexAt a_locals a_states a_priorities a_pointers a_branches a_deadlines a_held a_readyLink a_timerLink a_head a_tail a_writers a_readers a_counters (d + 1) a e (nI i)) ∧
    (∀ post : SY → Prop, wY_await_46 post (nI r) (nI L) (nI N) (nI C) (nI c) f_faults f_sealed g_nextTicket a_ops a_xs a_ys a_states a_priorities b_pos b_ra b_rb b_rc a_locals b_chan b_held b_named b_wake b_open b_guard b_timer b_chosen b_ticket b_sent b_received b_sentFold b_receivedFold 1 a' e' (nI C) → wY_await_46 post (nI r) (nI L) (nI N) (nI C) (nI c) f_faults f_sealed g_nextTicket a_ops a_xs a_ys a_states a_priorities b_pos b_ra b_rb b_rc a_locals b_chan b_held b_named b_wake b_open b_guard b_timer b_chosen b_ticket b_sent b_received b_sentFold b_receivedFold (d + 1) a e (nI i)) := by
  intro d
  induction d with
  | zero =>
    intro i hi a e
    have ei : i = C := by omega
    subst ei
    exact ⟨a, e, fun z => z, fun post K => K, fun post K => K⟩
  | succ d ih =>
    intro i hi a e
    have hi8 : i < 8 := by omega
    have h8 : ¬ nI C ≤ nI i := nI_ge (by omega) (by omega)
    have CW := (H i (by omega)).1
    have CR := (H i (by omega)).2
    have mine := ch_mine hN hr g ho CR
    by_cases z : a_readers i = nI r
    · have zg := mine.mp z
      by_cases zw : a_writers i < 0
      · obtain ⟨a', e', h1, hX, hY⟩ := ih (i + 1) (by omega) 1 e
        refine ⟨a', e', h1, fun post K => ?_, fun post K => ?_⟩
        · have h := hX post K
          unfold wX_awaitGuard_41
          simp only [h8, ba_v hi8, ba_c hi8, z, zw, nI_1, forall_eq, true_implies, false_implies, not_true_eq_false, not_false_eq_true, and_true, true_and, implies_true]
          exact h
        · have h := hY post K
          unfold wY_await_46
          simp only [h8, wY_await_72, ba_m8, nI_add, ba_v64 (show r * 8 + i < 64 by omega), ba_c64 (show r * 8 + i < 64 by omega), zg, nI_1, forall_eq, true_implies, false_implies, not_true_eq_false, not_false_eq_true, and_true, true_and, implies_true]
          exact yw_writer hN CW (br_t zw h)
      · obtain ⟨a', e', h1, hX, hY⟩ := ih (i + 1) (by omega) 1 1
        refine ⟨a', e', fun z => absurd (h1 z) (by decide), fun post K => ?_, fun post K => ?_⟩
        · have h := hX post K
          unfold wX_awaitGuard_41
          simp only [h8, ba_v hi8, ba_c hi8, z, zw, nI_1, forall_eq, true_implies, false_implies, not_true_eq_false, not_false_eq_true, and_true, true_and, implies_true]
          exact h
        · have h := hY post K
          unfold wY_await_46
          simp only [h8, wY_await_72, ba_m8, nI_add, ba_v64 (show r * 8 + i < 64 by omega), ba_c64 (show r * 8 + i < 64 by omega), zg, nI_1, forall_eq, true_implies, false_implies, not_true_eq_false, not_false_eq_true, and_true, true_and, implies_true]
          exact yw_writer hN CW (br_f zw h)
    · have zg : b_guard (r * 8 + i) = 0 := by
        by_cases q : b_guard (r * 8 + i) = 0
        · exact q
        · exact absurd (mine.mpr q) z
      obtain ⟨a', e', h1, hX, hY⟩ := ih (i + 1) (by omega) a e
      refine ⟨a', e', h1, fun post K => ?_, fun post K => ?_⟩
      · have h := hX post K
        unfold wX_awaitGuard_41
        simp only [h8, ba_v hi8, ba_c hi8, z, nI_1, forall_eq, true_implies, false_implies, not_true_eq_false, not_false_eq_true, and_true, true_and, implies_true]
        exact h
      · have h := hY post K
        unfold wY_await_46
        simp only [h8, wY_await_72, ba_m8, nI_add, ba_v64 (show r * 8 + i < 64 by omega), ba_c64 (show r * 8 + i < 64 by omega), zg, nI_1, forall_eq, true_implies, false_implies, not_true_eq_false, not_false_eq_true, and_true, true_and, implies_true]
        exact h
/-- the running process begins to choose -/
theorem dy_choose {th : Int32} {tk : Nat → Int32} (hN : N ≤ 8) (hr : r < 8) (ho : b_open r = 1) (H : rl_dy N C L B c ad (nI r) f_interrupted f_regA f_regB f_regC f_savedA f_savedB f_savedC f_timerHead a_states a_priorities a_pointers a_branches a_deadlines a_held a_readyLink a_timerLink a_head a_tail a_writers a_readers a_counters g_nextTicket b_pos b_ra b_rb b_rc b_chan b_held b_named b_wake b_open b_guard b_timer b_chosen b_ticket b_sent b_received b_sentFold b_receivedFold) (T : rl_tm N 1 c (upd a_states r 7) a_deadlines th tk) : rl_dy N C L B c ad (-1) f_interrupted 0 0 0 f_savedA f_savedB f_savedC th (upd a_states r 7) a_priorities a_pointers a_branches a_deadlines a_held a_readyLink tk a_head a_tail a_writers a_readers a_counters g_nextTicket b_pos (upd b_ra r 0) (upd b_rb r 0) (upd b_rc r 0) b_chan b_held b_named b_wake b_open b_guard b_timer b_chosen b_ticket b_sent b_received b_sentFold b_receivedFold := by
  obtain ⟨hrN, g, _, ea, eb, ec⟩ := pr_at hN hr H.1
  have h0 : a_states r ≠ 0 := by rw [g]; decide
  have h3 : a_states r ≠ 3 := by rw [g]; decide
  have h4 : a_states r ≠ 4 := by rw [g]; decide
  have h5 : a_states r ≠ 5 := by rw [g]; decide
  obtain ⟨H1, H2, H3, H4, H5, H6, H7, H8, H9⟩ := H
  refine ⟨pr_susp hN hr (by decide) (by decide) (pr_regs hN hr H1), qu_set h3 (by decide) H2, T, ch_st h4 h5 (by decide) (by decide) H4, po_s1 h0 H5, al_st H6 ?_, he_st (by decide) (by decide) H7, H8, H9⟩
  exact Or.inr ⟨ho, Or.inr (Or.inr (Or.inr rfl)), al_open ho (H6 r hrN)⟩
theorem jw_aw0 (hc : c < 256) (hr : r < 8) (a1 : a_deadlines r = b_timer r) (a2 : b_timer r = -1 ∨ ∃ e, e < 256 ∧ b_timer r = nI e) : ∃ a e : Int32, (e = 0 → a_deadlines r = -1 ∨ ∃ d, d < 256 ∧ a_deadlines r = nI d ∧ 1 ≤ tm_w c d ∧ tm_w c d ≤ 128) ∧
    (∀ post : SX → Prop, (∃ n, wX_awaitGuard_41 post (a_deadlines r) f_unused f_constant f_word f_target f_channel f_level f_prefix f_negate f_operate f_disableChannel f_disableTimer (nI N) (nI C) (nI L) f_sealed f_timerHead (nI r) f_interrupted f_regA f_regB f_regC f_savedA f_savedB f_savedC w (nI c) f_faults a_ops a_xs a_ys a_sizes a_address a_bytes a_indexAt a_locals a_states a_priorities a_pointers a_branches a_deadlines a_held a_readyLink a_timerLink a_head a_tail a_writers a_readers a_counters n a e 0) → wpX_awaitGuard post (f_unused, f_constant, f_word, f_target, f_channel, f_level, f_prefix, f_negate, f_operate, f_disableChannel, f_disableTimer, nI N, nI C, nI L, f_sealed, f_timerHead, nI r, f_interrupted, f_regA, f_regB, f_regC, f_savedA, f_savedB, f_savedC, w, nI c, f_faults, a_ops, a_xs, a_ys, a_sizes, a_address, a_bytes, a_indexAt, a_locals, a_states, a_priorities, a_pointers, a_branches, a_deadlines, a_held, a_readyLink, a_timerLink, a_head, a_tail, a_writers, a_readers, a_counters)) ∧
    (∀ post : SY → Prop, (∃ n, wY_await_46 post (nI r) (nI L) (nI N) (nI C) (nI c) f_faults f_sealed g_nextTicket a_ops a_xs a_ys a_states a_priorities b_pos b_ra b_rb b_rc a_locals b_chan b_held b_named b_wake b_open b_guard b_timer b_chosen b_ticket b_sent b_received b_sentFold b_receivedFold n a e 0) → wpY_await post (nI L, nI N, nI C, nI c, f_faults, f_sealed, g_nextTicket, a_ops, a_xs, a_ys, a_states, a_priorities, b_pos, b_ra, b_rb, b_rc, a_locals, b_chan, b_held, b_named, b_wake, b_open, b_guard, b_timer, b_chosen, b_ticket, b_sent, b_received, b_sentFold, b_receivedFold) (nI r)) := by
  rcases a2 with a2 | ⟨d, hd, a2⟩
  · have e1 : a_deadlines r = -1 := a1.trans a2
    refine ⟨0, 0, fun _ => Or.inl e1, fun post K => ?_, fun post K => ?_⟩
    · rw [e1] at K
      simp +decide only [wpX_awaitGuard, wX_awaitGuard_19, ba_v hr, ba_c hr, e1, forall_eq, true_implies, false_implies, not_true_eq_false, not_false_eq_true, and_true, true_and, implies_true]
      exact K
    · simp +decide only [wpY_await, wY_await_14, ba_v hr, ba_c hr, a2, forall_eq, true_implies, false_implies, not_true_eq_false, not_false_eq_true, and_true, true_and, implies_true]
      exact K
  · have e1 : a_deadlines r = nI d := a1.trans a2
    have z : ¬ nI d < 0 := nI_pos (by omega)
    by_cases du : 128 ≤ tm_w d c
    · refine ⟨1, 0, fun _ => Or.inr ⟨d, hd, e1, du_sw hc hd du⟩, fun post K => ?_, fun post K => ?_⟩
      · rw [e1] at K
        simp +decide only [wpX_awaitGuard, wX_awaitGuard_19, ba_v hr, ba_c hr, e1, z, forall_eq, true_implies, false_implies, not_true_eq_false, not_false_eq_true, and_true, true_and, implies_true]
        exact xu_due hc hd (fun _ => br_t rfl K) (fun q => absurd du q)
      · simp +decide only [wpY_await, wY_await_14, ba_v hr, ba_c hr, a2, z, forall_eq, true_implies, false_implies, not_true_eq_false, not_false_eq_true, and_true, true_and, implies_true]
        exact yu_due hc hd (fun _ => br_t rfl K) (fun q => absurd du q)
    · refine ⟨1, 1, fun q => absurd q (by decide), fun post K => ?_, fun post K => ?_⟩
      · rw [e1] at K
        simp +decide only [wpX_awaitGuard, wX_awaitGuard_19, ba_v hr, ba_c hr, e1, z, forall_eq, true_implies, false_implies, not_true_eq_false, not_false_eq_true, and_true, true_and, implies_true]
        exact xu_due hc hd (fun q => absurd q du) (fun _ => br_f (by decide) K)
      · simp +decide only [wpY_await, wY_await_14, ba_v hr, ba_c hr, a2, z, forall_eq, true_implies, false_implies, not_true_eq_false, not_false_eq_true, and_true, true_and, implies_true]
        exact yu_due hc hd (fun q => absurd q du) (fun _ => br_f (by decide) K)
theorem op_altwt (hN : N ≤ 8) (hC : C ≤ 8) (hc : c < 256) (hr : r < 8) (had : ∀ i, i < L → ad i < 2 ^ 31) (H : rl_dy N C L B c ad (nI r) f_interrupted f_regA f_regB f_regC f_savedA f_savedB f_savedC f_timerHead a_states a_priorities a_pointers a_branches a_deadlines a_held a_readyLink a_timerLink a_head a_tail a_writers a_readers a_counters g_nextTicket b_pos b_ra b_rb b_rc b_chan b_held b_named b_wake b_open b_guard b_timer b_chosen b_ticket b_sent b_received b_sentFold b_receivedFold) : jo_R N C L B c ad f_sealed a_ops a_xs a_ys a_address a_bytes a_indexAt (fun post => wpX_execute post (f_unused, f_constant, f_word, f_target, f_channel, f_level, f_prefix, f_negate, f_operate, f_disableChannel, f_disableTimer, nI N, nI C, nI L, f_sealed, f_timerHead, nI r, f_interrupted, f_regA, f_regB, f_regC, f_savedA, f_savedB, f_savedC, w, nI c, f_faults, a_ops, a_xs, a_ys, a_sizes, a_address, a_bytes, a_indexAt, a_locals, a_states, a_priorities, a_pointers, a_branches, a_deadlines, a_held, a_readyLink, a_timerLink, a_head, a_tail, a_writers, a_readers, a_counters) 17) (fun post => wpY_alternation post (nI L, nI N, nI C, nI c, f_faults, f_sealed, g_nextTicket, a_ops, a_xs, a_ys, a_states, a_priorities, b_pos, b_ra, b_rb, b_rc, a_locals, b_chan, b_held, b_named, b_wake, b_open, b_guard, b_timer, b_chosen, b_ticket, b_sent, b_received, b_sentFold, b_receivedFold) (nI r) 17 x y) := by
  obtain ⟨hrN, g, _, ea, eb, ec⟩ := pr_at hN hr H.1
  have A := H.2.2.2.2.2.1 r hrN
  rcases al_br had A with ⟨hb, ho⟩ | ⟨hb, ho⟩
  · exact op_afault hN hC hr H (by decide) (by decide) (by decide) (Or.inr ⟨by decide, hb, ho⟩)
  · have h6 : a_states r ≠ 6 := by rw [g]; decide
    have h7 : a_states r ≠ 7 := by rw [g]; decide
    obtain ⟨a1, a2, a3⟩ := al_open ho A
    have hle : nI C ≤ nI C := Int32.le_refl _
    obtain ⟨a, e, he, SX1, SY1⟩ := jw_aw0 (f_unused := f_unused) (f_constant := f_constant) (f_word := f_word) (f_target := f_target) (f_channel := f_channel) (f_level := f_level) (f_prefix := f_prefix) (f_negate := f_negate) (f_operate := f_operate) (f_disableChannel := f_disableChannel) (f_disableTimer := f_disableTimer) (f_sealed := f_sealed) (f_timerHead := f_timerHead) (f_interrupted := f_interrupted) (f_regA := f_regA) (f_regB := f_regB) (f_regC := f_regC) (f_savedA := f_savedA) (f_savedB := f_savedB) (f_savedC := f_savedC) (f_faults := f_faults) (a_ops := a_ops) (a_xs := a_xs) (a_ys := a_ys) (a_sizes := a_sizes) (a_address := a_address) (a_bytes := a_bytes) (a_indexAt := a_indexAt) (a_locals := a_locals) (a_states := a_states) (a_priorities := a_priorities) (a_pointers := a_pointers) (a_branches := a_branches) (a_deadlines := a_deadlines) (a_held := a_held) (a_readyLink := a_readyLink) (a_timerLink := a_timerLink) (a_head := a_head) (a_tail := a_tail) (a_writers := a_writers) (a_readers := a_readers) (a_counters := a_counters) (g_nextTicket := g_nextTicket) (b_pos := b_pos) (b_ra := b_ra) (b_rb := b_rb) (b_rc := b_rc) (b_chan := b_chan) (b_held := b_held) (b_named := b_named) (b_wake := b_wake) (b_open := b_open) (b_guard := b_guard) (b_timer := b_timer) (b_chosen := b_chosen) (b_ticket := b_ticket) (b_sent := b_sent) (b_received := b_received) (b_sentFold := b_sentFold) (b_receivedFold := b_receivedFold) (w := w) (N := N) (C := C) (L := L) hc hr a1 a2
    obtain ⟨a', e', h1, hX, hY⟩ := jw_await (f_unused := f_unused) (f_constant := f_constant) (f_word := f_word) (f_target := f_target) (f_channel := f_channel) (f_level := f_level) (f_prefix := f_prefix) (f_negate := f_negate) (f_operate := f_operate) (f_disableChannel := f_disableChannel) (f_disableTimer := f_disableTimer) (f_sealed := f_sealed) (f_timerHead := f_timerHead) (f_interrupted := f_interrupted) (f_regA := f_regA) (f_regB := f_regB) (f_regC := f_regC) (f_savedA := f_savedA) (f_savedB := f_savedB) (f_savedC := f_savedC) (f_faults := f_faults) (a_ops := a_ops) (a_xs := a_xs) (a_ys := a_ys) (a_sizes := a_sizes) (a_address := a_address) (a_bytes := a_bytes) (a_indexAt := a_indexAt) (a_locals := a_locals) (a_states := a_states) (a_priorities := a_priorities) (a_pointers := a_pointers) (a_branches := a_branches) (a_deadlines := a_deadlines) (a_held := a_held) (a_readyLink := a_readyLink) (a_timerLink := a_timerLink) (a_head := a_head) (a_tail := a_tail) (a_writers := a_writers) (a_readers := a_readers) (a_counters := a_counters) (g_nextTicket := g_nextTicket) (b_pos := b_pos) (b_ra := b_ra) (b_rb := b_rb) (b_rc := b_rc) (b_chan := b_chan) (b_held := b_held) (b_named := b_named) (b_wake := b_wake) (b_open := b_open) (b_guard := b_guard) (b_timer := b_timer) (b_chosen := b_chosen) (b_ticket := b_ticket) (b_sent := b_sent) (b_received := b_received) (b_sentFold := b_sentFold) (b_receivedFold := b_receivedFold) (w := w) (L := L) (c := c) (x1 := a_deadlines r) hN hC hrN g ho H.2.2.2.1 C 0 (by omega) a e
    have toX : ∀ post : SX → Prop, wX_awaitGuard_41 (fun u => match u with | (f_unused, f_constant, f_word, f_target, f_channel, f_level, f_prefix, f_negate, f_operate, f_disableChannel, f_disableTimer, f_processCount, f_channelCount, f_length, f_sealed, f_timerHead, f_running, f_interrupted, f_regA, f_regB, f_regC, f_savedA, f_savedB, f_savedC, f_operand, f_clock, f_faults, a_ops, a_xs, a_ys, a_sizes, a_address, a_bytes, a_indexAt, a_locals, a_states, a_priorities, a_pointers, a_branches, a_deadlines, a_held, a_readyLink, a_timerLink, a_head, a_tail, a_writers, a_readers, a_counters) => (post (f_unused, f_constant, f_word, f_target, f_channel, f_level, f_prefix, f_negate, f_operate, f_disableChannel, f_disableTimer, f_processCount, f_channelCount, f_length, f_sealed, f_timerHead, f_running, f_interrupted, f_regA, f_regB, f_regC, f_savedA, f_savedB, f_savedC, f_operand, f_clock, f_faults, a_ops, a_xs, a_ys, a_sizes, a_address, a_bytes, a_indexAt, a_locals, a_states, a_priorities, a_pointers, a_branches, a_deadlines, a_held, a_readyLink, a_timerLink, a_head, a_tail, a_writers, a_readers, a_counters))) (a_deadlines r) f_unused f_constant f_word f_target f_channel f_level f_prefix f_negate f_operate f_disableChannel f_disableTimer (nI N) (nI C) (nI L) f_sealed f_timerHead (nI r) f_interrupted f_regA f_regB f_regC f_savedA f_savedB f_savedC w (nI c) f_faults a_ops a_xs a_ys a_sizes a_address a_bytes a_indexAt a_locals a_states a_priorities a_pointers a_branches a_deadlines a_held a_readyLink a_timerLink a_head a_tail a_writers a_readers a_counters 1 a' e' (nI C) → wpX_execute post (f_unused, f_constant, f_word, f_target, f_channel, f_level, f_prefix, f_negate, f_operate, f_disableChannel, f_disableTimer, nI N, nI C, nI L, f_sealed, f_timerHead, nI r, f_interrupted, f_regA, f_regB, f_regC, f_savedA, f_savedB, f_savedC, w, nI c, f_faults, a_ops, a_xs, a_ys, a_sizes, a_address, a_bytes, a_indexAt, a_locals, a_states, a_priorities, a_pointers, a_branches, a_deadlines, a_held, a_readyLink, a_timerLink, a_head, a_tail, a_writers, a_readers, a_counters) 17 := fun post K => by
      simp +decide only [wpX_execute, wpX_alternate, wX_alternate_19, wX_alternate_32, ba_v hr, ba_c hr, hb, forall_eq, true_implies, false_implies, not_true_eq_false, not_false_eq_true, and_true, true_and, implies_true]
      exact SX1 _ ⟨_, hX _ K⟩
    have toY : ∀ post : SY → Prop, wY_await_46 (fun u => match u with | (g_length, g_procs, g_chans, g_clock, g_faults, g_sealed, g_nextTicket, b_ops, b_xs, b_ys, b_st, b_prio, b_pos, b_ra, b_rb, b_rc, b_words, b_chan, b_held, b_named, b_wake, b_open, b_guard, b_timer, b_chosen, b_ticket, b_sent, b_received, b_sentFold, b_receivedFold) => (wY_alternation_143 post (nI r) 17 x y g_length g_procs g_chans g_clock g_faults g_sealed g_nextTicket b_ops b_xs b_ys b_st b_prio b_pos b_ra b_rb b_rc b_words b_chan b_held b_named b_wake b_open b_guard b_timer b_chosen b_ticket b_sent b_received b_sentFold b_receivedFold)) (nI r) (nI L) (nI N) (nI C) (nI c) f_faults f_sealed g_nextTicket a_ops a_xs a_ys a_states a_priorities b_pos b_ra b_rb b_rc a_locals b_chan b_held b_named b_wake b_open b_guard b_timer b_chosen b_ticket b_sent b_received b_sentFold b_receivedFold 1 a' e' (nI C) → wpY_alternation post (nI L, nI N, nI C, nI c, f_faults, f_sealed, g_nextTicket, a_ops, a_xs, a_ys, a_states, a_priorities, b_pos, b_ra, b_rb, b_rc, a_locals, b_chan, b_held, b_named, b_wake, b_open, b_guard, b_timer, b_chosen, b_ticket, b_sent, b_received, b_sentFold, b_receivedFold) (nI r) 17 x y := fun post K => by
      simp +decide only [wpY_alternation, wY_alternation_17, ba_v hr, ba_c hr, ho, forall_eq, true_implies, false_implies, not_true_eq_false, not_false_eq_true, and_true, true_and, implies_true]
      refine br_f (by decide) <| br_f (by decide) <|  br_t rfl ?_
      exact SY1 _ ⟨_, hY _ K⟩
    by_cases za : a' = 0
    · refine ⟨(f_unused, f_constant, f_word, f_target, f_channel, f_level, f_prefix, f_negate, f_operate, f_disableChannel, f_disableTimer, nI N, nI C, nI L, f_sealed, f_timerHead, -1, f_interrupted, 0, 0, 0, f_savedA, f_savedB, f_savedC, w, nI c, f_faults + 1, a_ops, a_xs, a_ys, a_sizes, a_address, a_bytes, a_indexAt, a_locals, upd a_states r 0, a_priorities, a_pointers, upd a_branches r (-2), upd a_deadlines r (-1), a_held, a_readyLink, a_timerLink, a_head, a_tail, a_writers, rd_f r C a_readers, a_counters), (nI L, nI N, nI C, nI c, f_faults + 1, f_sealed, g_nextTicket, a_ops, a_xs, a_ys, upd a_states r 0, a_priorities, b_pos, upd b_ra r 0, upd b_rb r 0, upd b_rc r 0, a_locals, b_chan, b_held, b_named, b_wake, upd b_open r 0, zr_f r 8 b_guard, upd b_timer r (-1), upd b_chosen r (-1), b_ticket, b_sent, b_received, b_sentFold, b_receivedFold), rl_in (dy_fault hN hC hr H), fun post K => toX post ?_, fun post K => toY post ?_⟩
      · rw [wX_awaitGuard_41]; simp only [hle, za, forall_eq, true_implies, false_implies, not_true_eq_false, not_false_eq_true, and_true, true_and, implies_true]
        exact xw_fault hC hr K
      · rw [wY_await_46]; simp only [hle, za, forall_eq, true_implies, false_implies, not_true_eq_false, not_false_eq_true, and_true, true_and, implies_true]
        exact yw_fault hr (yz_143 (by decide) K)
    · by_cases ze : e' = 0
      · rcases he (h1 ze) with ed | ⟨d, hd, ed, w1, w2⟩
        · have zd : a_deadlines r < 0 := by rw [ed]; decide
          refine ⟨(f_unused, f_constant, f_word, f_target, f_channel, f_level, f_prefix, f_negate, f_operate, f_disableChannel, f_disableTimer, nI N, nI C, nI L, f_sealed, f_timerHead, -1, f_interrupted, 0, 0, 0, f_savedA, f_savedB, f_savedC, w, nI c, f_faults, a_ops, a_xs, a_ys, a_sizes, a_address, a_bytes, a_indexAt, a_locals, upd a_states r 7, a_priorities, a_pointers, a_branches, a_deadlines, a_held, a_readyLink, a_timerLink, a_head, a_tail, a_writers, a_readers, a_counters), (nI L, nI N, nI C, nI c, f_faults, f_sealed, g_nextTicket, a_ops, a_xs, a_ys, upd a_states r 7, a_priorities, b_pos, upd b_ra r 0, upd b_rb r 0, upd b_rc r 0, a_locals, b_chan, b_held, b_named, b_wake, b_open, b_guard, b_timer, b_chosen, b_ticket, b_sent, b_received, b_sentFold, b_receivedFold), rl_in (dy_choose hN hr ho H (tm_st h6 (Or.inl h7) (by decide) (Or.inr ed) H.2.2.1)), fun post K => toX post ?_, fun post K => toY post ?_⟩
          · rw [wX_awaitGuard_41]; simp only [wX_awaitGuard_114, wpX_clear, wpX_suspend, hle, za, ze, zd, ba_v hr, ba_c hr, forall_eq, true_implies, false_implies, not_true_eq_false, not_false_eq_true, and_true, true_and, implies_true]
            exact K
          · rw [wY_await_46]; simp only [wpY_clear, hle, za, ze, ba_v hr, ba_c hr, forall_eq, true_implies, false_implies, not_true_eq_false, not_false_eq_true, and_true, true_and, implies_true]
            exact yz_143 (by decide) K
        · have zd : ¬ a_deadlines r < 0 := by rw [ed]; exact nI_pos (by omega)
          obtain ⟨th, tk, T, W⟩ := xw_enter (f_unused := f_unused) (f_constant := f_constant) (f_word := f_word) (f_target := f_target) (f_channel := f_channel) (f_level := f_level) (f_prefix := f_prefix) (f_negate := f_negate) (f_operate := f_operate) (f_disableChannel := f_disableChannel) (f_disableTimer := f_disableTimer) (f_processCount := nI N) (f_channelCount := nI C) (f_length := nI L) (f_sealed := f_sealed) (f_timerHead := f_timerHead) (f_running := nI r) (f_interrupted := f_interrupted) (f_regA := 0) (f_regB := 0) (f_regC := 0) (f_savedA := f_savedA) (f_savedB := f_savedB) (f_savedC := f_savedC) (f_operand := w) (f_faults := f_faults) (a_ops := a_ops) (a_xs := a_xs) (a_ys := a_ys) (a_sizes := a_sizes) (a_address := a_address) (a_bytes := a_bytes) (a_indexAt := a_indexAt) (a_locals := a_locals) (a_states := a_states) (a_priorities := a_priorities) (a_pointers := a_pointers) (a_branches := a_branches) (a_deadlines := a_deadlines) (a_held := a_held) (a_readyLink := a_readyLink) (a_timerLink := a_timerLink) (a_head := a_head) (a_tail := a_tail) (a_writers := a_writers) (a_readers := a_readers) (a_counters := a_counters) (s := 7) hN hc hrN h6 h7 (Or.inr rfl) hd ed w1 w2 H.2.2.1
          refine ⟨(f_unused, f_constant, f_word, f_target, f_channel, f_level, f_prefix, f_negate, f_operate, f_disableChannel, f_disableTimer, nI N, nI C, nI L, f_sealed, th, -1, f_interrupted, 0, 0, 0, f_savedA, f_savedB, f_savedC, w, nI c, f_faults, a_ops, a_xs, a_ys, a_sizes, a_address, a_bytes, a_indexAt, a_locals, upd a_states r 7, a_priorities, a_pointers, a_branches, a_deadlines, a_held, a_readyLink, tk, a_head, a_tail, a_writers, a_readers, a_counters), (nI L, nI N, nI C, nI c, f_faults, f_sealed, g_nextTicket, a_ops, a_xs, a_ys, upd a_states r 7, a_priorities, b_pos, upd b_ra r 0, upd b_rb r 0, upd b_rc r 0, a_locals, b_chan, b_held, b_named, b_wake, b_open, b_guard, b_timer, b_chosen, b_ticket, b_sent, b_received, b_sentFold, b_receivedFold), rl_in (dy_choose hN hr ho H T), fun post K => toX post ?_, fun post K => toY post ?_⟩
          · rw [wX_awaitGuard_41]; simp only [wpX_clear, hle, za, ze, zd, forall_eq, true_implies, false_implies, not_true_eq_false, not_false_eq_true, and_true, true_and, implies_true]
            refine W _ ?_
            simp only [wX_awaitGuard_114, wpX_suspend, ba_v hr, ba_c hr, forall_eq, true_implies, false_implies, not_true_eq_false, not_false_eq_true, and_true, true_and, implies_true]
            exact K
          · rw [wY_await_46]; simp only [wpY_clear, hle, za, ze, ba_v hr, ba_c hr, forall_eq, true_implies, false_implies, not_true_eq_false, not_false_eq_true, and_true, true_and, implies_true]
            exact yz_143 (by decide) K
      · refine ⟨(f_unused, f_constant, f_word, f_target, f_channel, f_level, f_prefix, f_negate, f_operate, f_disableChannel, f_disableTimer, nI N, nI C, nI L, f_sealed, f_timerHead, nI r, f_interrupted, 0, 0, 0, f_savedA, f_savedB, f_savedC, w, nI c, f_faults, a_ops, a_xs, a_ys, a_sizes, a_address, a_bytes, a_indexAt, a_locals, a_states, a_priorities, a_pointers, a_branches, a_deadlines, a_held, a_readyLink, a_timerLink, a_head, a_tail, a_writers, a_readers, a_counters), (nI L, nI N, nI C, nI c, f_faults, f_sealed, g_nextTicket, a_ops, a_xs, a_ys, a_states, a_priorities, b_pos, upd b_ra r 0, upd b_rb r 0, upd b_rc r 0, a_locals, b_chan, b_held, b_named, b_wake, b_open, b_guard, b_timer, b_chosen, b_ticket, b_sent, b_received, b_sentFold, b_receivedFold), rl_in ⟨pr_regs hN hr H.1, H.2⟩, fun post K => toX post ?_, fun post K => toY post ?_⟩
        · rw [wX_awaitGuard_41]; simp only [wpX_clear, hle, za, ze, forall_eq, true_implies, false_implies, not_true_eq_false, not_false_eq_true, and_true, true_and, implies_true]
          exact K
        · rw [wY_await_46]; simp only [wpY_clear, hle, za, ze, ba_v hr, ba_c hr, forall_eq, true_implies, false_implies, not_true_eq_false, not_false_eq_true, and_true, true_and, implies_true]
          exact yz_143 (by decide) K
/-- the running process's branch is chosen -/
theorem dy_pick {i : Nat} (hN : N ≤ 8) (hr : r < 8) (ho : b_open r = 1) (hi : i < L) (H : rl_dy N C L B c ad (nI r) f_interrupted f_regA f_regB f_regC f_savedA f_savedB f_savedC f_timerHead a_states a_priorities a_pointers a_branches a_deadlines a_held a_readyLink a_timerLink a_head a_tail a_writers a_readers a_counters g_nextTicket b_pos b_ra b_rb b_rc b_chan b_held b_named b_wake b_open b_guard b_timer b_chosen b_ticket b_sent b_received b_sentFold b_receivedFold) : rl_dy N C L B c ad (nI r) f_interrupted f_regA f_regB f_regC f_savedA f_savedB f_savedC f_timerHead a_states a_priorities a_pointers (upd a_branches r (nI (ad i))) a_deadlines a_held a_readyLink a_timerLink a_head a_tail a_writers a_readers a_counters g_nextTicket b_pos b_ra b_rb b_rc b_chan b_held b_named b_wake b_open b_guard b_timer (upd b_chosen r (nI i)) b_ticket b_sent b_received b_sentFold b_receivedFold := by
  obtain ⟨hrN, g, _, ea, eb, ec⟩ := pr_at hN hr H.1
  obtain ⟨H1, H2, H3, H4, H5, H6, H7, H8, H9⟩ := H
  obtain ⟨a1, a2, a3⟩ := al_open ho (H6 r hrN)
  refine ⟨H1, H2, H3, H4, H5, ?_, H7, H8, H9⟩
  refine al_pt (r := r) H6 (fun p hp => ⟨rfl, rfl, pk_un hp, pk_un hp, rfl, rfl, rfl⟩) ?_
  simp only [pk_us]
  exact Or.inr ⟨ho, Or.inl g, a1, a2, Or.inr ⟨i, hi, rfl, rfl⟩⟩
theorem al_ch {s o a b t v d : Int32} (had : ∀ i, i < L → ad i < 2 ^ 31) (hL : L ≤ 64) (ho : o = 1) (h : rl_a1 L ad s o a b t v d) : b = -1 ↔ a = -1 := by
  rcases (al_open ho h).2.2 with ⟨h1, h2⟩ | ⟨i, hi, h1, h2⟩
  · exact ⟨fun _ => h1, fun _ => h2⟩
  · rw [h1, h2]
    exact ⟨fun z => absurd z (ba_m1 (had i hi)), fun z => absurd z (ba_m1 (by omega))⟩
theorem op_disc {j k m : Nat} (hN : N ≤ 8) (hC : C ≤ 8) (hL : L ≤ 64) (hr : r < 8) (had : ∀ i, i < L → ad i < 2 ^ 31) (H : rl_dy N C L B c ad (nI r) f_interrupted f_regA f_regB f_regC f_savedA f_savedB f_savedC f_timerHead a_states a_priorities a_pointers a_branches a_deadlines a_held a_readyLink a_timerLink a_head a_tail a_writers a_readers a_counters g_nextTicket b_pos b_ra b_rb b_rc b_chan b_held b_named b_wake b_open b_guard b_timer b_chosen b_ticket b_sent b_received b_sentFold b_receivedFold) (hk : k < C) (hm : m < L) (hp : a_pointers r = nI (ad j)) (hw : w &&& 7 = nI k) (hw2 : w >>> ((3 : Int32) &&& 31) = nI (ad m) - nI (ad j)) (hx : x = nI k) (hy : y = nI m) : jo_R N C L B c ad f_sealed a_ops a_xs a_ys a_address a_bytes a_indexAt (fun post => wpX_execute post (f_unused, f_constant, f_word, f_target, f_channel, f_level, f_prefix, f_negate, f_operate, f_disableChannel, f_disableTimer, nI N, nI C, nI L, f_sealed, f_timerHead, nI r, f_interrupted, f_regA, f_regB, f_regC, f_savedA, f_savedB, f_savedC, w, nI c, f_faults, a_ops, a_xs, a_ys, a_sizes, a_address, a_bytes, a_indexAt, a_locals, a_states, a_priorities, a_pointers, a_branches, a_deadlines, a_held, a_readyLink, a_timerLink, a_head, a_tail, a_writers, a_readers, a_counters) 18) (fun post => wpY_alternation post (nI L, nI N, nI C, nI c, f_faults, f_sealed, g_nextTicket, a_ops, a_xs, a_ys, a_states, a_priorities, b_pos, b_ra, b_rb, b_rc, a_locals, b_chan, b_held, b_named, b_wake, b_open, b_guard, b_timer, b_chosen, b_ticket, b_sent, b_received, b_sentFold, b_receivedFold) (nI r) 18 x y) := by
  obtain ⟨hrN, g, _, ea, eb, ec⟩ := pr_at hN hr H.1
  have A := H.2.2.2.2.2.1 r hrN
  rcases al_br had A with ⟨hb, ho⟩ | ⟨hb, ho⟩
  · exact op_afault hN hC hr H (by decide) (by decide) (by decide) (Or.inr ⟨by decide, hb, ho⟩)
  · subst hx hy
    have hk8 : k < 8 := by omega
    have e : nI (ad j) + (nI (ad m) - nI (ad j)) = nI (ad m) := by grind
    have CW := (H.2.2.2.1 k hk).1
    have CR := (H.2.2.2.1 k hk).2
    have mine := ch_mine hN hrN g ho CR
    have bc := al_ch had hL ho A
    by_cases z : a_readers k = nI r
    · have zg := mine.mp z
      have D0 : rl_dy N C L B c ad (nI r) f_interrupted f_regA f_regB f_regC f_savedA f_savedB f_savedC f_timerHead a_states a_priorities a_pointers a_branches a_deadlines a_held a_readyLink a_timerLink a_head a_tail a_writers (upd a_readers k (-1)) a_counters g_nextTicket b_pos b_ra b_rb b_rc b_chan b_held b_named b_wake b_open (upd b_guard (r * 8 + k) 0) b_timer b_chosen b_ticket b_sent b_received b_sentFold b_receivedFold := ⟨H.1, H.2.1, H.2.2.1, ch_dis hC hN hrN hk g z H.2.2.2.1, H.2.2.2.2⟩
      by_cases zb : a_branches r = -1
      · have zc := bc.mp zb
        by_cases zw : a_writers k < 0
        · refine ⟨(f_unused, f_constant, f_word, f_target, f_channel, f_level, f_prefix, f_negate, f_operate, f_disableChannel, f_disableTimer, nI N, nI C, nI L, f_sealed, f_timerHead, nI r, f_interrupted, f_regA, f_regB, f_regC, f_savedA, f_savedB, f_savedC, w, nI c, f_faults, a_ops, a_xs, a_ys, a_sizes, a_address, a_bytes, a_indexAt, a_locals, a_states, a_priorities, a_pointers, a_branches, a_deadlines, a_held, a_readyLink, a_timerLink, a_head, a_tail, a_writers, upd a_readers k (-1), a_counters), (nI L, nI N, nI C, nI c, f_faults, f_sealed, g_nextTicket, a_ops, a_xs, a_ys, a_states, a_priorities, b_pos, b_ra, b_rb, b_rc, a_locals, b_chan, b_held, b_named, b_wake, b_open, upd b_guard (r * 8 + k) 0, b_timer, b_chosen, b_ticket, b_sent, b_received, b_sentFold, b_receivedFold), rl_in D0, fun post K => ?_, fun post K => ?_⟩
          · simp +decide only [wpX_execute, wpX_alternate, wX_alternate_19, wX_alternate_32, wpX_dropChannel, ba_v hr, ba_c hr, ba_v hk8, ba_c hk8, hw, hw2, z, zb, zw, forall_eq, true_implies, false_implies, not_true_eq_false, not_false_eq_true, and_true, true_and, implies_true]
            exact K
          · simp +decide only [wpY_alternation, wY_alternation_17, ba_v hr, ba_c hr, ho, forall_eq, true_implies, false_implies, not_true_eq_false, not_false_eq_true, and_true, true_and, implies_true]
            refine br_f (by decide) <| br_f (by decide) <| br_f (by decide) <|  br_t rfl ?_
            simp only [ba_v hr, ba_c hr, ba_m8, nI_add, ba_v64 (show r * 8 + k < 64 by omega), ba_c64 (show r * 8 + k < 64 by omega), zg, zc, ba_nb0, forall_eq, true_implies, false_implies, not_true_eq_false, not_false_eq_true, and_true, true_and, implies_true]
            exact yw_writer hN CW (br_t zw (yz_201 (by decide) K))
        · refine ⟨(f_unused, f_constant, f_word, f_target, f_channel, f_level, f_prefix, f_negate, f_operate, f_disableChannel, f_disableTimer, nI N, nI C, nI L, f_sealed, f_timerHead, nI r, f_interrupted, f_regA, f_regB, f_regC, f_savedA, f_savedB, f_savedC, w, nI c, f_faults, a_ops, a_xs, a_ys, a_sizes, a_address, a_bytes, a_indexAt, a_locals, a_states, a_priorities, a_pointers, upd a_branches r (nI (ad m)), a_deadlines, a_held, a_readyLink, a_timerLink, a_head, a_tail, a_writers, upd a_readers k (-1), a_counters), (nI L, nI N, nI C, nI c, f_faults, f_sealed, g_nextTicket, a_ops, a_xs, a_ys, a_states, a_priorities, b_pos, b_ra, b_rb, b_rc, a_locals, b_chan, b_held, b_named, b_wake, b_open, upd b_guard (r * 8 + k) 0, b_timer, upd b_chosen r (nI m), b_ticket, b_sent, b_received, b_sentFold, b_receivedFold), rl_in (dy_pick hN hr ho hm D0), fun post K => ?_, fun post K => ?_⟩
          · simp +decide only [wpX_execute, wpX_alternate, wX_alternate_19, wX_alternate_32, wpX_dropChannel, ba_v hr, ba_c hr, ba_v hk8, ba_c hk8, hw, hw2, z, zb, zw, hp, e, forall_eq, true_implies, false_implies, not_true_eq_false, not_false_eq_true, and_true, true_and, implies_true]
            exact K
          · simp +decide only [wpY_alternation, wY_alternation_17, ba_v hr, ba_c hr, ho, forall_eq, true_implies, false_implies, not_true_eq_false, not_false_eq_true, and_true, true_and, implies_true]
            refine br_f (by decide) <| br_f (by decide) <| br_f (by decide) <|  br_t rfl ?_
            simp only [ba_v hr, ba_c hr, ba_m8, nI_add, ba_v64 (show r * 8 + k < 64 by omega), ba_c64 (show r * 8 + k < 64 by omega), zg, zc, ba_nb0, forall_eq, true_implies, false_implies, not_true_eq_false, not_false_eq_true, and_true, true_and, implies_true]
            refine yw_writer hN CW (br_f zw ?_)
            exact yz_201 (by decide) K
      · have zc : ¬ b_chosen r = -1 := fun q => zb (bc.mpr q)
        refine ⟨(f_unused, f_constant, f_word, f_target, f_channel, f_level, f_prefix, f_negate, f_operate, f_disableChannel, f_disableTimer, nI N, nI C, nI L, f_sealed, f_timerHead, nI r, f_interrupted, f_regA, f_regB, f_regC, f_savedA, f_savedB, f_savedC, w, nI c, f_faults, a_ops, a_xs, a_ys, a_sizes, a_address, a_bytes, a_indexAt, a_locals, a_states, a_priorities, a_pointers, a_branches, a_deadlines, a_held, a_readyLink, a_timerLink, a_head, a_tail, a_writers, upd a_readers k (-1), a_counters), (nI L, nI N, nI C, nI c, f_faults, f_sealed, g_nextTicket, a_ops, a_xs, a_ys, a_states, a_priorities, b_pos, b_ra, b_rb, b_rc, a_locals, b_chan, b_held, b_named, b_wake, b_open, upd b_guard (r * 8 + k) 0, b_timer, b_chosen, b_ticket, b_sent, b_received, b_sentFold, b_receivedFold), rl_in D0, fun post K => ?_, fun post K => ?_⟩
        · simp +decide only [wpX_execute, wpX_alternate, wX_alternate_19, wX_alternate_32, wpX_dropChannel, ba_v hr, ba_c hr, ba_v hk8, ba_c hk8, hb, hw, hw2, z, zb, forall_eq, true_implies, false_implies, not_true_eq_false, not_false_eq_true, and_true, true_and, implies_true]
          exact K
        · simp +decide only [wpY_alternation, wY_alternation_17, ba_v hr, ba_c hr, ho, forall_eq, true_implies, false_implies, not_true_eq_false, not_false_eq_true, and_true, true_and, implies_true]
          refine br_f (by decide) <| br_f (by decide) <| br_f (by decide) <|  br_t rfl ?_
          simp only [ba_v hr, ba_c hr, ba_m8, nI_add, ba_v64 (show r * 8 + k < 64 by omega), ba_c64 (show r * 8 + k < 64 by omega), zg, zc, ba_nb0, forall_eq, true_implies, false_implies, not_true_eq_false, not_false_eq_true, and_true, true_and, implies_true]
          exact yz_201 (by decide) K
    · have zg : b_guard (r * 8 + k) = 0 := by
        by_cases q : b_guard (r * 8 + k) = 0
        · exact q
        · exact absurd (mine.mpr q) z
      refine ⟨(f_unused, f_constant, f_word, f_target, f_channel, f_level, f_prefix, f_negate, f_operate, f_disableChannel, f_disableTimer, nI N, nI C, nI L, f_sealed, f_timerHead, nI r, f_interrupted, f_regA, f_regB, f_regC, f_savedA, f_savedB, f_savedC, w, nI c, f_faults, a_ops, a_xs, a_ys, a_sizes, a_address, a_bytes, a_indexAt, a_locals, a_states, a_priorities, a_pointers, a_branches, a_deadlines, a_held, a_readyLink, a_timerLink, a_head, a_tail, a_writers, a_readers, a_counters), (nI L, nI N, nI C, nI c, f_faults, f_sealed, g_nextTicket, a_ops, a_xs, a_ys, a_states, a_priorities, b_pos, b_ra, b_rb, b_rc, a_locals, b_chan, b_held, b_named, b_wake, b_open, b_guard, b_timer, b_chosen, b_ticket, b_sent, b_received, b_sentFold, b_receivedFold), rl_in H, fun post K => ?_, fun post K => ?_⟩
      · simp +decide only [wpX_execute, wpX_alternate, wX_alternate_19, wX_alternate_32, wpX_dropChannel, ba_v hr, ba_c hr, ba_v hk8, ba_c hk8, hb, hw, hw2, z, forall_eq, true_implies, false_implies, not_true_eq_false, not_false_eq_true, and_true, true_and, implies_true]
        exact K
      · simp +decide only [wpY_alternation, wY_alternation_17, ba_v hr, ba_c hr, ho, forall_eq, true_implies, false_implies, not_true_eq_false, not_false_eq_true, and_true, true_and, implies_true]
        refine br_f (by decide) <| br_f (by decide) <| br_f (by decide) <|  br_t rfl ?_
        simp only [ba_v hr, ba_c hr, ba_m8, nI_add, ba_v64 (show r * 8 + k < 64 by omega), ba_c64 (show r * 8 + k < 64 by omega), zg, forall_eq, true_implies, false_implies, not_true_eq_false, not_false_eq_true, and_true, true_and, implies_true]
        exact yz_201 (by decide) K
theorem op_dist {j k : Nat} (hN : N ≤ 8) (hC : C ≤ 8) (hL : L ≤ 64) (hc : c < 256) (hr : r < 8) (had : ∀ i, i < L → ad i < 2 ^ 31) (H : rl_dy N C L B c ad (nI r) f_interrupted f_regA f_regB f_regC f_savedA f_savedB f_savedC f_timerHead a_states a_priorities a_pointers a_branches a_deadlines a_held a_readyLink a_timerLink a_head a_tail a_writers a_readers a_counters g_nextTicket b_pos b_ra b_rb b_rc b_chan b_held b_named b_wake b_open b_guard b_timer b_chosen b_ticket b_sent b_received b_sentFold b_receivedFold) (hk : k < L) (hp : a_pointers r = nI (ad j)) (hw : w = nI (ad k) - nI (ad j)) (hx : x = nI k) : jo_R N C L B c ad f_sealed a_ops a_xs a_ys a_address a_bytes a_indexAt (fun post => wpX_execute post (f_unused, f_constant, f_word, f_target, f_channel, f_level, f_prefix, f_negate, f_operate, f_disableChannel, f_disableTimer, nI N, nI C, nI L, f_sealed, f_timerHead, nI r, f_interrupted, f_regA, f_regB, f_regC, f_savedA, f_savedB, f_savedC, w, nI c, f_faults, a_ops, a_xs, a_ys, a_sizes, a_address, a_bytes, a_indexAt, a_locals, a_states, a_priorities, a_pointers, a_branches, a_deadlines, a_held, a_readyLink, a_timerLink, a_head, a_tail, a_writers, a_readers, a_counters) 19) (fun post => wpY_alternation post (nI L, nI N, nI C, nI c, f_faults, f_sealed, g_nextTicket, a_ops, a_xs, a_ys, a_states, a_priorities, b_pos, b_ra, b_rb, b_rc, a_locals, b_chan, b_held, b_named, b_wake, b_open, b_guard, b_timer, b_chosen, b_ticket, b_sent, b_received, b_sentFold, b_receivedFold) (nI r) 19 x y) := by
  obtain ⟨hrN, g, _, ea, eb, ec⟩ := pr_at hN hr H.1
  have A := H.2.2.2.2.2.1 r hrN
  rcases al_br had A with ⟨hb, ho⟩ | ⟨hb, ho⟩
  · exact op_afault hN hC hr H (by decide) (by decide) (by decide) (Or.inr ⟨by decide, hb, ho⟩)
  · subst hx
    have h6 : a_states r ≠ 6 := by rw [g]; decide
    have h7 : a_states r ≠ 7 := by rw [g]; decide
    have e : nI (ad j) + w = nI (ad k) := by rw [hw]; grind
    obtain ⟨a1, a2, a3⟩ := al_open ho A
    have bc := al_ch had hL ho A
    rcases a2 with a2 | ⟨d, hd, a2⟩
    · have e1 : a_deadlines r = -1 := a1.trans a2
      refine ⟨(f_unused, f_constant, f_word, f_target, f_channel, f_level, f_prefix, f_negate, f_operate, f_disableChannel, f_disableTimer, nI N, nI C, nI L, f_sealed, f_timerHead, nI r, f_interrupted, f_regA, f_regB, f_regC, f_savedA, f_savedB, f_savedC, w, nI c, f_faults, a_ops, a_xs, a_ys, a_sizes, a_address, a_bytes, a_indexAt, a_locals, a_states, a_priorities, a_pointers, a_branches, a_deadlines, a_held, a_readyLink, a_timerLink, a_head, a_tail, a_writers, a_readers, a_counters), (nI L, nI N, nI C, nI c, f_faults, f_sealed, g_nextTicket, a_ops, a_xs, a_ys, a_states, a_priorities, b_pos, b_ra, b_rb, b_rc, a_locals, b_chan, b_held, b_named, b_wake, b_open, b_guard, b_timer, b_chosen, b_ticket, b_sent, b_received, b_sentFold, b_receivedFold), rl_in H, fun post K => ?_, fun post K => ?_⟩
      · simp +decide only [wpX_execute, wpX_alternate, wX_alternate_19, wX_alternate_32, wpX_dropTimer, ba_v hr, ba_c hr, hb, e1, forall_eq, true_implies, false_implies, not_true_eq_false, not_false_eq_true, and_true, true_and, implies_true]
        exact K
      · simp +decide only [wpY_alternation, wY_alternation_17, ba_v hr, ba_c hr, ho, forall_eq, true_implies, false_implies, not_true_eq_false, not_false_eq_true, and_true, true_and, implies_true]
        refine br_f (by decide) <| br_f (by decide) <| br_f (by decide) <| br_f (by decide) <|  br_t rfl ?_
        simp +decide only [ba_v hr, ba_c hr, a2, forall_eq, true_implies, false_implies, not_true_eq_false, not_false_eq_true, and_true, true_and, implies_true]
        exact yz_253 (by decide) K
    · have e1 : a_deadlines r = nI d := a1.trans a2
      have z : ¬ nI d < 0 := nI_pos (by omega)
      have z' : 0 ≤ nI d := nI_pos' (by omega)
      have D0 : rl_dy N C L B c ad (nI r) f_interrupted f_regA f_regB f_regC f_savedA f_savedB f_savedC f_timerHead a_states a_priorities a_pointers a_branches (upd a_deadlines r (-1)) a_held a_readyLink a_timerLink a_head a_tail a_writers a_readers a_counters g_nextTicket b_pos b_ra b_rb b_rc b_chan b_held b_named b_wake b_open b_guard (upd b_timer r (-1)) b_chosen b_ticket b_sent b_received b_sentFold b_receivedFold := by
        obtain ⟨H1, H2, H3, H4, H5, H6, H7, H8, H9⟩ := H
        refine ⟨H1, H2, tm_dl h6 h7 H3, H4, H5, ?_, H7, H8, H9⟩
        refine al_pt (r := r) H6 (fun p hp => ⟨rfl, rfl, rfl, rfl, pk_un hp, rfl, pk_un hp⟩) ?_
        simp only [pk_us]
        exact Or.inr ⟨ho, Or.inl g, rfl, Or.inl rfl, a3⟩
      by_cases zb : a_branches r = -1
      · have zc := bc.mp zb
        by_cases du : 128 ≤ tm_w d c
        · refine ⟨(f_unused, f_constant, f_word, f_target, f_channel, f_level, f_prefix, f_negate, f_operate, f_disableChannel, f_disableTimer, nI N, nI C, nI L, f_sealed, f_timerHead, nI r, f_interrupted, f_regA, f_regB, f_regC, f_savedA, f_savedB, f_savedC, w, nI c, f_faults, a_ops, a_xs, a_ys, a_sizes, a_address, a_bytes, a_indexAt, a_locals, a_states, a_priorities, a_pointers, a_branches, upd a_deadlines r (-1), a_held, a_readyLink, a_timerLink, a_head, a_tail, a_writers, a_readers, a_counters), (nI L, nI N, nI C, nI c, f_faults, f_sealed, g_nextTicket, a_ops, a_xs, a_ys, a_states, a_priorities, b_pos, b_ra, b_rb, b_rc, a_locals, b_chan, b_held, b_named, b_wake, b_open, b_guard, upd b_timer r (-1), b_chosen, b_ticket, b_sent, b_received, b_sentFold, b_receivedFold), rl_in D0, fun post K => ?_, fun post K => ?_⟩
          · simp +decide only [wpX_execute, wpX_alternate, wX_alternate_19, wX_alternate_32, wpX_dropTimer, ba_v hr, ba_c hr, zb, e1, z', forall_eq, true_implies, false_implies, not_true_eq_false, not_false_eq_true, and_true, true_and, implies_true]
            exact xu_due hc hd (fun _ => br_t rfl K) (fun q => absurd du q)
          · simp +decide only [wpY_alternation, wY_alternation_17, ba_v hr, ba_c hr, ho, forall_eq, true_implies, false_implies, not_true_eq_false, not_false_eq_true, and_true, true_and, implies_true]
            refine br_f (by decide) <| br_f (by decide) <| br_f (by decide) <| br_f (by decide) <|  br_t rfl ?_
            simp only [ba_v hr, ba_c hr, a2, z, zc, forall_eq, true_implies, false_implies, not_true_eq_false, not_false_eq_true, and_true, true_and, implies_true]
            refine yu_due hc hd (fun _ => br_t rfl ?_) (fun q => absurd du q)
            simp only [wY_alternation_246, ba_v hr, ba_c hr, forall_eq, true_implies, false_implies, not_true_eq_false, not_false_eq_true, and_true, true_and, implies_true]
            exact yz_253 (by decide) K
        · refine ⟨(f_unused, f_constant, f_word, f_target, f_channel, f_level, f_prefix, f_negate, f_operate, f_disableChannel, f_disableTimer, nI N, nI C, nI L, f_sealed, f_timerHead, nI r, f_interrupted, f_regA, f_regB, f_regC, f_savedA, f_savedB, f_savedC, w, nI c, f_faults, a_ops, a_xs, a_ys, a_sizes, a_address, a_bytes, a_indexAt, a_locals, a_states, a_priorities, a_pointers, upd a_branches r (nI (ad k)), upd a_deadlines r (-1), a_held, a_readyLink, a_timerLink, a_head, a_tail, a_writers, a_readers, a_counters), (nI L, nI N, nI C, nI c, f_faults, f_sealed, g_nextTicket, a_ops, a_xs, a_ys, a_states, a_priorities, b_pos, b_ra, b_rb, b_rc, a_locals, b_chan, b_held, b_named, b_wake, b_open, b_guard, upd b_timer r (-1), upd b_chosen r (nI k), b_ticket, b_sent, b_received, b_sentFold, b_receivedFold), rl_in (dy_pick hN hr ho hk D0), fun post K => ?_, fun post K => ?_⟩
          · simp +decide only [wpX_execute, wpX_alternate, wX_alternate_19, wX_alternate_32, wpX_dropTimer, ba_v hr, ba_c hr, zb, e1, z', hp, e, forall_eq, true_implies, false_implies, not_true_eq_false, not_false_eq_true, and_true, true_and, implies_true]
            exact xu_due hc hd (fun q => absurd q du) (fun _ => br_f (by decide) K)
          · simp +decide only [wpY_alternation, wY_alternation_17, ba_v hr, ba_c hr, ho, forall_eq, true_implies, false_implies, not_true_eq_false, not_false_eq_true, and_true, true_and, implies_true]
            refine br_f (by decide) <| br_f (by decide) <| br_f (by decide) <| br_f (by decide) <|  br_t rfl ?_
            simp only [ba_v hr, ba_c hr, a2, z, zc, forall_eq, true_implies, false_implies, not_true_eq_false, not_false_eq_true, and_true, true_and, implies_true]
            refine yu_due hc hd (fun q => absurd q du) (fun _ => br_f (by decide) ?_)
            simp only [wY_alternation_246, ba_v hr, ba_c hr, forall_eq, true_implies, false_implies, not_true_eq_false, not_false_eq_true, and_true, true_and, implies_true]
            exact yz_253 (by decide) K
      · have zc : ¬ b_chosen r = -1 := fun q => zb (bc.mpr q)
        refine ⟨(f_unused, f_constant, f_word, f_target, f_channel, f_level, f_prefix, f_negate, f_operate, f_disableChannel, f_disableTimer, nI N, nI C, nI L, f_sealed, f_timerHead, nI r, f_interrupted, f_regA, f_regB, f_regC, f_savedA, f_savedB, f_savedC, w, nI c, f_faults, a_ops, a_xs, a_ys, a_sizes, a_address, a_bytes, a_indexAt, a_locals, a_states, a_priorities, a_pointers, a_branches, upd a_deadlines r (-1), a_held, a_readyLink, a_timerLink, a_head, a_tail, a_writers, a_readers, a_counters), (nI L, nI N, nI C, nI c, f_faults, f_sealed, g_nextTicket, a_ops, a_xs, a_ys, a_states, a_priorities, b_pos, b_ra, b_rb, b_rc, a_locals, b_chan, b_held, b_named, b_wake, b_open, b_guard, upd b_timer r (-1), b_chosen, b_ticket, b_sent, b_received, b_sentFold, b_receivedFold), rl_in D0, fun post K => ?_, fun post K => ?_⟩
        · simp +decide only [wpX_execute, wpX_alternate, wX_alternate_19, wX_alternate_32, wpX_dropTimer, ba_v hr, ba_c hr, hb, zb, e1, z', forall_eq, true_implies, false_implies, not_true_eq_false, not_false_eq_true, and_true, true_and, implies_true]
          exact K
        · simp +decide only [wpY_alternation, wY_alternation_17, ba_v hr, ba_c hr, ho, forall_eq, true_implies, false_implies, not_true_eq_false, not_false_eq_true, and_true, true_and, implies_true]
          refine br_f (by decide) <| br_f (by decide) <| br_f (by decide) <| br_f (by decide) <|  br_t rfl ?_
          simp only [wY_alternation_246, ba_v hr, ba_c hr, a2, z, zc, forall_eq, true_implies, false_implies, not_true_eq_false, not_false_eq_true, and_true, true_and, implies_true]
          exact yz_253 (by decide) K
theorem op_altend (hN : N ≤ 8) (hC : C ≤ 8) (hL : L ≤ 64) (hr : r < 8) (had : ∀ i, i < L → ad i < 2 ^ 31) (H : rl_dy N C L B c ad (nI r) f_interrupted f_regA f_regB f_regC f_savedA f_savedB f_savedC f_timerHead a_states a_priorities a_pointers a_branches a_deadlines a_held a_readyLink a_timerLink a_head a_tail a_writers a_readers a_counters g_nextTicket b_pos b_ra b_rb b_rc b_chan b_held b_named b_wake b_open b_guard b_timer b_chosen b_ticket b_sent b_received b_sentFold b_receivedFold) : jo_R N C L B c ad f_sealed a_ops a_xs a_ys a_address a_bytes a_indexAt (fun post => wpX_execute post (f_unused, f_constant, f_word, f_target, f_channel, f_level, f_prefix, f_negate, f_operate, f_disableChannel, f_disableTimer, nI N, nI C, nI L, f_sealed, f_timerHead, nI r, f_interrupted, f_regA, f_regB, f_regC, f_savedA, f_savedB, f_savedC, w, nI c, f_faults, a_ops, a_xs, a_ys, a_sizes, a_address, a_bytes, a_indexAt, a_locals, a_states, a_priorities, a_pointers, a_branches, a_deadlines, a_held, a_readyLink, a_timerLink, a_head, a_tail, a_writers, a_readers, a_counters) 20) (fun post => wpY_alternation post (nI L, nI N, nI C, nI c, f_faults, f_sealed, g_nextTicket, a_ops, a_xs, a_ys, a_states, a_priorities, b_pos, b_ra, b_rb, b_rc, a_locals, b_chan, b_held, b_named, b_wake, b_open, b_guard, b_timer, b_chosen, b_ticket, b_sent, b_received, b_sentFold, b_receivedFold) (nI r) 20 x y) := by
  obtain ⟨hrN, g, _, ea, eb, ec⟩ := pr_at hN hr H.1
  have A := H.2.2.2.2.2.1 r hrN
  rcases al_br had A with ⟨hb, ho⟩ | ⟨hb, ho⟩
  · exact op_afault hN hC hr H (by decide) (by decide) (by decide) (Or.inr ⟨by decide, hb, ho⟩)
  · have h6 : a_states r ≠ 6 := by rw [g]; decide
    have h7 : a_states r ≠ 7 := by rw [g]; decide
    have D0 : rl_dy N C L B c ad (nI r) f_interrupted f_regA f_regB f_regC f_savedA f_savedB f_savedC f_timerHead a_states a_priorities a_pointers (upd a_branches r (-2)) (upd a_deadlines r (-1)) a_held a_readyLink a_timerLink a_head a_tail a_writers (rd_f r C a_readers) a_counters g_nextTicket b_pos b_ra b_rb b_rc b_chan b_held b_named b_wake (upd b_open r 0) (zr_f r 8 b_guard) (upd b_timer r (-1)) (upd b_chosen r (-1)) b_ticket b_sent b_received b_sentFold b_receivedFold := by
      obtain ⟨H1, H2, H3, H4, H5, H6, H7, H8, H9⟩ := H
      refine ⟨H1, H2, tm_dl h6 h7 H3, ch_close hC hN hrN g H4, H5, ?_, H7, H8, H9⟩
      refine al_pt (r := r) H6 (fun p hp => ⟨rfl, pk_un hp, pk_un hp, pk_un hp, pk_un hp, rfl, pk_un hp⟩) ?_
      simp only [pk_us]
      exact Or.inl ⟨rfl, rfl, h7, fun z => absurd z h6, fun _ => rfl⟩
    rcases (al_open ho A).2.2 with ⟨h1, h2⟩ | ⟨i, hi, h1, h2⟩
    · refine ⟨(f_unused, f_constant, f_word, f_target, f_channel, f_level, f_prefix, f_negate, f_operate, f_disableChannel, f_disableTimer, nI N, nI C, nI L, f_sealed, f_timerHead, nI r, f_interrupted, f_regA, f_regB, f_regC, f_savedA, f_savedB, f_savedC, w, nI c, f_faults, a_ops, a_xs, a_ys, a_sizes, a_address, a_bytes, a_indexAt, a_locals, a_states, a_priorities, a_pointers, upd a_branches r (-2), upd a_deadlines r (-1), a_held, a_readyLink, a_timerLink, a_head, a_tail, a_writers, rd_f r C a_readers, a_counters), (nI L, nI N, nI C, nI c, f_faults, f_sealed, g_nextTicket, a_ops, a_xs, a_ys, a_states, a_priorities, b_pos, b_ra, b_rb, b_rc, a_locals, b_chan, b_held, b_named, b_wake, upd b_open r 0, zr_f r 8 b_guard, upd b_timer r (-1), upd b_chosen r (-1), b_ticket, b_sent, b_received, b_sentFold, b_receivedFold), rl_in D0, fun post K => ?_, fun post K => ?_⟩
      · simp +decide only [wpX_execute, wpX_alternate, wX_alternate_19, wX_alternate_32, wpX_finishAlternation, ba_v hr, ba_c hr, h2, forall_eq, true_implies, false_implies, not_true_eq_false, not_false_eq_true, and_true, true_and, implies_true]
        refine xw_close hC hr ?_
        simp +decide only [forall_eq, true_implies, false_implies, not_true_eq_false, not_false_eq_true, and_true, true_and, implies_true]
        exact K
      · simp +decide only [wpY_alternation, wY_alternation_17, ba_v hr, ba_c hr, ho, forall_eq, true_implies, false_implies, not_true_eq_false, not_false_eq_true, and_true, true_and, implies_true]
        refine br_f (by decide) <| br_f (by decide) <| br_f (by decide) <| br_f (by decide) <| br_f (by decide) <|  br_t rfl ?_
        simp only [wY_alternation_281, ba_v hr, ba_c hr, h1, forall_eq, true_implies, false_implies, not_true_eq_false, not_false_eq_true, and_true, true_and, implies_true]
        exact yw_close hr K
    · have z : ¬ nI (ad i) < 0 := nI_pos (had i hi)
      have z1 : ¬ nI i = -1 := ba_m1 (by omega)
      have z2 : ¬ nI (ad i) = -2 := ba_m2 (had i hi)
      refine ⟨(f_unused, f_constant, f_word, f_target, f_channel, f_level, f_prefix, f_negate, f_operate, f_disableChannel, f_disableTimer, nI N, nI C, nI L, f_sealed, f_timerHead, nI r, f_interrupted, f_regA, f_regB, f_regC, f_savedA, f_savedB, f_savedC, w, nI c, f_faults, a_ops, a_xs, a_ys, a_sizes, a_address, a_bytes, a_indexAt, a_locals, a_states, a_priorities, upd a_pointers r (nI (ad i)), upd a_branches r (-2), upd a_deadlines r (-1), a_held, a_readyLink, a_timerLink, a_head, a_tail, a_writers, rd_f r C a_readers, a_counters), (nI L, nI N, nI C, nI c, f_faults, f_sealed, g_nextTicket, a_ops, a_xs, a_ys, a_states, a_priorities, upd b_pos r (nI i), b_ra, b_rb, b_rc, a_locals, b_chan, b_held, b_named, b_wake, upd b_open r 0, zr_f r 8 b_guard, upd b_timer r (-1), upd b_chosen r (-1), b_ticket, b_sent, b_received, b_sentFold, b_receivedFold), rl_in ⟨D0.1, D0.2.1, D0.2.2.1, D0.2.2.2.1, po_set hi D0.2.2.2.2.1, D0.2.2.2.2.2⟩, fun post K => ?_, fun post K => ?_⟩
      · simp +decide only [wpX_execute, wpX_alternate, wX_alternate_19, wX_alternate_32, wpX_finishAlternation, ba_v hr, ba_c hr, h2, z2, forall_eq, true_implies, false_implies, not_true_eq_false, not_false_eq_true, and_true, true_and, implies_true]
        refine xw_close hC hr ?_
        simp only [ba_v hr, ba_c hr, z, forall_eq, true_implies, false_implies, not_true_eq_false, not_false_eq_true, and_true, true_and, implies_true]
        exact K
      · simp +decide only [wpY_alternation, wY_alternation_17, ba_v hr, ba_c hr, ho, forall_eq, true_implies, false_implies, not_true_eq_false, not_false_eq_true, and_true, true_and, implies_true]
        refine br_f (by decide) <| br_f (by decide) <| br_f (by decide) <| br_f (by decide) <| br_f (by decide) <|  br_t rfl ?_
        simp only [wY_alternation_281, ba_v hr, ba_c hr, h1, z1, forall_eq, true_implies, false_implies, not_true_eq_false, not_false_eq_true, and_true, true_and, implies_true]
        exact yw_close hr K
end
end
section
/-! the ready queues as the reference reads them; the choice of a process -/
section
variable {g_length g_procs g_chans g_clock g_faults g_sealed : Int32} {g_nextTicket : Int64} {b_ops b_xs b_ys b_st b_prio b_pos b_ra b_rb b_rc b_words b_chan b_held b_named b_wake b_open b_guard b_timer b_chosen b_sent b_received b_sentFold b_receivedFold : Nat → Int32} {b_ticket : Nat → Int64}
/-- how many ready ones of rank pr came before p -/
def rq_c (st pr : Nat → Int32) (tk : Nat → Nat) (k : Int32) (p n : Nat) : Nat := cn_n (fun q => st q = 3 ∧ pr q = k ∧ tk q < tk p) n
theorem rq_s {st pr : Nat → Int32} {tk : Nat → Nat} {k : Int32} {p n : Nat} : rq_c st pr tk k p (n + 1) = rq_c st pr tk k p n + (if st n = 3 ∧ pr n = k ∧ tk n < tk p then 1 else 0) := rfl
theorem rq_le {st pr : Nat → Int32} {tk : Nat → Nat} {k : Int32} {p n : Nat} : rq_c st pr tk k p n ≤ n := cn_le n
theorem yw_rdy {post : Int32 → Prop} {N : Nat} {pr i x : Int32} {tk : Nat → Nat} (hN : N ≤ 8) (hT : ∀ p, b_ticket p = lN (tk p) ∧ tk p < 2 ^ 31) (H : ow_n N (fun p => b_st p = 3 ∧ b_prio p = pr ∧ nI (rq_c b_st b_prio tk pr p N) = i) x) (K : post x) : wpY_readyAt post (g_length, nI N, g_chans, g_clock, g_faults, g_sealed, g_nextTicket, b_ops, b_xs, b_ys, b_st, b_prio, b_pos, b_ra, b_rb, b_rc, b_words, b_chan, b_held, b_named, b_wake, b_open, b_guard, b_timer, b_chosen, b_ticket, b_sent, b_received, b_sentFold, b_receivedFold) pr i := by
  have inner : ∀ (J : Int32 → Prop) (p : Nat), p < N → ((b_st p = 3 ∧ b_prio p = pr ∧ nI (rq_c b_st b_prio tk pr p N) = i) → post (nI p)) → (¬ (b_st p = 3 ∧ b_prio p = pr ∧ nI (rq_c b_st b_prio tk pr p N) = i) → J (nI (p + 1))) → ∀ d q, q + d = N → wY_readyAt_16 post J pr i (nI p) g_length (nI N) g_chans g_clock g_faults g_sealed g_nextTicket b_ops b_xs b_ys b_st b_prio b_pos b_ra b_rb b_rc b_words b_chan b_held b_named b_wake b_open b_guard b_timer b_chosen b_ticket b_sent b_received b_sentFold b_receivedFold (d + 1) (nI (rq_c b_st b_prio tk pr p q)) (nI q) := by
    intro J p hp yes no d
    have hp8 : p < 8 := by omega
    induction d with
    | zero =>
      intro q hq
      have e : q = N := by omega
      subst e
      have h8 : nI q ≤ nI q := Int32.le_refl _
      by_cases z1 : b_st p = 3
      · by_cases z2 : b_prio p = pr
        · by_cases z3 : nI (rq_c b_st b_prio tk pr p q) = i
          · have h := yes ⟨z1, z2, z3⟩
            rw [wY_readyAt_16]; simp only [h8, ba_v hp8, ba_c hp8, z1, z2, z3, forall_eq, true_implies, false_implies, not_true_eq_false, not_false_eq_true, and_true, true_and, implies_true]
            exact h
          · have h := no (fun z => z3 z.2.2)
            rw [wY_readyAt_16]; simp only [h8, ba_v hp8, ba_c hp8, z1, z2, z3, nI_1, forall_eq, true_implies, false_implies, not_true_eq_false, not_false_eq_true, and_true, true_and, implies_true]
            exact h
        · have h := no (fun z => z2 z.2.1)
          rw [wY_readyAt_16]; simp only [h8, ba_v hp8, ba_c hp8, z1, z2, nI_1, forall_eq, true_implies, false_implies, not_true_eq_false, not_false_eq_true, and_true, true_and, implies_true]
          exact h
      · have h := no (fun z => z1 z.1)
        rw [wY_readyAt_16]; simp only [h8, ba_v hp8, ba_c hp8, z1, nI_1, forall_eq, true_implies, false_implies, not_true_eq_false, not_false_eq_true, and_true, true_and, implies_true]
        exact h
    | succ d ih =>
      intro q hq
      have hq8 : q < 8 := by omega
      have h8 : ¬ nI N ≤ nI q := nI_ge (by omega) (by omega)
      have h := ih (q + 1) (by omega)
      rw [rq_s] at h
      by_cases z1 : b_st q = 3
      · by_cases z2 : b_prio q = pr
        · have tle := lN_le (hT p).2 (hT q).2
          by_cases z3 : tk q < tk p
          · rw [if_pos ⟨z1, z2, z3⟩] at h
            have z4 : ¬ lN (tk p) ≤ lN (tk q) := fun z => by have := tle.mp z; omega
            rw [wY_readyAt_16]; simp only [h8, ba_v hp8, ba_c hp8, ba_v hq8, ba_c hq8, z1, z2, (hT p).1, (hT q).1, z4, nI_1, forall_eq, true_implies, false_implies, not_true_eq_false, not_false_eq_true, and_true, true_and, implies_true]
            exact h
          · rw [if_neg (fun z => z3 z.2.2)] at h
            have z4 : lN (tk p) ≤ lN (tk q) := tle.mpr (by omega)
            rw [wY_readyAt_16]; simp only [h8, ba_v hp8, ba_c hp8, ba_v hq8, ba_c hq8, z1, z2, (hT p).1, (hT q).1, z4, nI_1, forall_eq, true_implies, false_implies, not_true_eq_false, not_false_eq_true, and_true, true_and, implies_true]
            exact h
        · rw [if_neg (fun z => z2 z.2.1)] at h
          rw [wY_readyAt_16]; simp only [h8, ba_v hp8, ba_c hp8, ba_v hq8, ba_c hq8, z1, z2, nI_1, forall_eq, true_implies, false_implies, not_true_eq_false, not_false_eq_true, and_true, true_and, implies_true]
          exact h
      · rw [if_neg (fun z => z1 z.1)] at h
        rw [wY_readyAt_16]; simp only [h8, ba_v hp8, ba_c hp8, ba_v hq8, ba_c hq8, z1, nI_1, forall_eq, true_implies, false_implies, not_true_eq_false, not_false_eq_true, and_true, true_and, implies_true]
        exact h
  have loop : ∀ d p, p + d = N → (∀ q, q < p → ¬ (b_st q = 3 ∧ b_prio q = pr ∧ nI (rq_c b_st b_prio tk pr q N) = i)) → wY_readyAt_2 post pr i g_length (nI N) g_chans g_clock g_faults g_sealed g_nextTicket b_ops b_xs b_ys b_st b_prio b_pos b_ra b_rb b_rc b_words b_chan b_held b_named b_wake b_open b_guard b_timer b_chosen b_ticket b_sent b_received b_sentFold b_receivedFold (d + 1) (nI p) := by
    intro d
    induction d with
    | zero =>
      intro p hp hl
      have e : p = N := by omega
      subst e
      have h8 : nI p ≤ nI p := Int32.le_refl _
      have e : x = -1 := by
        rcases H with z | ⟨w, hw, _, z, _⟩
        · exact z.1
        · exact absurd z (hl w hw)
      subst e
      rw [wY_readyAt_2]; simp only [h8, forall_eq, true_implies, false_implies, not_true_eq_false, not_false_eq_true, and_true, true_and, implies_true]
      exact K
    | succ d ih =>
      intro p hp hl
      have h8 : ¬ nI N ≤ nI p := nI_ge (by omega) (by omega)
      rw [wY_readyAt_2]; simp only [h8, forall_eq, true_implies, false_implies, not_true_eq_false, not_false_eq_true, and_true, true_and, implies_true]
      refine ⟨N + 1, inner _ p (by omega) (fun z => ?_) (fun z => ?_) N 0 (by omega)⟩
      · rw [← ow_is H (show p < N by omega) z]
        exact K
      · exact ih (p + 1) (by omega) (fun q hq => by
          by_cases e : q = p
          · rw [e]; exact z
          · exact hl q (by omega))
  exact ⟨N + 1, loop N 0 (by omega) (fun p hp => absurd hp (by omega))⟩
/-- a queue's list answers by its places -/
theorem rq_ow {N k m : Nat} {st pr : Nat → Int32} {tk : Nat → Nat} {hd tl : Int32} {lk : Nat → Int32} {l : List Nat} (hN : N ≤ 8) (hm : m < 2 ^ 31) (H : rl_qq N st pr tk hd tl lk k l) : ow_n N (fun p => st p = 3 ∧ pr p = nI k ∧ nI (rq_c st pr tk (nI k) p N) = nI m) (gt_n l m) := by
  obtain ⟨a, b, d, t⟩ := H
  have hl : ∀ q, q ∈ l → q < N := fun q hq => ((a q).mp hq).1
  have cnt : ∀ l1 p l2, l = l1 ++ p :: l2 → rq_c st pr tk (nI k) p N = l1.length := fun l1 p l2 e => by
    rw [e] at b hl a
    rw [← cn_below b hl]
    refine cn_congr (fun q hq => ?_)
    rw [a q]
    exact ⟨fun z => ⟨⟨hq, z.1, z.2.1⟩, z.2.2⟩, fun z => ⟨z.1.2.1, z.1.2.2, z.2⟩⟩
  have len : l.length ≤ N := cn_len (pw_nodup b) hl
  by_cases h : m < l.length
  · obtain ⟨l1, p, l2, e, e2⟩ := li_split h
    have hp : p ∈ l := by rw [e]; simp
    have z := (a p).mp hp
    have g : gt_n l m = nI p := by rw [e, ← e2]; exact gt_app
    rw [g]
    refine ow_one z.1 ⟨z.2.1, z.2.2, by rw [cnt l1 p l2 e, e2]⟩ (fun q hq w => ?_)
    have hq2 : q ∈ l := (a q).mpr ⟨hq, w.1, w.2.1⟩
    obtain ⟨m1, m2, e3⟩ := li_mem hq2
    have w3 := w.2.2
    rw [cnt m1 q m2 e3] at w3
    have hm1 : m1.length < 2 ^ 31 := by
      rw [e3] at len
      simp at len
      omega
    have e4 : m1.length = m := ba_inj hm1 hm w3
    have g2 : gt_n l m = nI q := by rw [e3, ← e4]; exact gt_app
    rw [g] at g2
    exact (ba_i8 (by omega) (by omega) g2).symm
  · rw [gt_end (by omega)]
    refine ow_none (fun q hq w => ?_)
    have hq2 : q ∈ l := (a q).mpr ⟨hq, w.1, w.2.1⟩
    obtain ⟨m1, m2, e3⟩ := li_mem hq2
    have w3 := w.2.2
    rw [cnt m1 q m2 e3] at w3
    have hm0 : m1.length < l.length := by rw [e3]; simp
    have e4 : m1.length = m := ba_inj (by omega) hm w3
    omega
theorem ch_gt {k : Nat → Int32} {h : Int32} {l : List Nat} (H : ch_n k h l) : gt_n l 0 = h := by
  cases l with
  | nil => exact Eq.symm H
  | cons a l => exact H.1.symm
/-- the head of a queue -/
theorem yw_head {post : Int32 → Prop} {N B k : Nat} {hd tl lk : Nat → Int32} (hN : N ≤ 8) (hB : B < 2 ^ 31) (hk : k < 2) (Q : rl_qu N B b_st b_prio b_ticket g_nextTicket hd tl lk) (K : post (hd k)) : wpY_readyAt post (g_length, nI N, g_chans, g_clock, g_faults, g_sealed, g_nextTicket, b_ops, b_xs, b_ys, b_st, b_prio, b_pos, b_ra, b_rb, b_rc, b_words, b_chan, b_held, b_named, b_wake, b_open, b_guard, b_timer, b_chosen, b_ticket, b_sent, b_received, b_sentFold, b_receivedFold) (nI k) 0 := by
  obtain ⟨tk, n, e, hn, H1, H2, H3⟩ := Q
  obtain ⟨l, H⟩ := H3 k hk
  refine yw_rdy (tk := tk) hN (fun p => ⟨(H1 p).1, by have := (H1 p).2; omega⟩) (x := hd k) ?_ K
  have h := rq_ow (m := 0) hN (by decide) H
  rw [ch_gt H.2.2.1] at h
  exact h
end
section
variable {N C L B c r : Nat} {ad : Nat → Nat}
variable {f_unused f_constant f_word f_target f_channel f_level f_prefix f_negate f_operate f_disableChannel f_disableTimer f_processCount f_channelCount f_length f_sealed f_timerHead f_running f_interrupted f_regA f_regB f_regC f_savedA f_savedB f_savedC f_operand f_clock f_faults : Int32} {a_ops a_xs a_ys a_sizes a_address a_bytes a_indexAt a_locals a_states a_priorities a_pointers a_branches a_deadlines a_held a_readyLink a_timerLink a_head a_tail a_writers a_readers a_counters : Nat → Int32}
variable {g_length g_procs g_chans g_clock g_faults g_sealed : Int32} {g_nextTicket : Int64} {b_ops b_xs b_ys b_st b_prio b_pos b_ra b_rb b_rc b_words b_chan b_held b_named b_wake b_open b_guard b_timer b_chosen b_sent b_received b_sentFold b_receivedFold : Nat → Int32} {b_ticket : Nat → Int64}
/-- one of running, interrupted, ready becomes another of these: what else lasts -/
theorem mv_5 {q : Nat} {s : Int32} (hq : q < N) (g : a_states q = 1 ∨ a_states q = 2 ∨ a_states q = 3) (hs : s = 1 ∨ s = 2 ∨ s = 3)
    (H : rl_tm N 1 c a_states a_deadlines f_timerHead a_timerLink ∧ rl_ch N C a_states b_chan b_open b_guard a_writers a_readers ∧ rl_po N L ad a_states b_pos a_pointers ∧ rl_al N L ad a_states b_open b_chosen a_branches b_timer b_wake a_deadlines ∧ rl_he N C a_states b_chan a_held b_held b_named ∧ rl_co C a_counters b_sent b_received b_sentFold b_receivedFold ∧ rl_pi a_priorities) :
    rl_tm N 1 c (upd a_states q s) a_deadlines f_timerHead a_timerLink ∧ rl_ch N C (upd a_states q s) b_chan b_open b_guard a_writers a_readers ∧ rl_po N L ad (upd a_states q s) b_pos a_pointers ∧ rl_al N L ad (upd a_states q s) b_open b_chosen a_branches b_timer b_wake a_deadlines ∧ rl_he N C (upd a_states q s) b_chan a_held b_held b_named ∧ rl_co C a_counters b_sent b_received b_sentFold b_receivedFold ∧ rl_pi a_priorities := by
  obtain ⟨H3, H4, H5, H6, H7, H8⟩ := H
  have n0 : a_states q ≠ 0 := by rcases g with e | e | e <;> (rw [e]; decide)
  have n4 : a_states q ≠ 4 := by rcases g with e | e | e <;> (rw [e]; decide)
  have n5 : a_states q ≠ 5 := by rcases g with e | e | e <;> (rw [e]; decide)
  have n6 : a_states q ≠ 6 := by rcases g with e | e | e <;> (rw [e]; decide)
  have n7 : a_states q ≠ 7 := by rcases g with e | e | e <;> (rw [e]; decide)
  have s4 : s ≠ 4 := by rcases hs with e | e | e <;> (rw [e]; decide)
  have s5 : s ≠ 5 := by rcases hs with e | e | e <;> (rw [e]; decide)
  have s6 : s ≠ 6 := by rcases hs with e | e | e <;> (rw [e]; decide)
  have s7 : s ≠ 7 := by rcases hs with e | e | e <;> (rw [e]; decide)
  exact ⟨tm_st n6 (Or.inl n7) s6 (Or.inl s7) H3, ch_st n4 n5 s4 s5 H4, po_s1 n0 H5, al_st H6 (al_run n6 hs (H6 q hq)), he_st s4 s5 H7, H8⟩
theorem xw_disp {post : SX → Prop} {k p : Nat} (hk : k < 2) (hp : p < 8) (hh : a_head k = nI p) (K : post (f_unused, f_constant, f_word, f_target, f_channel, f_level, f_prefix, f_negate, f_operate, f_disableChannel, f_disableTimer, f_processCount, f_channelCount, f_length, f_sealed, f_timerHead, nI p, f_interrupted, 0, 0, 0, f_savedA, f_savedB, f_savedC, f_operand, f_clock, f_faults, a_ops, a_xs, a_ys, a_sizes, a_address, a_bytes, a_indexAt, a_locals, upd a_states p 1, a_priorities, a_pointers, a_branches, a_deadlines, a_held, a_readyLink, a_timerLink, upd a_head k (a_readyLink p), a_tail, a_writers, a_readers, a_counters)) : wpX_dispatch post (f_unused, f_constant, f_word, f_target, f_channel, f_level, f_prefix, f_negate, f_operate, f_disableChannel, f_disableTimer, f_processCount, f_channelCount, f_length, f_sealed, f_timerHead, f_running, f_interrupted, f_regA, f_regB, f_regC, f_savedA, f_savedB, f_savedC, f_operand, f_clock, f_faults, a_ops, a_xs, a_ys, a_sizes, a_address, a_bytes, a_indexAt, a_locals, a_states, a_priorities, a_pointers, a_branches, a_deadlines, a_held, a_readyLink, a_timerLink, a_head, a_tail, a_writers, a_readers, a_counters) (nI k) := by
  simp only [wpX_dispatch, wpX_clear, ba_c (show k < 8 by omega), vp_in_nI hk (show 2 < 2 ^ 31 by decide), hh, ba_v hp, ba_c hp, forall_eq, true_implies, false_implies, not_true_eq_false, not_false_eq_true, and_true, true_and, implies_true]
  exact K
theorem jw_choose (hN : N ≤ 8) (hB : B < 2 ^ 31) (H : rl_dy N C L B c ad f_running f_interrupted f_regA f_regB f_regC f_savedA f_savedB f_savedC f_timerHead a_states a_priorities a_pointers a_branches a_deadlines a_held a_readyLink a_timerLink a_head a_tail a_writers a_readers a_counters g_nextTicket b_pos b_ra b_rb b_rc b_chan b_held b_named b_wake b_open b_guard b_timer b_chosen b_ticket b_sent b_received b_sentFold b_receivedFold) : ∃ (run it xa xb xc sa sb sc : Int32) (st hd : Nat → Int32), rl_dy N C L B c ad run it xa xb xc sa sb sc f_timerHead st a_priorities a_pointers a_branches a_deadlines a_held a_readyLink a_timerLink hd a_tail a_writers a_readers a_counters g_nextTicket b_pos b_ra b_rb b_rc b_chan b_held b_named b_wake b_open b_guard b_timer b_chosen b_ticket b_sent b_received b_sentFold b_receivedFold ∧ (run = -1 ∨ ∃ r, r < N ∧ run = nI r)
    ∧ (∀ post : SX → Prop, post (f_unused, f_constant, f_word, f_target, f_channel, f_level, f_prefix, f_negate, f_operate, f_disableChannel, f_disableTimer, nI N, nI C, nI L, f_sealed, f_timerHead, run, it, xa, xb, xc, sa, sb, sc, f_operand, nI c, f_faults, a_ops, a_xs, a_ys, a_sizes, a_address, a_bytes, a_indexAt, a_locals, st, a_priorities, a_pointers, a_branches, a_deadlines, a_held, a_readyLink, a_timerLink, hd, a_tail, a_writers, a_readers, a_counters) → wpX_choose post (f_unused, f_constant, f_word, f_target, f_channel, f_level, f_prefix, f_negate, f_operate, f_disableChannel, f_disableTimer, nI N, nI C, nI L, f_sealed, f_timerHead, f_running, f_interrupted, f_regA, f_regB, f_regC, f_savedA, f_savedB, f_savedC, f_operand, nI c, f_faults, a_ops, a_xs, a_ys, a_sizes, a_address, a_bytes, a_indexAt, a_locals, a_states, a_priorities, a_pointers, a_branches, a_deadlines, a_held, a_readyLink, a_timerLink, a_head, a_tail, a_writers, a_readers, a_counters))
    ∧ (∀ post : Int32 → SY → Prop, post run (nI L, nI N, nI C, nI c, f_faults, f_sealed, g_nextTicket, a_ops, a_xs, a_ys, st, a_priorities, b_pos, b_ra, b_rb, b_rc, a_locals, b_chan, b_held, b_named, b_wake, b_open, b_guard, b_timer, b_chosen, b_ticket, b_sent, b_received, b_sentFold, b_receivedFold) → wpY_choose post (nI L, nI N, nI C, nI c, f_faults, f_sealed, g_nextTicket, a_ops, a_xs, a_ys, a_states, a_priorities, b_pos, b_ra, b_rb, b_rc, a_locals, b_chan, b_held, b_named, b_wake, b_open, b_guard, b_timer, b_chosen, b_ticket, b_sent, b_received, b_sentFold, b_receivedFold)) := by
  have H1 := H.1
  have Q := H.2.1
  have m1 : (-1 : Int32) < 0 := by decide
  have m1' : ¬ (0 : Int32) ≤ -1 := by decide
  rcases H1.1 with ⟨e, none⟩ | ⟨r, hr, e, g, one⟩
  · subst e
    rcases qu_hd (k := 0) hN (by decide) Q with ⟨eh, _⟩ | ⟨p, hp, eh, g, gp⟩
    · rcases H1.2.1 with ⟨e2, none2⟩ | ⟨q, hq, e2, g2, one2⟩
      · subst e2
        rcases qu_hd (k := 1) hN (by decide) Q with ⟨eh1, _⟩ | ⟨p, hp, eh1, g, gp⟩
        · refine ⟨-1, -1, f_regA, f_regB, f_regC, f_savedA, f_savedB, f_savedC, a_states, a_head, H, Or.inl rfl, fun post K => ?_, fun post K => ?_⟩
          · simp only [wpX_choose, wX_choose_20, m1, m1', eh, eh1, forall_eq, true_implies, false_implies, not_true_eq_false, not_false_eq_true, and_true, true_and, implies_true]
            exact K
          · unfold wpY_choose
            refine yw_find hN H1.1 (br_t m1 ?_)
            refine yw_head (k := 0) hN hB (by decide) Q ?_
            rw [eh]
            refine br_t m1 (br_t m1 (yw_find hN H1.2.1 (br_f m1' ?_)))
            refine yw_head (k := 1) hN hB (by decide) Q ?_
            rw [eh1]
            exact br_t m1 K
        · have hp8 : p < 8 := by omega
          have zp := ba_p hp8
          refine ⟨nI p, -1, 0, 0, 0, f_savedA, f_savedB, f_savedC, upd a_states p 1, upd a_head 1 (a_readyLink p), ⟨pr_disp hN hp g (Or.inl rfl) H1, qu_disp hN (by decide) hp8 eh1 (by decide) Q, mv_5 hp (Or.inr (Or.inr g)) (Or.inl rfl) H.2.2⟩, Or.inr ⟨p, hp, rfl⟩, fun post K => ?_, fun post K => ?_⟩
          · simp only [wpX_choose, wX_choose_20, m1, m1', eh, eh1, zp, forall_eq, true_implies, false_implies, not_true_eq_false, not_false_eq_true, and_true, true_and, implies_true]
            exact xw_disp (k := 1) (by decide) hp8 eh1 K
          · unfold wpY_choose
            refine yw_find hN H1.1 (br_t m1 ?_)
            refine yw_head (k := 0) hN hB (by decide) Q ?_
            rw [eh]
            refine br_t m1 (br_t m1 (yw_find hN H1.2.1 (br_f m1' ?_)))
            refine yw_head (k := 1) hN hB (by decide) Q ?_
            rw [eh1]
            simp only [wY_choose_75, zp, ba_v hp8, ba_c hp8, forall_eq, true_implies, false_implies, not_true_eq_false, not_false_eq_true, and_true, true_and, implies_true]
            exact K
      · subst e2
        have hq8 : q < 8 := by omega
        have zq := ba_p hq8
        have zq' := ba_p' hq8
        have g3 : a_states q ≠ 3 := by rw [g2]; decide
        refine ⟨nI q, -1, f_savedA, f_savedB, f_savedC, f_savedA, f_savedB, f_savedC, upd a_states q 1, a_head, ⟨pr_resm hN hq8 H1, qu_set g3 (by decide) Q, mv_5 hq (Or.inr (Or.inl g2)) (Or.inl rfl) H.2.2⟩, Or.inr ⟨q, hq, rfl⟩, fun post K => ?_, fun post K => ?_⟩
        · simp only [wpX_choose, wX_choose_20, wpX_resume, m1, m1', eh, zq, ba_v hq8, ba_c hq8, forall_eq, true_implies, false_implies, not_true_eq_false, not_false_eq_true, and_true, true_and, implies_true]
          exact K
        · unfold wpY_choose
          refine yw_find hN H1.1 (br_t m1 ?_)
          refine yw_head (k := 0) hN hB (by decide) Q ?_
          rw [eh]
          refine br_t m1 (br_t m1 (yw_find hN H1.2.1 (br_t zq' ?_)))
          simp only [wY_choose_75, zq, ba_v hq8, ba_c hq8, forall_eq, true_implies, false_implies, not_true_eq_false, not_false_eq_true, and_true, true_and, implies_true]
          exact K
    · have hp8 : p < 8 := by omega
      have zp := ba_p hp8
      refine ⟨nI p, f_interrupted, 0, 0, 0, f_savedA, f_savedB, f_savedC, upd a_states p 1, upd a_head 0 (a_readyLink p), ⟨pr_disp hN hp g (Or.inr gp) H1, qu_disp hN (by decide) hp8 eh (by decide) Q, mv_5 hp (Or.inr (Or.inr g)) (Or.inl rfl) H.2.2⟩, Or.inr ⟨p, hp, rfl⟩, fun post K => ?_, fun post K => ?_⟩
      · simp only [wpX_choose, wX_choose_20, wX_choose_40, m1, eh, zp, forall_eq, true_implies, false_implies, not_true_eq_false, not_false_eq_true, and_true, true_and, implies_true]
        exact xw_disp (k := 0) (by decide) hp8 eh K
      · unfold wpY_choose
        refine yw_find hN H1.1 (br_t m1 ?_)
        refine yw_head (k := 0) hN hB (by decide) Q ?_
        rw [eh]
        refine br_f zp (br_t m1 ?_)
        simp only [ba_v hp8, ba_c hp8, forall_eq, true_implies, false_implies, not_true_eq_false, not_false_eq_true, and_true, true_and, implies_true]
        exact K
  · subst e
    have hr8 : r < 8 := by omega
    have zr := ba_p hr8
    have zr' := ba_p' hr8
    by_cases z0 : a_priorities r = 0
    · refine ⟨nI r, f_interrupted, f_regA, f_regB, f_regC, f_savedA, f_savedB, f_savedC, a_states, a_head, H, Or.inr ⟨r, hr, rfl⟩, fun post K => ?_, fun post K => ?_⟩
      · simp only [wpX_choose, zr, ba_v hr8, ba_c hr8, z0, forall_eq, true_implies, false_implies, not_true_eq_false, not_false_eq_true, and_true, true_and, implies_true]
        exact K
      · unfold wpY_choose
        refine yw_find hN H1.1 (br_f zr ?_)
        simp only [ba_v hr8, ba_c hr8, z0, forall_eq, true_implies, false_implies, not_true_eq_false, not_false_eq_true, and_true, true_and, implies_true]
        exact K
    · rcases qu_hd (k := 0) hN (by decide) Q with ⟨eh, _⟩ | ⟨p, hp, eh, g3, gp⟩
      · refine ⟨nI r, f_interrupted, f_regA, f_regB, f_regC, f_savedA, f_savedB, f_savedC, a_states, a_head, H, Or.inr ⟨r, hr, rfl⟩, fun post K => ?_, fun post K => ?_⟩
        · simp only [wpX_choose, wX_choose_20, zr, zr', m1, eh, ba_v hr8, ba_c hr8, z0, forall_eq, true_implies, false_implies, not_true_eq_false, not_false_eq_true, and_true, true_and, implies_true]
          exact K
        · unfold wpY_choose
          refine yw_find hN H1.1 (br_f zr ?_)
          simp only [ba_v hr8, ba_c hr8, z0, forall_eq, true_implies, false_implies, not_true_eq_false, not_false_eq_true, and_true, true_and, implies_true]
          refine yw_head (k := 0) hN hB (by decide) Q ?_
          rw [eh]
          exact br_t m1 (br_f zr K)
      · have hp8 : p < 8 := by omega
        have zp := ba_p hp8
        have gr3 : a_states r ≠ 3 := by rw [g]; decide
        have npr : p ≠ r := fun e => gr3 (by rw [← e]; exact g3)
        have g4 : upd a_states r 2 p = 3 := by rw [pk_un npr]; exact g3
        refine ⟨nI p, nI r, 0, 0, 0, f_regA, f_regB, f_regC, upd (upd a_states r 2) p 1, upd a_head 0 (a_readyLink p), ⟨pr_intr hN hr8 z0 hp g3 gp H1, qu_disp hN (by decide) hp8 eh (by decide) (qu_set gr3 (by decide) Q), mv_5 hp (Or.inr (Or.inr g4)) (Or.inl rfl) (mv_5 hr (Or.inl g) (Or.inr (Or.inl rfl)) H.2.2)⟩, Or.inr ⟨p, hp, rfl⟩, fun post K => ?_, fun post K => ?_⟩
        · simp only [wpX_choose, wX_choose_20, wX_choose_40, wpX_interrupt, zr, zp, eh, ba_v hr8, ba_c hr8, z0, forall_eq, true_implies, false_implies, not_true_eq_false, not_false_eq_true, and_true, true_and, implies_true]
          exact xw_disp (k := 0) (by decide) hp8 eh K
        · unfold wpY_choose
          refine yw_find hN H1.1 (br_f zr ?_)
          simp only [ba_v hr8, ba_c hr8, z0, forall_eq, true_implies, false_implies, not_true_eq_false, not_false_eq_true, and_true, true_and, implies_true]
          refine yw_head (k := 0) hN hB (by decide) Q ?_
          rw [eh]
          refine br_f zp (br_f zr ?_)
          simp only [ba_v hr8, ba_c hr8, ba_v hp8, ba_c hp8, forall_eq, true_implies, false_implies, not_true_eq_false, not_false_eq_true, and_true, true_and, implies_true]
          exact K
end
end
section
/-! one instruction, fetched and carried out -/
/-- an instruction o x y and its coded form: function f, operand w -/
def cd_in (C L : Nat) (ad : Nat → Nat) (i : Nat) (o x y f w : Int32) : Prop :=
  (f = 9 ∧ w = o ∧ (o = 4 ∨ o = 5 ∨ o = 9 ∨ o = 12 ∨ o = 13 ∨ o = 14 ∨ o = 16 ∨ o = 17 ∨ o = 20))
  ∨ (f = o ∧ (o = 0 ∨ o = 3) ∧ w = x)
  ∨ (f = o ∧ (o = 1 ∨ o = 2) ∧ ∃ k, k < 8 ∧ x = nI k ∧ w = nI k)
  ∨ (f = o ∧ (o = 10 ∨ o = 15) ∧ ∃ k, k < C ∧ x = nI k ∧ w = nI k)
  ∨ (f = o ∧ (o = 6 ∨ o = 7) ∧ ∃ k, k < L ∧ x = nI k ∧ w = nI (ad k) - nI (ad (i + 1)))
  ∨ (f = 13 ∧ o = 19 ∧ ∃ k, k < L ∧ x = nI k ∧ w = nI (ad k) - nI (ad (i + 1)))
  ∨ (f = o ∧ o = 8 ∧ ∃ k m, k < L ∧ m < 2 ∧ x = nI k ∧ y = nI m ∧ w >>> ((1 : Int32) &&& 31) = nI (ad k) - nI (ad (i + 1)) ∧ w &&& 1 = nI m)
  ∨ (f = o ∧ o = 11 ∧ ∃ k h, k < C ∧ h < 8 ∧ x = nI k ∧ y = nI h ∧ w &&& 7 = nI k ∧ (w >>> ((3 : Int32) &&& 31)) &&& 7 = nI h)
  ∨ (f = 12 ∧ o = 18 ∧ ∃ k m, k < C ∧ m < L ∧ x = nI k ∧ y = nI m ∧ w &&& 7 = nI k ∧ w >>> ((3 : Int32) &&& 31) = nI (ad m) - nI (ad (i + 1)))
/-- a sealed program -/
def rl_cd (C L : Nat) (ad : Nat → Nat) (ops xs ys address bytes indexAt : Nat → Int32) : Prop :=
  1 ≤ L ∧ L ≤ 64 ∧ (∀ i, i ≤ L → address i = nI (ad i) ∧ ad i ≤ 256) ∧ (∀ i, i < L → indexAt (ad i) = nI i) ∧ (ops (L - 1) = 6 ∨ ops (L - 1) = 9)
  ∧ ∀ i, i < L → ∃ f w, cd_dc bytes 8 (ad i) 0 (ad (i + 1)) f w ∧ cd_in C L ad i (ops i) (xs i) (ys i) f w
theorem ba_511 {a : Nat} (h : a < 512) : nI a &&& 511 = nI a := by
  rw [pk_andN (by omega) 9 (by decide), Nat.mod_eq_of_lt (by omega)]
theorem ba_7 {k : Nat} (h : k < 8) : nI k &&& 7 = nI k := by
  rw [pk_andN (by omega) 3 (by decide), Nat.mod_eq_of_lt (by omega)]
section
variable {f_unused f_constant f_word f_target f_channel f_level f_prefix f_negate f_operate f_disableChannel f_disableTimer f_processCount f_channelCount f_length f_sealed f_timerHead f_running f_interrupted f_regA f_regB f_regC f_savedA f_savedB f_savedC f_operand f_clock f_faults : Int32} {a_ops a_xs a_ys a_sizes a_address a_bytes a_indexAt a_locals a_states a_priorities a_pointers a_branches a_deadlines a_held a_readyLink a_timerLink a_head a_tail a_writers a_readers a_counters : Nat → Int32}
theorem eta_X {post : SX → Prop} {u : SX} (K : post u) : (match u with | (f_unused, f_constant, f_word, f_target, f_channel, f_level, f_prefix, f_negate, f_operate, f_disableChannel, f_disableTimer, f_processCount, f_channelCount, f_length, f_sealed, f_timerHead, f_running, f_interrupted, f_regA, f_regB, f_regC, f_savedA, f_savedB, f_savedC, f_operand, f_clock, f_faults, a_ops, a_xs, a_ys, a_sizes, a_address, a_bytes, a_indexAt, a_locals, a_states, a_priorities, a_pointers, a_branches, a_deadlines, a_held, a_readyLink, a_timerLink, a_head, a_tail, a_writers, a_readers, a_counters) => post (f_unused, f_constant, f_word, f_target, f_channel, f_level, f_prefix, f_negate, f_operate, f_disableChannel, f_disableTimer, f_processCount, f_channelCount, f_length, f_sealed, f_timerHead, f_running, f_interrupted, f_regA, f_regB, f_regC, f_savedA, f_savedB, f_savedC, f_operand, f_clock, f_faults, a_ops, a_xs, a_ys, a_sizes, a_address, a_bytes, a_indexAt, a_locals, a_states, a_priorities, a_pointers, a_branches, a_deadlines, a_held, a_readyLink, a_timerLink, a_head, a_tail, a_writers, a_readers, a_counters)) := K
theorem xw_fetch {post : Int32 → SX → Prop} {r a a' : Nat} {f w o : Int32} (hr : r < 8) (hp : a_pointers r = nI a) (ha : a ≤ 256) (D : cd_dc a_bytes 8 a 0 a' f w)
    (hf : (f = 9 ∧ o = w) ∨ (f = 12 ∧ o = 18) ∨ (f = 13 ∧ o = 19) ∨ (¬ f = 9 ∧ ¬ f = 12 ∧ ¬ f = 13 ∧ o = f)) (K : post o (f_unused, f_constant, f_word, f_target, f_channel, f_level, f_prefix, f_negate, f_operate, f_disableChannel, f_disableTimer, f_processCount, f_channelCount, f_length, f_sealed, f_timerHead, nI r, f_interrupted, f_regA, f_regB, f_regC, f_savedA, f_savedB, f_savedC, w, f_clock, f_faults, a_ops, a_xs, a_ys, a_sizes, a_address, a_bytes, a_indexAt, a_locals, a_states, a_priorities, upd a_pointers r (nI a'), a_branches, a_deadlines, a_held, a_readyLink, a_timerLink, a_head, a_tail, a_writers, a_readers, a_counters)) : wpX_fetch post (f_unused, f_constant, f_word, f_target, f_channel, f_level, f_prefix, f_negate, f_operate, f_disableChannel, f_disableTimer, f_processCount, f_channelCount, f_length, f_sealed, f_timerHead, nI r, f_interrupted, f_regA, f_regB, f_regC, f_savedA, f_savedB, f_savedC, f_operand, f_clock, f_faults, a_ops, a_xs, a_ys, a_sizes, a_address, a_bytes, a_indexAt, a_locals, a_states, a_priorities, a_pointers, a_branches, a_deadlines, a_held, a_readyLink, a_timerLink, a_head, a_tail, a_writers, a_readers, a_counters) := by
  have fin : wX_fetch_110 post (nI a') f f_unused f_constant f_word f_target f_channel f_level f_prefix f_negate f_operate f_disableChannel f_disableTimer f_processCount f_channelCount f_length f_sealed f_timerHead (nI r) f_interrupted f_regA f_regB f_regC f_savedA f_savedB f_savedC w f_clock f_faults a_ops a_xs a_ys a_sizes a_address a_bytes a_indexAt a_locals a_states a_priorities a_pointers a_branches a_deadlines a_held a_readyLink a_timerLink a_head a_tail a_writers a_readers a_counters := by
    rcases hf with ⟨e1, e2⟩ | ⟨e1, e2⟩ | ⟨e1, e2⟩ | ⟨n1, n2, n3, e2⟩
    · subst e1 e2
      simp +decide only [wX_fetch_110, ba_v hr, ba_c hr, forall_eq, true_implies, false_implies, not_true_eq_false, not_false_eq_true, and_true, true_and, implies_true]
      exact K
    · subst e1 e2
      simp +decide only [wX_fetch_110, ba_v hr, ba_c hr, forall_eq, true_implies, false_implies, not_true_eq_false, not_false_eq_true, and_true, true_and, implies_true]
      exact K
    · subst e1 e2
      simp +decide only [wX_fetch_110, ba_v hr, ba_c hr, forall_eq, true_implies, false_implies, not_true_eq_false, not_false_eq_true, and_true, true_and, implies_true]
      exact K
    · subst e2
      simp only [wX_fetch_110, ba_v hr, ba_c hr, n1, n2, n3, forall_eq, true_implies, false_implies, not_true_eq_false, not_false_eq_true, and_true, true_and, implies_true]
      exact K
  have loop : ∀ n a x3 x2 oo, x3 + n = 8 → a + n ≤ 264 → (x2 = 4 ∨ x2 = 5) → cd_dc a_bytes n a oo a' f w → wX_fetch_19 post f_unused f_constant f_word f_target f_channel f_level f_prefix f_negate f_operate f_disableChannel f_disableTimer f_processCount f_channelCount f_length f_sealed f_timerHead (nI r) f_interrupted f_regA f_regB f_regC f_savedA f_savedB f_savedC f_clock f_faults a_ops a_xs a_ys a_sizes a_address a_bytes a_indexAt a_locals a_states a_priorities a_pointers a_branches a_deadlines a_held a_readyLink a_timerLink a_head a_tail a_writers a_readers a_counters (n + 1) (nI a) x2 (nI x3) oo := by
    intro n
    induction n with
    | zero => intro a x3 x2 oo _ _ _ D; exact D.elim
    | succ n ih =>
      intro a x3 x2 oo h3 ha hx D
      have h8 : ¬ (8 : Int32) ≤ nI x3 := ba_8 (by omega)
      unfold cd_dc at D
      obtain ⟨D4, D5, D6⟩ := D
      have body : wX_fetch_35 post (wX_fetch_19 post f_unused f_constant f_word f_target f_channel f_level f_prefix f_negate f_operate f_disableChannel f_disableTimer f_processCount f_channelCount f_length f_sealed f_timerHead (nI r) f_interrupted f_regA f_regB f_regC f_savedA f_savedB f_savedC f_clock f_faults a_ops a_xs a_ys a_sizes a_address a_bytes a_indexAt a_locals a_states a_priorities a_pointers a_branches a_deadlines a_held a_readyLink a_timerLink a_head a_tail a_writers a_readers a_counters (n + 1)) (nI a) (nI x3) f_unused f_constant f_word f_target f_channel f_level f_prefix f_negate f_operate f_disableChannel f_disableTimer f_processCount f_channelCount f_length f_sealed f_timerHead (nI r) f_interrupted f_regA f_regB f_regC f_savedA f_savedB f_savedC oo f_clock f_faults a_ops a_xs a_ys a_sizes a_address a_bytes a_indexAt a_locals a_states a_priorities a_pointers a_branches a_deadlines a_held a_readyLink a_timerLink a_head a_tail a_writers a_readers a_counters := by
        simp only [wX_fetch_35, ba_511 (show a < 512 by omega), vp_in_nI (show a < 512 by omega) (show 512 < 2 ^ 31 by decide), nI_clamp (show a < 2 ^ 31 by omega), nI_1, forall_eq, true_implies, false_implies, not_true_eq_false, not_false_eq_true, and_true, true_and, implies_true]
        by_cases z4 : ((a_bytes a >>> ((4 : Int32) &&& 31)) &&& 15) = 4
        · have h := ih (a + 1) (x3 + 1) 4 _ (by omega) (by omega) (Or.inl rfl) (D4 z4)
          refine br_t z4 ?_
          simp +decide only [wX_fetch_87, z4, nI_1, forall_eq, true_implies, false_implies, not_true_eq_false, not_false_eq_true, and_true, true_and, implies_true]
          exact h
        · refine br_f z4 ?_
          by_cases z5 : ((a_bytes a >>> ((4 : Int32) &&& 31)) &&& 15) = 5
          · have h := ih (a + 1) (x3 + 1) 5 _ (by omega) (by omega) (Or.inr rfl) (D5 z5)
            simp +decide only [wX_fetch_87, z5, nI_1, forall_eq, true_implies, false_implies, not_true_eq_false, not_false_eq_true, and_true, true_and, implies_true]
            exact h
          · obtain ⟨e1, e2, e3⟩ := D6 z4 z5
            subst e1 e2 e3
            simp only [wX_fetch_87, z5, nI_1, forall_eq, true_implies, false_implies, not_true_eq_false, not_false_eq_true, and_true, true_and, implies_true]
            rw [wX_fetch_19]
            exact br_c (fun _ => fin) (fun _ => br_f z4 (br_f z5 fin))
      rw [wX_fetch_19]
      refine br_f h8 ?_
      rcases hx with e | e
      · exact br_t e body
      · subst e
        exact br_f (by decide) (br_t rfl body)
  simp only [wpX_fetch, ba_v hr, ba_c hr, hp, forall_eq, true_implies, false_implies, not_true_eq_false, not_false_eq_true, and_true, true_and, implies_true]
  exact ⟨9, loop 8 a 0 4 0 (by omega) (by omega) (Or.inl rfl) D⟩
end
section
variable {g_length g_procs g_chans g_clock g_faults g_sealed : Int32} {g_nextTicket : Int64} {b_ops b_xs b_ys b_st b_prio b_pos b_ra b_rb b_rc b_words b_chan b_held b_named b_wake b_open b_guard b_timer b_chosen b_sent b_received b_sentFold b_receivedFold : Nat → Int32} {b_ticket : Nat → Int64}
theorem eta_Y {post : SY → Prop} {v : SY} (K : post v) : (match v with | (g_length, g_procs, g_chans, g_clock, g_faults, g_sealed, g_nextTicket, b_ops, b_xs, b_ys, b_st, b_prio, b_pos, b_ra, b_rb, b_rc, b_words, b_chan, b_held, b_named, b_wake, b_open, b_guard, b_timer, b_chosen, b_ticket, b_sent, b_received, b_sentFold, b_receivedFold) => post (g_length, g_procs, g_chans, g_clock, g_faults, g_sealed, g_nextTicket, b_ops, b_xs, b_ys, b_st, b_prio, b_pos, b_ra, b_rb, b_rc, b_words, b_chan, b_held, b_named, b_wake, b_open, b_guard, b_timer, b_chosen, b_ticket, b_sent, b_received, b_sentFold, b_receivedFold)) := K
theorem yw_exP {post : SY → Prop} {r i : Nat} {o : Int32} {v : SY} (hr : r < 8) (hp : b_pos r = nI i) (hi : i < 64) (eo : b_ops i = o) (h10 : ¬ o = 10) (h11 : ¬ o = 11) (h14 : o < 14) (KK : ∀ post : SY → Prop, post v → wpY_plain post (g_length, g_procs, g_chans, g_clock, g_faults, g_sealed, g_nextTicket, b_ops, b_xs, b_ys, b_st, b_prio, upd b_pos r (nI (i + 1)), b_ra, b_rb, b_rc, b_words, b_chan, b_held, b_named, b_wake, b_open, b_guard, b_timer, b_chosen, b_ticket, b_sent, b_received, b_sentFold, b_receivedFold) (nI r) o (b_xs i) (b_ys i)) (K : post v) : wpY_execute post (g_length, g_procs, g_chans, g_clock, g_faults, g_sealed, g_nextTicket, b_ops, b_xs, b_ys, b_st, b_prio, b_pos, b_ra, b_rb, b_rc, b_words, b_chan, b_held, b_named, b_wake, b_open, b_guard, b_timer, b_chosen, b_ticket, b_sent, b_received, b_sentFold, b_receivedFold) (nI r) := by
  simp only [wpY_execute, ba_v hr, ba_c hr, hp, ba_v64 hi, ba_c64 hi, nI_1, eo, h10, h11, h14, forall_eq, true_implies, false_implies, not_true_eq_false, not_false_eq_true, and_true, true_and, implies_true]
  exact KK _ K
theorem yw_exA {post : SY → Prop} {r i : Nat} {o : Int32} {v : SY} (hr : r < 8) (hp : b_pos r = nI i) (hi : i < 64) (eo : b_ops i = o) (h10 : ¬ o = 10) (h11 : ¬ o = 11) (h14 : ¬ o < 14) (KK : ∀ post : SY → Prop, post v → wpY_alternation post (g_length, g_procs, g_chans, g_clock, g_faults, g_sealed, g_nextTicket, b_ops, b_xs, b_ys, b_st, b_prio, upd b_pos r (nI (i + 1)), b_ra, b_rb, b_rc, b_words, b_chan, b_held, b_named, b_wake, b_open, b_guard, b_timer, b_chosen, b_ticket, b_sent, b_received, b_sentFold, b_receivedFold) (nI r) o (b_xs i) (b_ys i)) (K : post v) : wpY_execute post (g_length, g_procs, g_chans, g_clock, g_faults, g_sealed, g_nextTicket, b_ops, b_xs, b_ys, b_st, b_prio, b_pos, b_ra, b_rb, b_rc, b_words, b_chan, b_held, b_named, b_wake, b_open, b_guard, b_timer, b_chosen, b_ticket, b_sent, b_received, b_sentFold, b_receivedFold) (nI r) := by
  simp only [wpY_execute, ba_v hr, ba_c hr, hp, ba_v64 hi, ba_c64 hi, nI_1, eo, h10, h11, h14, forall_eq, true_implies, false_implies, not_true_eq_false, not_false_eq_true, and_true, true_and, implies_true]
  exact KK _ K
theorem yw_exO {post : SY → Prop} {r i : Nat} {v : SY} (hr : r < 8) (hp : b_pos r = nI i) (hi : i < 64) (eo : b_ops i = 10) (KK : ∀ post : SY → Prop, post v → wpY_out post (g_length, g_procs, g_chans, g_clock, g_faults, g_sealed, g_nextTicket, b_ops, b_xs, b_ys, b_st, b_prio, upd b_pos r (nI (i + 1)), b_ra, b_rb, b_rc, b_words, b_chan, b_held, b_named, b_wake, b_open, b_guard, b_timer, b_chosen, b_ticket, b_sent, b_received, b_sentFold, b_receivedFold) (nI r) (b_xs i)) (K : post v) : wpY_execute post (g_length, g_procs, g_chans, g_clock, g_faults, g_sealed, g_nextTicket, b_ops, b_xs, b_ys, b_st, b_prio, b_pos, b_ra, b_rb, b_rc, b_words, b_chan, b_held, b_named, b_wake, b_open, b_guard, b_timer, b_chosen, b_ticket, b_sent, b_received, b_sentFold, b_receivedFold) (nI r) := by
  simp only [wpY_execute, ba_v hr, ba_c hr, hp, ba_v64 hi, ba_c64 hi, nI_1, eo, forall_eq, true_implies, false_implies, not_true_eq_false, not_false_eq_true, and_true, true_and, implies_true]
  exact KK _ K
theorem yw_exI {post : SY → Prop} {r i : Nat} {v : SY} (hr : r < 8) (hp : b_pos r = nI i) (hi : i < 64) (eo : b_ops i = 11) (KK : ∀ post : SY → Prop, post v → wpY_in post (g_length, g_procs, g_chans, g_clock, g_faults, g_sealed, g_nextTicket, b_ops, b_xs, b_ys, b_st, b_prio, upd b_pos r (nI (i + 1)), b_ra, b_rb, b_rc, b_words, b_chan, b_held, b_named, b_wake, b_open, b_guard, b_timer, b_chosen, b_ticket, b_sent, b_received, b_sentFold, b_receivedFold) (nI r) (b_xs i) (b_ys i)) (K : post v) : wpY_execute post (g_length, g_procs, g_chans, g_clock, g_faults, g_sealed, g_nextTicket, b_ops, b_xs, b_ys, b_st, b_prio, b_pos, b_ra, b_rb, b_rc, b_words, b_chan, b_held, b_named, b_wake, b_open, b_guard, b_timer, b_chosen, b_ticket, b_sent, b_received, b_sentFold, b_receivedFold) (nI r) := by
  simp +decide only [wpY_execute, ba_v hr, ba_c hr, hp, ba_v64 hi, ba_c64 hi, nI_1, eo, forall_eq, true_implies, false_implies, not_true_eq_false, not_false_eq_true, and_true, true_and, implies_true]
  exact KK _ K
end
section
variable {N C L B c r : Nat} {ad : Nat → Nat}
variable {f_unused f_constant f_word f_target f_channel f_level f_prefix f_negate f_operate f_disableChannel f_disableTimer f_processCount f_channelCount f_length f_sealed f_timerHead f_running f_interrupted f_regA f_regB f_regC f_savedA f_savedB f_savedC f_operand f_clock f_faults : Int32} {a_ops a_xs a_ys a_sizes a_address a_bytes a_indexAt a_locals a_states a_priorities a_pointers a_branches a_deadlines a_held a_readyLink a_timerLink a_head a_tail a_writers a_readers a_counters : Nat → Int32}
variable {g_length g_procs g_chans g_clock g_faults g_sealed : Int32} {g_nextTicket : Int64} {b_ops b_xs b_ys b_st b_prio b_pos b_ra b_rb b_rc b_words b_chan b_held b_named b_wake b_open b_guard b_timer b_chosen b_sent b_received b_sentFold b_receivedFold : Nat → Int32} {b_ticket : Nat → Int64}
theorem rl_mono {B' : Nat} {u : SX} {v : SY} (h : B ≤ B') (I : rl_R N C L B c ad f_sealed a_ops a_xs a_ys a_address a_bytes a_indexAt u v) : rl_R N C L B' c ad f_sealed a_ops a_xs a_ys a_address a_bytes a_indexAt u v := rl_out (P := fun u v => rl_R N C L B' c ad f_sealed a_ops a_xs a_ys a_address a_bytes a_indexAt u v) (by
  intros
  rename_i H
  exact rl_in (dy_mono h H)) I
theorem jo_mono {B' : Nat} {WX : (SX → Prop) → Prop} {WY : (SY → Prop) → Prop} (h : B ≤ B') (H : jo_R N C L B c ad f_sealed a_ops a_xs a_ys a_address a_bytes a_indexAt WX WY) : jo_R N C L B' c ad f_sealed a_ops a_xs a_ys a_address a_bytes a_indexAt WX WY := by
  obtain ⟨u, v, R, hX, hY⟩ := H
  exact ⟨u, v, rl_mono h R, hX, hY⟩
theorem jw_exec (hN : N ≤ 8) (hC : C ≤ 8) (hc : c < 256) (hr : r < 8) (CD : rl_cd C L ad a_ops a_xs a_ys a_address a_bytes a_indexAt) (H : rl_dy N C L B c ad (nI r) f_interrupted f_regA f_regB f_regC f_savedA f_savedB f_savedC f_timerHead a_states a_priorities a_pointers a_branches a_deadlines a_held a_readyLink a_timerLink a_head a_tail a_writers a_readers a_counters g_nextTicket b_pos b_ra b_rb b_rc b_chan b_held b_named b_wake b_open b_guard b_timer b_chosen b_ticket b_sent b_received b_sentFold b_receivedFold) : ∃ (o w : Int32) (ptr : Nat → Int32) (u : SX) (v : SY), rl_R N C L (B + 1) c ad f_sealed a_ops a_xs a_ys a_address a_bytes a_indexAt u v ∧ (∀ G : Int32 → SX → Prop, G o (f_unused, f_constant, f_word, f_target, f_channel, f_level, f_prefix, f_negate, f_operate, f_disableChannel, f_disableTimer, nI N, nI C, nI L, f_sealed, f_timerHead, nI r, f_interrupted, f_regA, f_regB, f_regC, f_savedA, f_savedB, f_savedC, w, nI c, f_faults, a_ops, a_xs, a_ys, a_sizes, a_address, a_bytes, a_indexAt, a_locals, a_states, a_priorities, ptr, a_branches, a_deadlines, a_held, a_readyLink, a_timerLink, a_head, a_tail, a_writers, a_readers, a_counters) → wpX_fetch G (f_unused, f_constant, f_word, f_target, f_channel, f_level, f_prefix, f_negate, f_operate, f_disableChannel, f_disableTimer, nI N, nI C, nI L, f_sealed, f_timerHead, nI r, f_interrupted, f_regA, f_regB, f_regC, f_savedA, f_savedB, f_savedC, f_operand, nI c, f_faults, a_ops, a_xs, a_ys, a_sizes, a_address, a_bytes, a_indexAt, a_locals, a_states, a_priorities, a_pointers, a_branches, a_deadlines, a_held, a_readyLink, a_timerLink, a_head, a_tail, a_writers, a_readers, a_counters)) ∧ (∀ post : SX → Prop, post u → wpX_execute post (f_unused, f_constant, f_word, f_target, f_channel, f_level, f_prefix, f_negate, f_operate, f_disableChannel, f_disableTimer, nI N, nI C, nI L, f_sealed, f_timerHead, nI r, f_interrupted, f_regA, f_regB, f_regC, f_savedA, f_savedB, f_savedC, w, nI c, f_faults, a_ops, a_xs, a_ys, a_sizes, a_address, a_bytes, a_indexAt, a_locals, a_states, a_priorities, ptr, a_branches, a_deadlines, a_held, a_readyLink, a_timerLink, a_head, a_tail, a_writers, a_readers, a_counters) o) ∧ (∀ post : SY → Prop, post v → wpY_execute post (nI L, nI N, nI C, nI c, f_faults, f_sealed, g_nextTicket, a_ops, a_xs, a_ys, a_states, a_priorities, b_pos, b_ra, b_rb, b_rc, a_locals, b_chan, b_held, b_named, b_wake, b_open, b_guard, b_timer, b_chosen, b_ticket, b_sent, b_received, b_sentFold, b_receivedFold) (nI r)) := by
  obtain ⟨hL1, hL, cad, cix, clast, cin⟩ := CD
  have had : ∀ i, i < L → ad i < 2 ^ 31 := fun i hi => by have := (cad i (by omega)).2; omega
  obtain ⟨hrN, g, _, _⟩ := pr_at hN hr H.1
  obtain ⟨i, hi, ep, et⟩ := H.2.2.2.2.1 r hrN (by rw [g]; decide)
  obtain ⟨f, w, dc, ci⟩ := cin i hi
  have hi64 : i < 64 := by omega
  have hai : ad i ≤ 256 := (cad i (by omega)).2
  have nl : a_ops i ≠ 6 → a_ops i ≠ 9 → i + 1 < L := fun n6 n9 => by
    by_cases e : i + 1 = L
    · have e2 : L - 1 = i := by omega
      rw [e2] at clast
      rcases clast with z | z
      · exact absurd z n6
      · exact absurd z n9
    · omega
  have D1 : i + 1 < L → rl_dy N C L B c ad (nI r) f_interrupted f_regA f_regB f_regC f_savedA f_savedB f_savedC f_timerHead a_states a_priorities (upd a_pointers r (nI (ad (i + 1)))) a_branches a_deadlines a_held a_readyLink a_timerLink a_head a_tail a_writers a_readers a_counters g_nextTicket (upd b_pos r (nI (i + 1))) b_ra b_rb b_rc b_chan b_held b_named b_wake b_open b_guard b_timer b_chosen b_ticket b_sent b_received b_sentFold b_receivedFold := fun h => ⟨H.1, H.2.1, H.2.2.1, H.2.2.2.1, po_set h H.2.2.2.2.1, H.2.2.2.2.2⟩
  have et1 : upd a_pointers r (nI (ad (i + 1))) r = nI (ad (i + 1)) := pk_us
  have outP : ∀ o : Int32, a_ops i = o → ((f = 9 ∧ o = w) ∨ (f = 12 ∧ o = 18) ∨ (f = 13 ∧ o = 19) ∨ (¬ f = 9 ∧ ¬ f = 12 ∧ ¬ f = 13 ∧ o = f)) → ¬ o = 10 → ¬ o = 11 → o < 14 → jo_R N C L (B + 1) c ad f_sealed a_ops a_xs a_ys a_address a_bytes a_indexAt (fun post => wpX_execute post (f_unused, f_constant, f_word, f_target, f_channel, f_level, f_prefix, f_negate, f_operate, f_disableChannel, f_disableTimer, nI N, nI C, nI L, f_sealed, f_timerHead, nI r, f_interrupted, f_regA, f_regB, f_regC, f_savedA, f_savedB, f_savedC, w, nI c, f_faults, a_ops, a_xs, a_ys, a_sizes, a_address, a_bytes, a_indexAt, a_locals, a_states, a_priorities, upd a_pointers r (nI (ad (i + 1))), a_branches, a_deadlines, a_held, a_readyLink, a_timerLink, a_head, a_tail, a_writers, a_readers, a_counters) o) (fun post => wpY_plain post (nI L, nI N, nI C, nI c, f_faults, f_sealed, g_nextTicket, a_ops, a_xs, a_ys, a_states, a_priorities, upd b_pos r (nI (i + 1)), b_ra, b_rb, b_rc, a_locals, b_chan, b_held, b_named, b_wake, b_open, b_guard, b_timer, b_chosen, b_ticket, b_sent, b_received, b_sentFold, b_receivedFold) (nI r) o (a_xs i) (a_ys i)) → ∃ (o w : Int32) (ptr : Nat → Int32) (u : SX) (v : SY), rl_R N C L (B + 1) c ad f_sealed a_ops a_xs a_ys a_address a_bytes a_indexAt u v ∧ (∀ G : Int32 → SX → Prop, G o (f_unused, f_constant, f_word, f_target, f_channel, f_level, f_prefix, f_negate, f_operate, f_disableChannel, f_disableTimer, nI N, nI C, nI L, f_sealed, f_timerHead, nI r, f_interrupted, f_regA, f_regB, f_regC, f_savedA, f_savedB, f_savedC, w, nI c, f_faults, a_ops, a_xs, a_ys, a_sizes, a_address, a_bytes, a_indexAt, a_locals, a_states, a_priorities, ptr, a_branches, a_deadlines, a_held, a_readyLink, a_timerLink, a_head, a_tail, a_writers, a_readers, a_counters) → wpX_fetch G (f_unused, f_constant, f_word, f_target, f_channel, f_level, f_prefix, f_negate, f_operate, f_disableChannel, f_disableTimer, nI N, nI C, nI L, f_sealed, f_timerHead, nI r, f_interrupted, f_regA, f_regB, f_regC, f_savedA, f_savedB, f_savedC, f_operand, nI c, f_faults, a_ops, a_xs, a_ys, a_sizes, a_address, a_bytes, a_indexAt, a_locals, a_states, a_priorities, a_pointers, a_branches, a_deadlines, a_held, a_readyLink, a_timerLink, a_head, a_tail, a_writers, a_readers, a_counters)) ∧ (∀ post : SX → Prop, post u → wpX_execute post (f_unused, f_constant, f_word, f_target, f_channel, f_level, f_prefix, f_negate, f_operate, f_disableChannel, f_disableTimer, nI N, nI C, nI L, f_sealed, f_timerHead, nI r, f_interrupted, f_regA, f_regB, f_regC, f_savedA, f_savedB, f_savedC, w, nI c, f_faults, a_ops, a_xs, a_ys, a_sizes, a_address, a_bytes, a_indexAt, a_locals, a_states, a_priorities, ptr, a_branches, a_deadlines, a_held, a_readyLink, a_timerLink, a_head, a_tail, a_writers, a_readers, a_counters) o) ∧ (∀ post : SY → Prop, post v → wpY_execute post (nI L, nI N, nI C, nI c, f_faults, f_sealed, g_nextTicket, a_ops, a_xs, a_ys, a_states, a_priorities, b_pos, b_ra, b_rb, b_rc, a_locals, b_chan, b_held, b_named, b_wake, b_open, b_guard, b_timer, b_chosen, b_ticket, b_sent, b_received, b_sentFold, b_receivedFold) (nI r)) := fun o eo hf h10 h11 h14 J => by
    obtain ⟨u, v, R, hX, hY⟩ := J
    exact ⟨o, w, upd a_pointers r (nI (ad (i + 1))), u, v, R, fun G K => xw_fetch hr et hai dc hf K, hX, fun post K => yw_exP hr ep hi64 eo h10 h11 h14 hY K⟩
  have outA : ∀ o : Int32, a_ops i = o → ((f = 9 ∧ o = w) ∨ (f = 12 ∧ o = 18) ∨ (f = 13 ∧ o = 19) ∨ (¬ f = 9 ∧ ¬ f = 12 ∧ ¬ f = 13 ∧ o = f)) → ¬ o = 10 → ¬ o = 11 → ¬ o < 14 → jo_R N C L (B + 1) c ad f_sealed a_ops a_xs a_ys a_address a_bytes a_indexAt (fun post => wpX_execute post (f_unused, f_constant, f_word, f_target, f_channel, f_level, f_prefix, f_negate, f_operate, f_disableChannel, f_disableTimer, nI N, nI C, nI L, f_sealed, f_timerHead, nI r, f_interrupted, f_regA, f_regB, f_regC, f_savedA, f_savedB, f_savedC, w, nI c, f_faults, a_ops, a_xs, a_ys, a_sizes, a_address, a_bytes, a_indexAt, a_locals, a_states, a_priorities, upd a_pointers r (nI (ad (i + 1))), a_branches, a_deadlines, a_held, a_readyLink, a_timerLink, a_head, a_tail, a_writers, a_readers, a_counters) o) (fun post => wpY_alternation post (nI L, nI N, nI C, nI c, f_faults, f_sealed, g_nextTicket, a_ops, a_xs, a_ys, a_states, a_priorities, upd b_pos r (nI (i + 1)), b_ra, b_rb, b_rc, a_locals, b_chan, b_held, b_named, b_wake, b_open, b_guard, b_timer, b_chosen, b_ticket, b_sent, b_received, b_sentFold, b_receivedFold) (nI r) o (a_xs i) (a_ys i)) → ∃ (o w : Int32) (ptr : Nat → Int32) (u : SX) (v : SY), rl_R N C L (B + 1) c ad f_sealed a_ops a_xs a_ys a_address a_bytes a_indexAt u v ∧ (∀ G : Int32 → SX → Prop, G o (f_unused, f_constant, f_word, f_target, f_channel, f_level, f_prefix, f_negate, f_operate, f_disableChannel, f_disableTimer, nI N, nI C, nI L, f_sealed, f_timerHead, nI r, f_interrupted, f_regA, f_regB, f_regC, f_savedA, f_savedB, f_savedC, w, nI c, f_faults, a_ops, a_xs, a_ys, a_sizes, a_address, a_bytes, a_indexAt, a_locals, a_states, a_priorities, ptr, a_branches, a_deadlines, a_held, a_readyLink, a_timerLink, a_head, a_tail, a_writers, a_readers, a_counters) → wpX_fetch G (f_unused, f_constant, f_word, f_target, f_channel, f_level, f_prefix, f_negate, f_operate, f_disableChannel, f_disableTimer, nI N, nI C, nI L, f_sealed, f_timerHead, nI r, f_interrupted, f_regA, f_regB, f_regC, f_savedA, f_savedB, f_savedC, f_operand, nI c, f_faults, a_ops, a_xs, a_ys, a_sizes, a_address, a_bytes, a_indexAt, a_locals, a_states, a_priorities, a_pointers, a_branches, a_deadlines, a_held, a_readyLink, a_timerLink, a_head, a_tail, a_writers, a_readers, a_counters)) ∧ (∀ post : SX → Prop, post u → wpX_execute post (f_unused, f_constant, f_word, f_target, f_channel, f_level, f_prefix, f_negate, f_operate, f_disableChannel, f_disableTimer, nI N, nI C, nI L, f_sealed, f_timerHead, nI r, f_interrupted, f_regA, f_regB, f_regC, f_savedA, f_savedB, f_savedC, w, nI c, f_faults, a_ops, a_xs, a_ys, a_sizes, a_address, a_bytes, a_indexAt, a_locals, a_states, a_priorities, ptr, a_branches, a_deadlines, a_held, a_readyLink, a_timerLink, a_head, a_tail, a_writers, a_readers, a_counters) o) ∧ (∀ post : SY → Prop, post v → wpY_execute post (nI L, nI N, nI C, nI c, f_faults, f_sealed, g_nextTicket, a_ops, a_xs, a_ys, a_states, a_priorities, b_pos, b_ra, b_rb, b_rc, a_locals, b_chan, b_held, b_named, b_wake, b_open, b_guard, b_timer, b_chosen, b_ticket, b_sent, b_received, b_sentFold, b_receivedFold) (nI r)) := fun o eo hf h10 h11 h14 J => by
    obtain ⟨u, v, R, hX, hY⟩ := J
    exact ⟨o, w, upd a_pointers r (nI (ad (i + 1))), u, v, R, fun G K => xw_fetch hr et hai dc hf K, hX, fun post K => yw_exA hr ep hi64 eo h10 h11 h14 hY K⟩
  have le : B ≤ B + 1 := Nat.le_succ B
  rcases ci with ⟨e1, e2, e3⟩ | ⟨e1, e2, e3⟩ | ⟨e1, e2, k, hk, ex, ew⟩ | ⟨e1, e2, k, hk, ex, ew⟩ | ⟨e1, e2, k, hk, ex, ew⟩ | ⟨e1, e2, k, hk, ex, ew⟩ | ⟨e1, e2, k, m, hk, hm, ex, ey, ew, ew2⟩ | ⟨e1, e2, k, h, hk, hh, ex, ey, ew, ew2⟩ | ⟨e1, e2, k, m, hk, hm, ex, ey, ew, ew2⟩
  · rcases e3 with e | e | e | e | e | e | e | e | e
    · exact outP 4 e (Or.inl ⟨e1, by rw [e2, e]⟩) (by decide) (by decide) (by decide) (jo_mono le (op_add hN hr (D1 (nl (by rw [e]; decide) (by rw [e]; decide)))))
    · exact outP 5 e (Or.inl ⟨e1, by rw [e2, e]⟩) (by decide) (by decide) (by decide) (jo_mono le (op_sub hN hr (D1 (nl (by rw [e]; decide) (by rw [e]; decide)))))
    · exact outP 9 e (Or.inl ⟨e1, by rw [e2, e]⟩) (by decide) (by decide) (by decide) (jo_mono le (op_end hN hC hr H))
    · exact outP 12 e (Or.inl ⟨e1, by rw [e2, e]⟩) (by decide) (by decide) (by decide) (jo_mono le (op_time hN hr (D1 (nl (by rw [e]; decide) (by rw [e]; decide)))))
    · exact outP 13 e (Or.inl ⟨e1, by rw [e2, e]⟩) (by decide) (by decide) (by decide) (jo_mono le (op_delay hN hC hc hr had (D1 (nl (by rw [e]; decide) (by rw [e]; decide)))))
    · exact outA 14 e (Or.inl ⟨e1, by rw [e2, e]⟩) (by decide) (by decide) (by decide) (jo_mono le (op_alt hN hC hr had (D1 (nl (by rw [e]; decide) (by rw [e]; decide)))))
    · exact outA 16 e (Or.inl ⟨e1, by rw [e2, e]⟩) (by decide) (by decide) (by decide) (jo_mono le (op_enbt hN hC hr had (D1 (nl (by rw [e]; decide) (by rw [e]; decide)))))
    · exact outA 17 e (Or.inl ⟨e1, by rw [e2, e]⟩) (by decide) (by decide) (by decide) (jo_mono le (op_altwt hN hC hc hr had (D1 (nl (by rw [e]; decide) (by rw [e]; decide)))))
    · exact outA 20 e (Or.inl ⟨e1, by rw [e2, e]⟩) (by decide) (by decide) (by decide) (jo_mono le (op_altend hN hC hL hr had (D1 (nl (by rw [e]; decide) (by rw [e]; decide)))))
  · rcases e2 with e | e
    · exact outP 0 e (Or.inr (Or.inr (Or.inr (by rw [e1, e]; decide)))) (by decide) (by decide) (by decide) (jo_mono le (op_ldc hN hr (D1 (nl (by rw [e]; decide) (by rw [e]; decide))) e3))
    · exact outP 3 e (Or.inr (Or.inr (Or.inr (by rw [e1, e]; decide)))) (by decide) (by decide) (by decide) (jo_mono le (op_adc hN hr (D1 (nl (by rw [e]; decide) (by rw [e]; decide))) e3))
  · have ew2 : w &&& 7 = nI k := by rw [ew]; exact ba_7 hk
    rcases e2 with e | e
    · exact outP 1 e (Or.inr (Or.inr (Or.inr (by rw [e1, e]; decide)))) (by decide) (by decide) (by decide) (jo_mono le (op_ldl hN hr (D1 (nl (by rw [e]; decide) (by rw [e]; decide))) hk ew2 ex))
    · exact outP 2 e (Or.inr (Or.inr (Or.inr (by rw [e1, e]; decide)))) (by decide) (by decide) (by decide) (jo_mono le (op_stl hN hr (D1 (nl (by rw [e]; decide) (by rw [e]; decide))) hk ew2 ex))
  · have ew2 : w &&& 7 = nI k := by rw [ew]; exact ba_7 (by omega)
    rcases e2 with e | e
    · obtain ⟨u, v, R, hX, hY⟩ := op_out hN hC hr had (D1 (nl (by rw [e]; decide) (by rw [e]; decide))) hk ew2 ex
      exact ⟨10, w, _, u, v, R, fun G K => xw_fetch hr et hai dc (Or.inr (Or.inr (Or.inr (by rw [e1, e]; decide)))) K, hX, fun post K => yw_exO hr ep hi64 e hY K⟩
    · exact outA 15 e (Or.inr (Or.inr (Or.inr (by rw [e1, e]; decide)))) (by decide) (by decide) (by decide) (jo_mono le (op_enbc hN hC hr had (D1 (nl (by rw [e]; decide) (by rw [e]; decide))) hk ew2 ex))
  · rcases e2 with e | e
    · exact outP 6 e (Or.inr (Or.inr (Or.inr (by rw [e1, e]; decide)))) (by decide) (by decide) (by decide) (op_j hN hC hr H hk ew ex)
    · exact outP 7 e (Or.inr (Or.inr (Or.inr (by rw [e1, e]; decide)))) (by decide) (by decide) (by decide) (jo_mono le (op_cj hN hr (D1 (nl (by rw [e]; decide) (by rw [e]; decide))) hk et1 ew ex))
  · exact outA 19 e2 (Or.inr (Or.inr (Or.inl ⟨e1, rfl⟩))) (by decide) (by decide) (by decide) (jo_mono le (op_dist hN hC hL hc hr had (D1 (nl (by rw [e2]; decide) (by rw [e2]; decide))) hk et1 ew ex))
  · exact outP 8 e2 (Or.inr (Or.inr (Or.inr (by rw [e1, e2]; decide)))) (by decide) (by decide) (by decide) (op_start hN hC hr (D1 (nl (by rw [e2]; decide) (by rw [e2]; decide))) hk hm et1 ew ew2 ex ey)
  · obtain ⟨u, v, R, hX, hY⟩ := op_in hN hC hr had (D1 (nl (by rw [e2]; decide) (by rw [e2]; decide))) hk hh ew ew2 ex ey
    exact ⟨11, w, _, u, v, R, fun G K => xw_fetch hr et hai dc (Or.inr (Or.inr (Or.inr (by rw [e1, e2]; decide)))) K, hX, fun post K => yw_exI hr ep hi64 e2 hY K⟩
  · exact outA 18 e2 (Or.inr (Or.inl ⟨e1, rfl⟩)) (by decide) (by decide) (by decide) (jo_mono le (op_disc hN hC hL hr had (D1 (nl (by rw [e2]; decide) (by rw [e2]; decide))) hk hm et1 ew ew2 ex ey))
end
end
section
/-! the clock's tick: both sides wake the same processes in the same order -/
theorem ba_tick {c : Nat} (hc : c < 256) : (nI c + 1) &&& 255 = nI ((c + 1) % 256) := by
  rw [nI_1, pk_andN (by omega) 8 (by decide)]
section
variable {N C L c : Nat} {ad : Nat → Nat}
variable {f_unused f_constant f_word f_target f_channel f_level f_prefix f_negate f_operate f_disableChannel f_disableTimer f_processCount f_channelCount f_length f_sealed f_timerHead f_running f_interrupted f_regA f_regB f_regC f_savedA f_savedB f_savedC f_operand f_clock f_faults : Int32} {a_ops a_xs a_ys a_sizes a_address a_bytes a_indexAt a_locals a_states a_priorities a_pointers a_branches a_deadlines a_held a_readyLink a_timerLink a_head a_tail a_writers a_readers a_counters : Nat → Int32}
variable {g_length g_procs g_chans g_clock g_faults g_sealed : Int32} {g_nextTicket : Int64} {b_ops b_xs b_ys b_st b_prio b_pos b_ra b_rb b_rc b_words b_chan b_held b_named b_wake b_open b_guard b_timer b_chosen b_sent b_received b_sentFold b_receivedFold : Nat → Int32} {b_ticket : Nat → Int64}
theorem jw_tick0 (hN : N ≤ 8) (hc : c < 256) : ∀ d q, q + d = N → ∀ (B i : Nat) (st dl lk hd tl : Nat → Int32) (th : Int32) (tc : Nat → Int64) (nt : Int64), i ≤ q →
    rl_pr N st a_priorities b_ra b_rb b_rc f_running f_interrupted f_regA f_regB f_regC f_savedA f_savedB f_savedC → rl_qu N B st a_priorities tc nt hd tl lk → rl_tm N 0 c st dl th a_timerLink → rl_ch N C st b_chan b_open b_guard a_writers a_readers → rl_po N L ad st b_pos a_pointers → rl_al N L ad st b_open b_chosen a_branches b_timer b_wake dl → rl_he N C st b_chan a_held b_held b_named → rl_co C a_counters b_sent b_received b_sentFold b_receivedFold → rl_pi a_priorities →
    (∀ p, p < N → (st p = 6 ∨ (st p = 7 ∧ dl p ≠ -1)) → dl p = nI c → q ≤ p) →
    ∃ (st' dl' lk' hd' tl' : Nat → Int32) (th' : Int32) (tc' : Nat → Int64) (nt' : Int64), rl_dy N C L (B + d) c ad f_running f_interrupted f_regA f_regB f_regC f_savedA f_savedB f_savedC th' st' a_priorities a_pointers a_branches dl' a_held lk' a_timerLink hd' tl' a_writers a_readers a_counters nt' b_pos b_ra b_rb b_rc b_chan b_held b_named b_wake b_open b_guard b_timer b_chosen tc' b_sent b_received b_sentFold b_receivedFold
      ∧ (∀ (post : SX → Prop) (n : Nat), d < n → post (f_unused, f_constant, f_word, f_target, f_channel, f_level, f_prefix, f_negate, f_operate, f_disableChannel, f_disableTimer, nI N, nI C, nI L, f_sealed, th', f_running, f_interrupted, f_regA, f_regB, f_regC, f_savedA, f_savedB, f_savedC, f_operand, nI c, f_faults, a_ops, a_xs, a_ys, a_sizes, a_address, a_bytes, a_indexAt, a_locals, st', a_priorities, a_pointers, a_branches, dl', a_held, lk', a_timerLink, hd', tl', a_writers, a_readers, a_counters) → wX_tick_16 post n (nI i) f_unused f_constant f_word f_target f_channel f_level f_prefix f_negate f_operate f_disableChannel f_disableTimer (nI N) (nI C) (nI L) f_sealed th f_running f_interrupted f_regA f_regB f_regC f_savedA f_savedB f_savedC f_operand (nI c) f_faults a_ops a_xs a_ys a_sizes a_address a_bytes a_indexAt a_locals st a_priorities a_pointers a_branches dl a_held lk a_timerLink hd tl a_writers a_readers a_counters)
      ∧ (∀ (post : Int32 → SY → Prop) (J24 : (Int32 → Int32 → Int32 → Int32 → Int32 → Int32 → Int32 → Int32 → Int64 → (Nat → Int32) → (Nat → Int32) → (Nat → Int32) → (Nat → Int32) → (Nat → Int32) → (Nat → Int32) → (Nat → Int32) → (Nat → Int32) → (Nat → Int32) → (Nat → Int32) → (Nat → Int32) → (Nat → Int32) → (Nat → Int32) → (Nat → Int32) → (Nat → Int32) → (Nat → Int32) → (Nat → Int32) → (Nat → Int32) → (Nat → Int64) → (Nat → Int32) → (Nat → Int32) → (Nat → Int32) → (Nat → Int32) → Prop)) (x2 x3 x4 : Int32), J24 x3 (x4 + 1) (nI L) (nI N) (nI C) (nI c) f_faults f_sealed nt' a_ops a_xs a_ys st' a_priorities b_pos b_ra b_rb b_rc a_locals b_chan b_held b_named b_wake b_open b_guard b_timer b_chosen tc' b_sent b_received b_sentFold b_receivedFold → wY_run_67 post J24 x2 x3 x4 (d + 1) (nI q) (nI L) (nI N) (nI C) (nI c) f_faults f_sealed nt a_ops a_xs a_ys st a_priorities b_pos b_ra b_rb b_rc a_locals b_chan b_held b_named b_wake b_open b_guard b_timer b_chosen tc b_sent b_received b_sentFold b_receivedFold) := by
  intro d
  induction d with
  | zero =>
    intro q hq B i st dl lk hd tl th tc nt hi H1 H2 T H4 H5 H6 H7 H8 H9 due
    have e : q = N := by omega
    subst e
    have nodue : ∀ p, p < q → (st p = 6 ∨ (st p = 7 ∧ dl p ≠ -1)) → dl p ≠ nI c := fun p hp hm hd => by
      have := due p hp hm hd
      omega
    refine ⟨st, dl, lk, hd, tl, th, tc, nt, ⟨H1, H2, tm_stop hc nodue T, H4, H5, H6, H7, H8, H9⟩, fun post n hn K => ?_, fun post J24 x2 x3 x4 K => ?_⟩
    · obtain ⟨n, rfl⟩ : ∃ m, n = m + 1 := ⟨n - 1, by omega⟩
      rw [wX_tick_16]
      refine br_c (fun _ => K) (fun _ => ?_)
      rcases tm_hd hN T with e | ⟨p, hp, e, hm⟩
      · exact br_t (by rw [e]; decide) K
      · subst e
        have hp8 : p < 8 := by omega
        refine br_f (ba_p hp8) (And.intro (ba_v hp8) (br_f ?_ K))
        rw [ba_c hp8]
        exact nodue p hp hm
    · rw [wY_run_67]
      exact br_t (Int32.le_refl _) (nm_e K)
  | succ d ih =>
    intro q hq B i st dl lk hd tl th tc nt hi H1 H2 T H4 H5 H6 H7 H8 H9 due
    have hqN : q < N := by omega
    have hq8 : q < 8 := by omega
    have h8 : ¬ nI N ≤ nI q := nI_ge (by omega) (by omega)
    have i8 : ¬ (8 : Int32) ≤ nI i := ba_8 (by omega)
    have A := H6 q hqN
    -- q isn't due
    have skip : ((st q = 6 ∨ (st q = 7 ∧ dl q ≠ -1)) → dl q ≠ nI c) → (∀ (post : Int32 → SY → Prop) (J24 : (Int32 → Int32 → Int32 → Int32 → Int32 → Int32 → Int32 → Int32 → Int64 → (Nat → Int32) → (Nat → Int32) → (Nat → Int32) → (Nat → Int32) → (Nat → Int32) → (Nat → Int32) → (Nat → Int32) → (Nat → Int32) → (Nat → Int32) → (Nat → Int32) → (Nat → Int32) → (Nat → Int32) → (Nat → Int32) → (Nat → Int32) → (Nat → Int32) → (Nat → Int32) → (Nat → Int32) → (Nat → Int32) → (Nat → Int64) → (Nat → Int32) → (Nat → Int32) → (Nat → Int32) → (Nat → Int32) → Prop)) (x2 x3 x4 : Int32), wY_run_67 post J24 x2 x3 x4 (d + 1) (nI (q + 1)) (nI L) (nI N) (nI C) (nI c) f_faults f_sealed nt a_ops a_xs a_ys st a_priorities b_pos b_ra b_rb b_rc a_locals b_chan b_held b_named b_wake b_open b_guard b_timer b_chosen tc b_sent b_received b_sentFold b_receivedFold → wY_run_67 post J24 x2 x3 x4 (d + 1 + 1) (nI q) (nI L) (nI N) (nI C) (nI c) f_faults f_sealed nt a_ops a_xs a_ys st a_priorities b_pos b_ra b_rb b_rc a_locals b_chan b_held b_named b_wake b_open b_guard b_timer b_chosen tc b_sent b_received b_sentFold b_receivedFold) → ∃ (st' dl' lk' hd' tl' : Nat → Int32) (th' : Int32) (tc' : Nat → Int64) (nt' : Int64), rl_dy N C L (B + (d + 1)) c ad f_running f_interrupted f_regA f_regB f_regC f_savedA f_savedB f_savedC th' st' a_priorities a_pointers a_branches dl' a_held lk' a_timerLink hd' tl' a_writers a_readers a_counters nt' b_pos b_ra b_rb b_rc b_chan b_held b_named b_wake b_open b_guard b_timer b_chosen tc' b_sent b_received b_sentFold b_receivedFold
      ∧ (∀ (post : SX → Prop) (n : Nat), d + 1 < n → post (f_unused, f_constant, f_word, f_target, f_channel, f_level, f_prefix, f_negate, f_operate, f_disableChannel, f_disableTimer, nI N, nI C, nI L, f_sealed, th', f_running, f_interrupted, f_regA, f_regB, f_regC, f_savedA, f_savedB, f_savedC, f_operand, nI c, f_faults, a_ops, a_xs, a_ys, a_sizes, a_address, a_bytes, a_indexAt, a_locals, st', a_priorities, a_pointers, a_branches, dl', a_held, lk', a_timerLink, hd', tl', a_writers, a_readers, a_counters) → wX_tick_16 post n (nI i) f_unused f_constant f_word f_target f_channel f_level f_prefix f_negate f_operate f_disableChannel f_disableTimer (nI N) (nI C) (nI L) f_sealed th f_running f_interrupted f_regA f_regB f_regC f_savedA f_savedB f_savedC f_operand (nI c) f_faults a_ops a_xs a_ys a_sizes a_address a_bytes a_indexAt a_locals st a_priorities a_pointers a_branches dl a_held lk a_timerLink hd tl a_writers a_readers a_counters)
      ∧ (∀ (post : Int32 → SY → Prop) (J24 : (Int32 → Int32 → Int32 → Int32 → Int32 → Int32 → Int32 → Int32 → Int64 → (Nat → Int32) → (Nat → Int32) → (Nat → Int32) → (Nat → Int32) → (Nat → Int32) → (Nat → Int32) → (Nat → Int32) → (Nat → Int32) → (Nat → Int32) → (Nat → Int32) → (Nat → Int32) → (Nat → Int32) → (Nat → Int32) → (Nat → Int32) → (Nat → Int32) → (Nat → Int32) → (Nat → Int32) → (Nat → Int32) → (Nat → Int64) → (Nat → Int32) → (Nat → Int32) → (Nat → Int32) → (Nat → Int32) → Prop)) (x2 x3 x4 : Int32), J24 x3 (x4 + 1) (nI L) (nI N) (nI C) (nI c) f_faults f_sealed nt' a_ops a_xs a_ys st' a_priorities b_pos b_ra b_rb b_rc a_locals b_chan b_held b_named b_wake b_open b_guard b_timer b_chosen tc' b_sent b_received b_sentFold b_receivedFold → wY_run_67 post J24 x2 x3 x4 (d + 1 + 1) (nI q) (nI L) (nI N) (nI C) (nI c) f_faults f_sealed nt a_ops a_xs a_ys st a_priorities b_pos b_ra b_rb b_rc a_locals b_chan b_held b_named b_wake b_open b_guard b_timer b_chosen tc b_sent b_received b_sentFold b_receivedFold) := fun nd step => by
      obtain ⟨st', dl', lk', hd', tl', th', tc', nt', D', hX, hY⟩ := ih (q + 1) (by omega) B i st dl lk hd tl th tc nt (by omega) H1 H2 T H4 H5 H6 H7 H8 H9 (fun p hp hm hdp => by
        have h := due p hp hm hdp
        have : p ≠ q := fun e => by
          subst e
          exact nd hm hdp
        omega)
      exact ⟨st', dl', lk', hd', tl', th', tc', nt', dy_mono (by omega) D', fun post n hn K => hX post n (by omega) K, fun post J24 x2 x3 x4 K => step post J24 x2 x3 x4 (hY post J24 x2 x3 x4 K)⟩
    -- q is due: it becomes ready
    have wake : ∀ x : Int32, (st q = 6 ∨ (st q = 7 ∧ dl q ≠ -1)) → dl q = nI c → st q ≠ 3 → rl_a1 L ad 3 (b_open q) (b_chosen q) (a_branches q) (b_timer q) (b_wake q) x →
      (∀ (post : SX → Prop) (n : Nat), wX_tick_78 post (wX_tick_16 post n) (nI i) (nI q) f_unused f_constant f_word f_target f_channel f_level f_prefix f_negate f_operate f_disableChannel f_disableTimer (nI N) (nI C) (nI L) f_sealed (a_timerLink q) f_running f_interrupted f_regA f_regB f_regC f_savedA f_savedB f_savedC f_operand (nI c) f_faults a_ops a_xs a_ys a_sizes a_address a_bytes a_indexAt a_locals st a_priorities a_pointers a_branches (upd dl q x) a_held lk a_timerLink hd tl a_writers a_readers a_counters → wX_tick_16 post (n + 1) (nI i) f_unused f_constant f_word f_target f_channel f_level f_prefix f_negate f_operate f_disableChannel f_disableTimer (nI N) (nI C) (nI L) f_sealed (nI q) f_running f_interrupted f_regA f_regB f_regC f_savedA f_savedB f_savedC f_operand (nI c) f_faults a_ops a_xs a_ys a_sizes a_address a_bytes a_indexAt a_locals st a_priorities a_pointers a_branches dl a_held lk a_timerLink hd tl a_writers a_readers a_counters) →
      (∀ (post : Int32 → SY → Prop) (J24 : (Int32 → Int32 → Int32 → Int32 → Int32 → Int32 → Int32 → Int32 → Int64 → (Nat → Int32) → (Nat → Int32) → (Nat → Int32) → (Nat → Int32) → (Nat → Int32) → (Nat → Int32) → (Nat → Int32) → (Nat → Int32) → (Nat → Int32) → (Nat → Int32) → (Nat → Int32) → (Nat → Int32) → (Nat → Int32) → (Nat → Int32) → (Nat → Int32) → (Nat → Int32) → (Nat → Int32) → (Nat → Int32) → (Nat → Int64) → (Nat → Int32) → (Nat → Int32) → (Nat → Int32) → (Nat → Int32) → Prop)) (x2 x3 x4 : Int32), wY_run_67 post J24 x2 x3 x4 (d + 1) (nI (q + 1)) (nI L) (nI N) (nI C) (nI c) f_faults f_sealed (nt + 1) a_ops a_xs a_ys (upd st q 3) a_priorities b_pos b_ra b_rb b_rc a_locals b_chan b_held b_named b_wake b_open b_guard b_timer b_chosen (vp_updL tc q nt) b_sent b_received b_sentFold b_receivedFold → wY_run_67 post J24 x2 x3 x4 (d + 1 + 1) (nI q) (nI L) (nI N) (nI C) (nI c) f_faults f_sealed nt a_ops a_xs a_ys st a_priorities b_pos b_ra b_rb b_rc a_locals b_chan b_held b_named b_wake b_open b_guard b_timer b_chosen tc b_sent b_received b_sentFold b_receivedFold) → ∃ (st' dl' lk' hd' tl' : Nat → Int32) (th' : Int32) (tc' : Nat → Int64) (nt' : Int64), rl_dy N C L (B + (d + 1)) c ad f_running f_interrupted f_regA f_regB f_regC f_savedA f_savedB f_savedC th' st' a_priorities a_pointers a_branches dl' a_held lk' a_timerLink hd' tl' a_writers a_readers a_counters nt' b_pos b_ra b_rb b_rc b_chan b_held b_named b_wake b_open b_guard b_timer b_chosen tc' b_sent b_received b_sentFold b_receivedFold
      ∧ (∀ (post : SX → Prop) (n : Nat), d + 1 < n → post (f_unused, f_constant, f_word, f_target, f_channel, f_level, f_prefix, f_negate, f_operate, f_disableChannel, f_disableTimer, nI N, nI C, nI L, f_sealed, th', f_running, f_interrupted, f_regA, f_regB, f_regC, f_savedA, f_savedB, f_savedC, f_operand, nI c, f_faults, a_ops, a_xs, a_ys, a_sizes, a_address, a_bytes, a_indexAt, a_locals, st', a_priorities, a_pointers, a_branches, dl', a_held, lk', a_timerLink, hd', tl', a_writers, a_readers, a_counters) → wX_tick_16 post n (nI i) f_unused f_constant f_word f_target f_channel f_level f_prefix f_negate f_operate f_disableChannel f_disableTimer (nI N) (nI C) (nI L) f_sealed th f_running f_interrupted f_regA f_regB f_regC f_savedA f_savedB f_savedC f_operand (nI c) f_faults a_ops a_xs a_ys a_sizes a_address a_bytes a_indexAt a_locals st a_priorities a_pointers a_branches dl a_held lk a_timerLink hd tl a_writers a_readers a_counters)
      ∧ (∀ (post : Int32 → SY → Prop) (J24 : (Int32 → Int32 → Int32 → Int32 → Int32 → Int32 → Int32 → Int32 → Int64 → (Nat → Int32) → (Nat → Int32) → (Nat → Int32) → (Nat → Int32) → (Nat → Int32) → (Nat → Int32) → (Nat → Int32) → (Nat → Int32) → (Nat → Int32) → (Nat → Int32) → (Nat → Int32) → (Nat → Int32) → (Nat → Int32) → (Nat → Int32) → (Nat → Int32) → (Nat → Int32) → (Nat → Int32) → (Nat → Int32) → (Nat → Int64) → (Nat → Int32) → (Nat → Int32) → (Nat → Int32) → (Nat → Int32) → Prop)) (x2 x3 x4 : Int32), J24 x3 (x4 + 1) (nI L) (nI N) (nI C) (nI c) f_faults f_sealed nt' a_ops a_xs a_ys st' a_priorities b_pos b_ra b_rb b_rc a_locals b_chan b_held b_named b_wake b_open b_guard b_timer b_chosen tc' b_sent b_received b_sentFold b_receivedFold → wY_run_67 post J24 x2 x3 x4 (d + 1 + 1) (nI q) (nI L) (nI N) (nI C) (nI c) f_faults f_sealed nt a_ops a_xs a_ys st a_priorities b_pos b_ra b_rb b_rc a_locals b_chan b_held b_named b_wake b_open b_guard b_timer b_chosen tc b_sent b_received b_sentFold b_receivedFold) := fun x hm hdq n3 a3 stepX stepY => by
      obtain ⟨eth, T1⟩ := tm_pop (s := 3) (x := x) hN hc (by decide) (by decide) hqN hm hdq due T
      subst eth
      have n0 : st q ≠ 0 := by rcases hm with e | e <;> first | (rw [e]; decide) | (rw [e.1]; decide)
      have n1 : st q ≠ 1 := by rcases hm with e | e <;> first | (rw [e]; decide) | (rw [e.1]; decide)
      have n2 : st q ≠ 2 := by rcases hm with e | e <;> first | (rw [e]; decide) | (rw [e.1]; decide)
      have n4 : st q ≠ 4 := by rcases hm with e | e <;> first | (rw [e]; decide) | (rw [e.1]; decide)
      have n5 : st q ≠ 5 := by rcases hm with e | e <;> first | (rw [e]; decide) | (rw [e.1]; decide)
      obtain ⟨kp, hkp, ekp⟩ := pi_k H9 q
      obtain ⟨hd1, tl1, lk1, Q1, W⟩ := xw_ready (f_unused := f_unused) (f_constant := f_constant) (f_word := f_word) (f_target := f_target) (f_channel := f_channel) (f_level := f_level) (f_prefix := f_prefix) (f_negate := f_negate) (f_operate := f_operate) (f_disableChannel := f_disableChannel) (f_disableTimer := f_disableTimer) (f_processCount := nI N) (f_channelCount := nI C) (f_length := nI L) (f_sealed := f_sealed) (f_timerHead := a_timerLink q) (f_running := f_running) (f_interrupted := f_interrupted) (f_regA := f_regA) (f_regB := f_regB) (f_regC := f_regC) (f_savedA := f_savedA) (f_savedB := f_savedB) (f_savedC := f_savedC) (f_operand := f_operand) (f_clock := nI c) (f_faults := f_faults) (a_ops := a_ops) (a_xs := a_xs) (a_ys := a_ys) (a_sizes := a_sizes) (a_address := a_address) (a_bytes := a_bytes) (a_indexAt := a_indexAt) (a_locals := a_locals) (a_states := st) (a_priorities := a_priorities) (a_pointers := a_pointers) (a_branches := a_branches) (a_deadlines := upd dl q x) (a_held := a_held) (a_readyLink := lk) (a_timerLink := a_timerLink) (a_head := hd) (a_tail := tl) (a_writers := a_writers) (a_readers := a_readers) (a_counters := a_counters) hN hkp hqN n3 ekp H2
      obtain ⟨st', dl', lk', hd', tl', th', tc', nt', D', hX, hY⟩ := ih (q + 1) (by omega) (B + 1) (i + 1) (upd st q 3) (upd dl q x) lk1 hd1 tl1 (a_timerLink q) (vp_updL tc q nt) (nt + 1) (by omega) (pr_frame n1 n2 (by decide) (by decide) H1) Q1 T1 (ch_st n4 n5 (by decide) (by decide) H4) (po_s1 n0 H5) (al_pt (r := q) H6 (fun p hp => ⟨pk_un hp, rfl, rfl, rfl, rfl, rfl, pk_un hp⟩) (by rw [pk_us, pk_us]; exact a3)) (he_st (by decide) (by decide) H7) H8 H9 (fun p hp hm2 hdp => by
        by_cases e : p = q
        · subst e
          rw [pk_us] at hm2
          rcases hm2 with z | z
          · exact absurd z (by decide)
          · exact absurd z.1 (by decide)
        · rw [pk_un e] at hm2 hdp
          rw [pk_un e] at hm2
          have := due p hp hm2 hdp
          omega)
      refine ⟨st', dl', lk', hd', tl', th', tc', nt', dy_mono (by omega) D', fun post n hn K => ?_, fun post J24 x2 x3 x4 K => stepY post J24 x2 x3 x4 (hY post J24 x2 x3 x4 K)⟩
      obtain ⟨n, rfl⟩ : ∃ m, n = m + 1 := ⟨n - 1, by omega⟩
      refine stepX post n ?_
      unfold wX_tick_78
      refine W _ (nm_r (nI_1 i) ?_)
      exact hX post n (by omega) K
    by_cases z6 : st q = 6
    · have z7 : ¬ st q = 7 := by rw [z6]; decide
      obtain ⟨o0, b0, _, d6, _⟩ : b_open q = 0 ∧ a_branches q = -2 ∧ st q ≠ 7 ∧ (st q = 6 → dl q = b_wake q ∧ ∃ e, e < 256 ∧ b_wake q = nI e) ∧ (st q ≠ 6 → dl q = -1) := by
        rcases A with h | ⟨_, h, _⟩
        · exact h
        · rw [z6] at h
          exact absurd h (by decide)
      have ed := (d6 z6).1
      by_cases zw : b_wake q = nI c
      · refine wake (-1) (Or.inl z6) (ed.trans zw) (by rw [z6]; decide) (Or.inl ⟨o0, b0, by decide, fun z => absurd z (by decide), fun _ => rfl⟩) (fun post n K => ?_) (fun post J24 x2 x3 x4 K => ?_)
        · rw [wX_tick_16]; simp only [i8, ba_p hq8, ba_v hq8, ba_c hq8, ed, zw, z6, forall_eq, true_implies, false_implies, not_true_eq_false, not_false_eq_true, and_true, true_and, implies_true]
          exact K
        · rw [wY_run_67]; simp only [wpY_ready, h8, ba_v hq8, ba_c hq8, z6, zw, nI_1, forall_eq, true_implies, false_implies, not_true_eq_false, not_false_eq_true, and_true, true_and, implies_true]
          exact K
      · refine skip (fun _ => by rw [ed]; exact zw) (fun post J24 x2 x3 x4 K => ?_)
        rw [wY_run_67]; simp +decide only [wY_run_111, h8, ba_v hq8, ba_c hq8, z6, zw, nI_1, forall_eq, true_implies, false_implies, not_true_eq_false, not_false_eq_true, and_true, true_and, implies_true]
        exact K
    · by_cases z7 : st q = 7
      · obtain ⟨o1, _, edt, d7, d8⟩ : b_open q = 1 ∧ (st q = 1 ∨ st q = 2 ∨ st q = 3 ∨ st q = 7) ∧ dl q = b_timer q ∧ (b_timer q = -1 ∨ ∃ e, e < 256 ∧ b_timer q = nI e) ∧ ((b_chosen q = -1 ∧ a_branches q = -1) ∨ ∃ i, i < L ∧ b_chosen q = nI i ∧ a_branches q = nI (ad i)) := by
          rcases A with ⟨_, _, h, _⟩ | h
          · exact absurd z7 h
          · exact h
        by_cases zt : b_timer q = nI c
        · have edc : dl q = nI c := edt.trans zt
          have ne1 : dl q ≠ -1 := by rw [edc]; exact ba_m1 (by omega)
          refine wake (dl q) (Or.inr ⟨z7, ne1⟩) edc (by rw [z7]; decide) (Or.inr ⟨o1, Or.inr (Or.inr (Or.inl rfl)), edt, d7, d8⟩) (fun post n K => ?_) (fun post J24 x2 x3 x4 K => ?_)
          · rw [ba_us] at K
            rw [wX_tick_16]; simp +decide only [i8, ba_p hq8, ba_v hq8, ba_c hq8, edc, z7, forall_eq, true_implies, false_implies, not_true_eq_false, not_false_eq_true, and_true, true_and, implies_true]
            exact K
          · rw [wY_run_67]; simp +decide only [wY_run_111, wpY_ready, h8, ba_v hq8, ba_c hq8, z7, zt, nI_1, forall_eq, true_implies, false_implies, not_true_eq_false, not_false_eq_true, and_true, true_and, implies_true]
            exact K
        · refine skip (fun _ => by rw [edt]; exact zt) (fun post J24 x2 x3 x4 K => ?_)
          rw [wY_run_67]; simp +decide only [wY_run_111, h8, ba_v hq8, ba_c hq8, z7, zt, nI_1, forall_eq, true_implies, false_implies, not_true_eq_false, not_false_eq_true, and_true, true_and, implies_true]
          exact K
      · refine skip (fun hm => hm.elim (fun e => absurd e z6) (fun e => absurd e.1 z7)) (fun post J24 x2 x3 x4 K => ?_)
        rw [wY_run_67]; simp +decide only [wY_run_111, h8, ba_v hq8, ba_c hq8, z6, z7, nI_1, forall_eq, true_implies, false_implies, not_true_eq_false, not_false_eq_true, and_true, true_and, implies_true]
        exact K
theorem jw_tick {B : Nat} (hN : N ≤ 8) (hc : c < 256) (H : rl_dy N C L B c ad f_running f_interrupted f_regA f_regB f_regC f_savedA f_savedB f_savedC f_timerHead a_states a_priorities a_pointers a_branches a_deadlines a_held a_readyLink a_timerLink a_head a_tail a_writers a_readers a_counters g_nextTicket b_pos b_ra b_rb b_rc b_chan b_held b_named b_wake b_open b_guard b_timer b_chosen b_ticket b_sent b_received b_sentFold b_receivedFold) : ∃ (st' dl' lk' hd' tl' : Nat → Int32) (th' : Int32) (tc' : Nat → Int64) (nt' : Int64), rl_dy N C L (B + 8) ((c + 1) % 256) ad f_running f_interrupted f_regA f_regB f_regC f_savedA f_savedB f_savedC th' st' a_priorities a_pointers a_branches dl' a_held lk' a_timerLink hd' tl' a_writers a_readers a_counters nt' b_pos b_ra b_rb b_rc b_chan b_held b_named b_wake b_open b_guard b_timer b_chosen tc' b_sent b_received b_sentFold b_receivedFold
      ∧ (∀ post : SX → Prop, post (f_unused, f_constant, f_word, f_target, f_channel, f_level, f_prefix, f_negate, f_operate, f_disableChannel, f_disableTimer, nI N, nI C, nI L, f_sealed, th', f_running, f_interrupted, f_regA, f_regB, f_regC, f_savedA, f_savedB, f_savedC, f_operand, nI ((c + 1) % 256), f_faults, a_ops, a_xs, a_ys, a_sizes, a_address, a_bytes, a_indexAt, a_locals, st', a_priorities, a_pointers, a_branches, dl', a_held, lk', a_timerLink, hd', tl', a_writers, a_readers, a_counters) → wpX_tick post (f_unused, f_constant, f_word, f_target, f_channel, f_level, f_prefix, f_negate, f_operate, f_disableChannel, f_disableTimer, nI N, nI C, nI L, f_sealed, f_timerHead, f_running, f_interrupted, f_regA, f_regB, f_regC, f_savedA, f_savedB, f_savedC, f_operand, nI c, f_faults, a_ops, a_xs, a_ys, a_sizes, a_address, a_bytes, a_indexAt, a_locals, a_states, a_priorities, a_pointers, a_branches, a_deadlines, a_held, a_readyLink, a_timerLink, a_head, a_tail, a_writers, a_readers, a_counters))
      ∧ (∀ (post : Int32 → SY → Prop) (J24 : (Int32 → Int32 → Int32 → Int32 → Int32 → Int32 → Int32 → Int32 → Int64 → (Nat → Int32) → (Nat → Int32) → (Nat → Int32) → (Nat → Int32) → (Nat → Int32) → (Nat → Int32) → (Nat → Int32) → (Nat → Int32) → (Nat → Int32) → (Nat → Int32) → (Nat → Int32) → (Nat → Int32) → (Nat → Int32) → (Nat → Int32) → (Nat → Int32) → (Nat → Int32) → (Nat → Int32) → (Nat → Int32) → (Nat → Int64) → (Nat → Int32) → (Nat → Int32) → (Nat → Int32) → (Nat → Int32) → Prop)) (x2 x3 x4 : Int32), J24 x3 (x4 + 1) (nI L) (nI N) (nI C) (nI ((c + 1) % 256)) f_faults f_sealed nt' a_ops a_xs a_ys st' a_priorities b_pos b_ra b_rb b_rc a_locals b_chan b_held b_named b_wake b_open b_guard b_timer b_chosen tc' b_sent b_received b_sentFold b_receivedFold → wY_run_50 post J24 x2 x3 x4 (nI L) (nI N) (nI C) (nI c) f_faults f_sealed g_nextTicket a_ops a_xs a_ys a_states a_priorities b_pos b_ra b_rb b_rc a_locals b_chan b_held b_named b_wake b_open b_guard b_timer b_chosen b_ticket b_sent b_received b_sentFold b_receivedFold) := by
  obtain ⟨H1, H2, T, H4, H5, H6, H7, H8, H9⟩ := H
  obtain ⟨st', dl', lk', hd', tl', th', tc', nt', D', hX, hY⟩ := jw_tick0 (f_unused := f_unused) (f_constant := f_constant) (f_word := f_word) (f_target := f_target) (f_channel := f_channel) (f_level := f_level) (f_prefix := f_prefix) (f_negate := f_negate) (f_operate := f_operate) (f_disableChannel := f_disableChannel) (f_disableTimer := f_disableTimer) (f_sealed := f_sealed) (f_running := f_running) (f_interrupted := f_interrupted) (f_regA := f_regA) (f_regB := f_regB) (f_regC := f_regC) (f_savedA := f_savedA) (f_savedB := f_savedB) (f_savedC := f_savedC) (f_operand := f_operand) (f_faults := f_faults) (a_ops := a_ops) (a_xs := a_xs) (a_ys := a_ys) (a_sizes := a_sizes) (a_address := a_address) (a_bytes := a_bytes) (a_indexAt := a_indexAt) (a_locals := a_locals) (a_priorities := a_priorities) (a_pointers := a_pointers) (a_branches := a_branches) (a_held := a_held) (a_timerLink := a_timerLink) (a_writers := a_writers) (a_readers := a_readers) (a_counters := a_counters) (b_pos := b_pos) (b_ra := b_ra) (b_rb := b_rb) (b_rc := b_rc) (b_chan := b_chan) (b_held := b_held) (b_named := b_named) (b_wake := b_wake) (b_open := b_open) (b_guard := b_guard) (b_timer := b_timer) (b_chosen := b_chosen) (b_sent := b_sent) (b_received := b_received) (b_sentFold := b_sentFold) (b_receivedFold := b_receivedFold) (c := (c + 1) % 256) hN (Nat.mod_lt _ (by decide)) N 0 (by omega) B 0 _ _ _ _ _ _ _ _ (Nat.le_refl _) H1 H2 (tm_clock hc T) H4 H5 H6 H7 H8 H9 (fun p _ _ _ => Nat.zero_le p)
  refine ⟨st', dl', lk', hd', tl', th', tc', nt', dy_mono (by omega) D', fun post K => ?_, fun post J24 x2 x3 x4 K => ?_⟩
  · simp only [wpX_tick, ba_tick hc, forall_eq, true_implies, false_implies, not_true_eq_false, not_false_eq_true, and_true, true_and, implies_true]
    exact ⟨N + 1, hX post (N + 1) (by omega) K⟩
  · simp only [wY_run_50, ba_tick hc, forall_eq, true_implies, false_implies, not_true_eq_false, not_false_eq_true, and_true, true_and, implies_true]
    exact ⟨N + 1, hY post J24 x2 x3 x4 K⟩
end
end
section
/-! runs of steps -/
section
variable {f_unused f_constant f_word f_target f_channel f_level f_prefix f_negate f_operate f_disableChannel f_disableTimer f_processCount f_channelCount f_length f_sealed f_timerHead f_running f_interrupted f_regA f_regB f_regC f_savedA f_savedB f_savedC f_operand f_clock f_faults : Int32} {a_ops a_xs a_ys a_sizes a_address a_bytes a_indexAt a_locals a_states a_priorities a_pointers a_branches a_deadlines a_held a_readyLink a_timerLink a_head a_tail a_writers a_readers a_counters : Nat → Int32}
variable {g_length g_procs g_chans g_clock g_faults g_sealed : Int32} {g_nextTicket : Int64} {b_ops b_xs b_ys b_st b_prio b_pos b_ra b_rb b_rc b_words b_chan b_held b_named b_wake b_open b_guard b_timer b_chosen b_sent b_received b_sentFold b_receivedFold : Nat → Int32} {b_ticket : Nat → Int64}
def rn_X (post : Int32 → SX → Prop) (s : Int32) (n : Nat) (x3 x4 : Int32) (u : SX) : Prop := match u with
  | (f_unused, f_constant, f_word, f_target, f_channel, f_level, f_prefix, f_negate, f_operate, f_disableChannel, f_disableTimer, f_processCount, f_channelCount, f_length, f_sealed, f_timerHead, f_running, f_interrupted, f_regA, f_regB, f_regC, f_savedA, f_savedB, f_savedC, f_operand, f_clock, f_faults, a_ops, a_xs, a_ys, a_sizes, a_address, a_bytes, a_indexAt, a_locals, a_states, a_priorities, a_pointers, a_branches, a_deadlines, a_held, a_readyLink, a_timerLink, a_head, a_tail, a_writers, a_readers, a_counters) => wX_run_24 post s n x3 x4 f_unused f_constant f_word f_target f_channel f_level f_prefix f_negate f_operate f_disableChannel f_disableTimer f_processCount f_channelCount f_length f_sealed f_timerHead f_running f_interrupted f_regA f_regB f_regC f_savedA f_savedB f_savedC f_operand f_clock f_faults a_ops a_xs a_ys a_sizes a_address a_bytes a_indexAt a_locals a_states a_priorities a_pointers a_branches a_deadlines a_held a_readyLink a_timerLink a_head a_tail a_writers a_readers a_counters
def rn_Y (post : Int32 → SY → Prop) (s : Int32) (n : Nat) (x3 x4 : Int32) (v : SY) : Prop := match v with
  | (g_length, g_procs, g_chans, g_clock, g_faults, g_sealed, g_nextTicket, b_ops, b_xs, b_ys, b_st, b_prio, b_pos, b_ra, b_rb, b_rc, b_words, b_chan, b_held, b_named, b_wake, b_open, b_guard, b_timer, b_chosen, b_ticket, b_sent, b_received, b_sentFold, b_receivedFold) => wY_run_24 post s n x3 x4 g_length g_procs g_chans g_clock g_faults g_sealed g_nextTicket b_ops b_xs b_ys b_st b_prio b_pos b_ra b_rb b_rc b_words b_chan b_held b_named b_wake b_open b_guard b_timer b_chosen b_ticket b_sent b_received b_sentFold b_receivedFold
def tk_Y (post : Int32 → SY → Prop) (J24 : (Int32 → Int32 → Int32 → Int32 → Int32 → Int32 → Int32 → Int32 → Int64 → (Nat → Int32) → (Nat → Int32) → (Nat → Int32) → (Nat → Int32) → (Nat → Int32) → (Nat → Int32) → (Nat → Int32) → (Nat → Int32) → (Nat → Int32) → (Nat → Int32) → (Nat → Int32) → (Nat → Int32) → (Nat → Int32) → (Nat → Int32) → (Nat → Int32) → (Nat → Int32) → (Nat → Int32) → (Nat → Int32) → (Nat → Int64) → (Nat → Int32) → (Nat → Int32) → (Nat → Int32) → (Nat → Int32) → Prop)) (x2 x3 x4 : Int32) (v : SY) : Prop := match v with
  | (g_length, g_procs, g_chans, g_clock, g_faults, g_sealed, g_nextTicket, b_ops, b_xs, b_ys, b_st, b_prio, b_pos, b_ra, b_rb, b_rc, b_words, b_chan, b_held, b_named, b_wake, b_open, b_guard, b_timer, b_chosen, b_ticket, b_sent, b_received, b_sentFold, b_receivedFold) => wY_run_50 post J24 x2 x3 x4 g_length g_procs g_chans g_clock g_faults g_sealed g_nextTicket b_ops b_xs b_ys b_st b_prio b_pos b_ra b_rb b_rc b_words b_chan b_held b_named b_wake b_open b_guard b_timer b_chosen b_ticket b_sent b_received b_sentFold b_receivedFold
def ap_Y (J24 : (Int32 → Int32 → Int32 → Int32 → Int32 → Int32 → Int32 → Int32 → Int64 → (Nat → Int32) → (Nat → Int32) → (Nat → Int32) → (Nat → Int32) → (Nat → Int32) → (Nat → Int32) → (Nat → Int32) → (Nat → Int32) → (Nat → Int32) → (Nat → Int32) → (Nat → Int32) → (Nat → Int32) → (Nat → Int32) → (Nat → Int32) → (Nat → Int32) → (Nat → Int32) → (Nat → Int32) → (Nat → Int32) → (Nat → Int64) → (Nat → Int32) → (Nat → Int32) → (Nat → Int32) → (Nat → Int32) → Prop)) (x3 x4 : Int32) (v : SY) : Prop := match v with
  | (g_length, g_procs, g_chans, g_clock, g_faults, g_sealed, g_nextTicket, b_ops, b_xs, b_ys, b_st, b_prio, b_pos, b_ra, b_rb, b_rc, b_words, b_chan, b_held, b_named, b_wake, b_open, b_guard, b_timer, b_chosen, b_ticket, b_sent, b_received, b_sentFold, b_receivedFold) => J24 x3 x4 g_length g_procs g_chans g_clock g_faults g_sealed g_nextTicket b_ops b_xs b_ys b_st b_prio b_pos b_ra b_rb b_rc b_words b_chan b_held b_named b_wake b_open b_guard b_timer b_chosen b_ticket b_sent b_received b_sentFold b_receivedFold
end
section
variable {N C L B c : Nat} {ad : Nat → Nat}
variable {f_unused f_constant f_word f_target f_channel f_level f_prefix f_negate f_operate f_disableChannel f_disableTimer f_processCount f_channelCount f_length f_sealed f_timerHead f_running f_interrupted f_regA f_regB f_regC f_savedA f_savedB f_savedC f_operand f_clock f_faults : Int32} {a_ops a_xs a_ys a_sizes a_address a_bytes a_indexAt a_locals a_states a_priorities a_pointers a_branches a_deadlines a_held a_readyLink a_timerLink a_head a_tail a_writers a_readers a_counters : Nat → Int32}
variable {g_length g_procs g_chans g_clock g_faults g_sealed : Int32} {g_nextTicket : Int64} {b_ops b_xs b_ys b_st b_prio b_pos b_ra b_rb b_rc b_words b_chan b_held b_named b_wake b_open b_guard b_timer b_chosen b_sent b_received b_sentFold b_receivedFold : Nat → Int32} {b_ticket : Nat → Int64}
theorem jw_tickR {u : SX} {v : SY} (hN : N ≤ 8) (hc : c < 256) (I : rl_R N C L B c ad f_sealed a_ops a_xs a_ys a_address a_bytes a_indexAt u v) : ∃ (u' : SX) (v' : SY), rl_R N C L (B + 8) ((c + 1) % 256) ad f_sealed a_ops a_xs a_ys a_address a_bytes a_indexAt u' v' ∧ (∀ post : SX → Prop, post u' → wpX_tick post u) ∧ (∀ (post : Int32 → SY → Prop) (J24 : (Int32 → Int32 → Int32 → Int32 → Int32 → Int32 → Int32 → Int32 → Int64 → (Nat → Int32) → (Nat → Int32) → (Nat → Int32) → (Nat → Int32) → (Nat → Int32) → (Nat → Int32) → (Nat → Int32) → (Nat → Int32) → (Nat → Int32) → (Nat → Int32) → (Nat → Int32) → (Nat → Int32) → (Nat → Int32) → (Nat → Int32) → (Nat → Int32) → (Nat → Int32) → (Nat → Int32) → (Nat → Int32) → (Nat → Int64) → (Nat → Int32) → (Nat → Int32) → (Nat → Int32) → (Nat → Int32) → Prop)) (x2 x3 x4 : Int32), ap_Y J24 x3 (x4 + 1) v' → tk_Y post J24 x2 x3 x4 v) := by
  refine rl_out (P := fun u v => ∃ (u' : SX) (v' : SY), rl_R N C L (B + 8) ((c + 1) % 256) ad f_sealed a_ops a_xs a_ys a_address a_bytes a_indexAt u' v' ∧ (∀ post : SX → Prop, post u' → wpX_tick post u) ∧ (∀ (post : Int32 → SY → Prop) (J24 : (Int32 → Int32 → Int32 → Int32 → Int32 → Int32 → Int32 → Int32 → Int64 → (Nat → Int32) → (Nat → Int32) → (Nat → Int32) → (Nat → Int32) → (Nat → Int32) → (Nat → Int32) → (Nat → Int32) → (Nat → Int32) → (Nat → Int32) → (Nat → Int32) → (Nat → Int32) → (Nat → Int32) → (Nat → Int32) → (Nat → Int32) → (Nat → Int32) → (Nat → Int32) → (Nat → Int32) → (Nat → Int32) → (Nat → Int64) → (Nat → Int32) → (Nat → Int32) → (Nat → Int32) → (Nat → Int32) → Prop)) (x2 x3 x4 : Int32), ap_Y J24 x3 (x4 + 1) v' → tk_Y post J24 x2 x3 x4 v)) ?_ I
  intros
  rename_i H
  obtain ⟨st', dl', lk', hd', tl', th', tc', nt', D', hX, hY⟩ := jw_tick hN hc H
  exact ⟨_, _, rl_in D', fun post K => hX post K, fun post J24 x2 x3 x4 K => hY post J24 x2 x3 x4 K⟩
end
end
section
/-! one step, many steps -/
section
variable {N C L B c : Nat} {ad : Nat → Nat}
variable {f_unused f_constant f_word f_target f_channel f_level f_prefix f_negate f_operate f_disableChannel f_disableTimer f_processCount f_channelCount f_length f_sealed f_timerHead f_running f_interrupted f_regA f_regB f_regC f_savedA f_savedB f_savedC f_operand f_clock f_faults : Int32} {a_ops a_xs a_ys a_sizes a_address a_bytes a_indexAt a_locals a_states a_priorities a_pointers a_branches a_deadlines a_held a_readyLink a_timerLink a_head a_tail a_writers a_readers a_counters : Nat → Int32}
variable {g_length g_procs g_chans g_clock g_faults g_sealed : Int32} {g_nextTicket : Int64} {b_ops b_xs b_ys b_st b_prio b_pos b_ra b_rb b_rc b_words b_chan b_held b_named b_wake b_open b_guard b_timer b_chosen b_sent b_received b_sentFold b_receivedFold : Nat → Int32} {b_ticket : Nat → Int64}
theorem jw_step (hN : N ≤ 8) (hC : C ≤ 8) (hc : c < 256) (hB : B < 2 ^ 31) (CD : rl_cd C L ad a_ops a_xs a_ys a_address a_bytes a_indexAt) (H : rl_dy N C L B c ad f_running f_interrupted f_regA f_regB f_regC f_savedA f_savedB f_savedC f_timerHead a_states a_priorities a_pointers a_branches a_deadlines a_held a_readyLink a_timerLink a_head a_tail a_writers a_readers a_counters g_nextTicket b_pos b_ra b_rb b_rc b_chan b_held b_named b_wake b_open b_guard b_timer b_chosen b_ticket b_sent b_received b_sentFold b_receivedFold) : ∃ (e : Int32 → Int32) (u' : SX) (v' : SY), rl_R N C L (B + 9) ((c + 1) % 256) ad f_sealed a_ops a_xs a_ys a_address a_bytes a_indexAt u' v'
    ∧ (∀ (post : Int32 → SX → Prop) (s x3 x4 : Int32) (n : Nat), ¬ s ≤ x4 → rn_X post s n (e x3) (x4 + 1) u' → rn_X post s (n + 1) x3 x4 (f_unused, f_constant, f_word, f_target, f_channel, f_level, f_prefix, f_negate, f_operate, f_disableChannel, f_disableTimer, nI N, nI C, nI L, f_sealed, f_timerHead, f_running, f_interrupted, f_regA, f_regB, f_regC, f_savedA, f_savedB, f_savedC, f_operand, nI c, f_faults, a_ops, a_xs, a_ys, a_sizes, a_address, a_bytes, a_indexAt, a_locals, a_states, a_priorities, a_pointers, a_branches, a_deadlines, a_held, a_readyLink, a_timerLink, a_head, a_tail, a_writers, a_readers, a_counters))
    ∧ (∀ (post : Int32 → SY → Prop) (s x3 x4 : Int32) (n : Nat), ¬ s ≤ x4 → rn_Y post s n (e x3) (x4 + 1) v' → rn_Y post s (n + 1) x3 x4 (nI L, nI N, nI C, nI c, f_faults, f_sealed, g_nextTicket, a_ops, a_xs, a_ys, a_states, a_priorities, b_pos, b_ra, b_rb, b_rc, a_locals, b_chan, b_held, b_named, b_wake, b_open, b_guard, b_timer, b_chosen, b_ticket, b_sent, b_received, b_sentFold, b_receivedFold)) := by
  obtain ⟨run, it, xa, xb, xc, sa, sb, sc, st, hd, D1, hrun, cX, cY⟩ := jw_choose (f_unused := f_unused) (f_constant := f_constant) (f_word := f_word) (f_target := f_target) (f_channel := f_channel) (f_level := f_level) (f_prefix := f_prefix) (f_negate := f_negate) (f_operate := f_operate) (f_disableChannel := f_disableChannel) (f_disableTimer := f_disableTimer) (f_sealed := f_sealed) (f_timerHead := f_timerHead) (f_running := f_running) (f_interrupted := f_interrupted) (f_regA := f_regA) (f_regB := f_regB) (f_regC := f_regC) (f_savedA := f_savedA) (f_savedB := f_savedB) (f_savedC := f_savedC) (f_operand := f_operand) (f_faults := f_faults) (a_ops := a_ops) (a_xs := a_xs) (a_ys := a_ys) (a_sizes := a_sizes) (a_address := a_address) (a_bytes := a_bytes) (a_indexAt := a_indexAt) (a_locals := a_locals) (a_states := a_states) (a_priorities := a_priorities) (a_pointers := a_pointers) (a_branches := a_branches) (a_deadlines := a_deadlines) (a_held := a_held) (a_readyLink := a_readyLink) (a_timerLink := a_timerLink) (a_head := a_head) (a_tail := a_tail) (a_writers := a_writers) (a_readers := a_readers) (a_counters := a_counters) (g_nextTicket := g_nextTicket) (b_pos := b_pos) (b_ra := b_ra) (b_rb := b_rb) (b_rc := b_rc) (b_chan := b_chan) (b_held := b_held) (b_named := b_named) (b_wake := b_wake) (b_open := b_open) (b_guard := b_guard) (b_timer := b_timer) (b_chosen := b_chosen) (b_ticket := b_ticket) (b_sent := b_sent) (b_received := b_received) (b_sentFold := b_sentFold) (b_receivedFold := b_receivedFold) hN hB H
  rcases hrun with e | ⟨r, hr, e⟩
  · subst e
    have m1 : (-1 : Int32) < 0 := by decide
    obtain ⟨u', v', R', tX, tY⟩ := jw_tickR hN hc (rl_in (f_unused := f_unused) (f_constant := f_constant) (f_word := f_word) (f_target := f_target) (f_channel := f_channel) (f_level := f_level) (f_prefix := f_prefix) (f_negate := f_negate) (f_operate := f_operate) (f_disableChannel := f_disableChannel) (f_disableTimer := f_disableTimer) (f_sealed := f_sealed) (f_timerHead := f_timerHead) (f_running := -1) (f_interrupted := it) (f_regA := xa) (f_regB := xb) (f_regC := xc) (f_savedA := sa) (f_savedB := sb) (f_savedC := sc) (f_operand := f_operand) (f_faults := f_faults) (a_ops := a_ops) (a_xs := a_xs) (a_ys := a_ys) (a_sizes := a_sizes) (a_address := a_address) (a_bytes := a_bytes) (a_indexAt := a_indexAt) (a_locals := a_locals) (a_states := st) (a_priorities := a_priorities) (a_pointers := a_pointers) (a_branches := a_branches) (a_deadlines := a_deadlines) (a_held := a_held) (a_readyLink := a_readyLink) (a_timerLink := a_timerLink) (a_head := hd) (a_tail := a_tail) (a_writers := a_writers) (a_readers := a_readers) (a_counters := a_counters) (g_nextTicket := g_nextTicket) (b_pos := b_pos) (b_ra := b_ra) (b_rb := b_rb) (b_rc := b_rc) (b_chan := b_chan) (b_held := b_held) (b_named := b_named) (b_wake := b_wake) (b_open := b_open) (b_guard := b_guard) (b_timer := b_timer) (b_chosen := b_chosen) (b_ticket := b_ticket) (b_sent := b_sent) (b_received := b_received) (b_sentFold := b_sentFold) (b_receivedFold := b_receivedFold) D1)
    refine ⟨fun x => x, u', v', rl_mono (by omega) R', fun post s x3 x4 n hs K => ?_, fun post s x3 x4 n hs K => ?_⟩
    · show wX_run_24 post s (n + 1) x3 x4 f_unused f_constant f_word f_target f_channel f_level f_prefix f_negate f_operate f_disableChannel f_disableTimer (nI N) (nI C) (nI L) f_sealed f_timerHead f_running f_interrupted f_regA f_regB f_regC f_savedA f_savedB f_savedC f_operand (nI c) f_faults a_ops a_xs a_ys a_sizes a_address a_bytes a_indexAt a_locals a_states a_priorities a_pointers a_branches a_deadlines a_held a_readyLink a_timerLink a_head a_tail a_writers a_readers a_counters
      rw [wX_run_24]
      refine br_f hs (cX _ (br_t m1 ?_))
      unfold wX_run_56
      refine tX _ ?_
      obtain ⟨f_unused', f_constant', f_word', f_target', f_channel', f_level', f_prefix', f_negate', f_operate', f_disableChannel', f_disableTimer', f_processCount', f_channelCount', f_length', f_sealed', f_timerHead', f_running', f_interrupted', f_regA', f_regB', f_regC', f_savedA', f_savedB', f_savedC', f_operand', f_clock', f_faults', a_ops', a_xs', a_ys', a_sizes', a_address', a_bytes', a_indexAt', a_locals', a_states', a_priorities', a_pointers', a_branches', a_deadlines', a_held', a_readyLink', a_timerLink', a_head', a_tail', a_writers', a_readers', a_counters'⟩ := u'
      exact nm_e K
    · show wY_run_24 post s (n + 1) x3 x4 (nI L) (nI N) (nI C) (nI c) f_faults f_sealed g_nextTicket a_ops a_xs a_ys a_states a_priorities b_pos b_ra b_rb b_rc a_locals b_chan b_held b_named b_wake b_open b_guard b_timer b_chosen b_ticket b_sent b_received b_sentFold b_receivedFold
      rw [wY_run_24]
      refine br_f hs (cY _ (br_t m1 ?_))
      refine tY _ _ _ _ _ ?_
      obtain ⟨g_length', g_procs', g_chans', g_clock', g_faults', g_sealed', g_nextTicket', b_ops', b_xs', b_ys', b_st', b_prio', b_pos', b_ra', b_rb', b_rc', b_words', b_chan', b_held', b_named', b_wake', b_open', b_guard', b_timer', b_chosen', b_ticket', b_sent', b_received', b_sentFold', b_receivedFold'⟩ := v'
      exact K
  · subst e
    have hr8 : r < 8 := by omega
    obtain ⟨o, w, ptr, u, v, R1, fX, eX, eY⟩ := jw_exec (f_unused := f_unused) (f_constant := f_constant) (f_word := f_word) (f_target := f_target) (f_channel := f_channel) (f_level := f_level) (f_prefix := f_prefix) (f_negate := f_negate) (f_operate := f_operate) (f_disableChannel := f_disableChannel) (f_disableTimer := f_disableTimer) (f_sealed := f_sealed) (f_timerHead := f_timerHead) (f_interrupted := it) (f_regA := xa) (f_regB := xb) (f_regC := xc) (f_savedA := sa) (f_savedB := sb) (f_savedC := sc) (f_operand := f_operand) (f_faults := f_faults) (a_ops := a_ops) (a_xs := a_xs) (a_ys := a_ys) (a_sizes := a_sizes) (a_address := a_address) (a_bytes := a_bytes) (a_indexAt := a_indexAt) (a_locals := a_locals) (a_states := st) (a_priorities := a_priorities) (a_pointers := a_pointers) (a_branches := a_branches) (a_deadlines := a_deadlines) (a_held := a_held) (a_readyLink := a_readyLink) (a_timerLink := a_timerLink) (a_head := hd) (a_tail := a_tail) (a_writers := a_writers) (a_readers := a_readers) (a_counters := a_counters) (g_nextTicket := g_nextTicket) (b_pos := b_pos) (b_ra := b_ra) (b_rb := b_rb) (b_rc := b_rc) (b_chan := b_chan) (b_held := b_held) (b_named := b_named) (b_wake := b_wake) (b_open := b_open) (b_guard := b_guard) (b_timer := b_timer) (b_chosen := b_chosen) (b_ticket := b_ticket) (b_sent := b_sent) (b_received := b_received) (b_sentFold := b_sentFold) (b_receivedFold := b_receivedFold) hN hC hc hr8 CD D1
    obtain ⟨u', v', R', tX, tY⟩ := jw_tickR hN hc R1
    refine ⟨fun x => x + 1, u', v', rl_mono (by omega) R', fun post s x3 x4 n hs K => ?_, fun post s x3 x4 n hs K => ?_⟩
    · show wX_run_24 post s (n + 1) x3 x4 f_unused f_constant f_word f_target f_channel f_level f_prefix f_negate f_operate f_disableChannel f_disableTimer (nI N) (nI C) (nI L) f_sealed f_timerHead f_running f_interrupted f_regA f_regB f_regC f_savedA f_savedB f_savedC f_operand (nI c) f_faults a_ops a_xs a_ys a_sizes a_address a_bytes a_indexAt a_locals a_states a_priorities a_pointers a_branches a_deadlines a_held a_readyLink a_timerLink a_head a_tail a_writers a_readers a_counters
      rw [wX_run_24]
      refine br_f hs (cX _ (br_f (ba_p hr8) (fX _ (eX _ ?_))))
      obtain ⟨f_unused, f_constant, f_word, f_target, f_channel, f_level, f_prefix, f_negate, f_operate, f_disableChannel, f_disableTimer, f_processCount, f_channelCount, f_length, f_sealed, f_timerHead, f_running, f_interrupted, f_regA, f_regB, f_regC, f_savedA, f_savedB, f_savedC, f_operand, f_clock, f_faults, a_ops, a_xs, a_ys, a_sizes, a_address, a_bytes, a_indexAt, a_locals, a_states, a_priorities, a_pointers, a_branches, a_deadlines, a_held, a_readyLink, a_timerLink, a_head, a_tail, a_writers, a_readers, a_counters⟩ := u
      refine nm_e ?_
      unfold wX_run_56
      refine tX _ ?_
      obtain ⟨f_unused', f_constant', f_word', f_target', f_channel', f_level', f_prefix', f_negate', f_operate', f_disableChannel', f_disableTimer', f_processCount', f_channelCount', f_length', f_sealed', f_timerHead', f_running', f_interrupted', f_regA', f_regB', f_regC', f_savedA', f_savedB', f_savedC', f_operand', f_clock', f_faults', a_ops', a_xs', a_ys', a_sizes', a_address', a_bytes', a_indexAt', a_locals', a_states', a_priorities', a_pointers', a_branches', a_deadlines', a_held', a_readyLink', a_timerLink', a_head', a_tail', a_writers', a_readers', a_counters'⟩ := u'
      exact nm_e K
    · show wY_run_24 post s (n + 1) x3 x4 (nI L) (nI N) (nI C) (nI c) f_faults f_sealed g_nextTicket a_ops a_xs a_ys a_states a_priorities b_pos b_ra b_rb b_rc a_locals b_chan b_held b_named b_wake b_open b_guard b_timer b_chosen b_ticket b_sent b_received b_sentFold b_receivedFold
      rw [wY_run_24]
      refine br_f hs (cY _ (br_f (ba_p hr8) (eY _ ?_)))
      obtain ⟨g_length, g_procs, g_chans, g_clock, g_faults, g_sealed, g_nextTicket, b_ops, b_xs, b_ys, b_st, b_prio, b_pos, b_ra, b_rb, b_rc, b_words, b_chan, b_held, b_named, b_wake, b_open, b_guard, b_timer, b_chosen, b_ticket, b_sent, b_received, b_sentFold, b_receivedFold⟩ := v
      refine nm_e ?_
      refine tY _ _ _ _ _ ?_
      obtain ⟨g_length', g_procs', g_chans', g_clock', g_faults', g_sealed', g_nextTicket', b_ops', b_xs', b_ys', b_st', b_prio', b_pos', b_ra', b_rb', b_rc', b_words', b_chan', b_held', b_named', b_wake', b_open', b_guard', b_timer', b_chosen', b_ticket', b_sent', b_received', b_sentFold', b_receivedFold'⟩ := v'
      exact K
theorem jw_stepR {u : SX} {v : SY} (hN : N ≤ 8) (hC : C ≤ 8) (hc : c < 256) (hB : B < 2 ^ 31) (CD : rl_cd C L ad a_ops a_xs a_ys a_address a_bytes a_indexAt) (I : rl_R N C L B c ad f_sealed a_ops a_xs a_ys a_address a_bytes a_indexAt u v) : ∃ (e : Int32 → Int32) (u' : SX) (v' : SY), rl_R N C L (B + 9) ((c + 1) % 256) ad f_sealed a_ops a_xs a_ys a_address a_bytes a_indexAt u' v'
    ∧ (∀ (post : Int32 → SX → Prop) (s x3 x4 : Int32) (n : Nat), ¬ s ≤ x4 → rn_X post s n (e x3) (x4 + 1) u' → rn_X post s (n + 1) x3 x4 u)
    ∧ (∀ (post : Int32 → SY → Prop) (s x3 x4 : Int32) (n : Nat), ¬ s ≤ x4 → rn_Y post s n (e x3) (x4 + 1) v' → rn_Y post s (n + 1) x3 x4 v) := by
  refine rl_out (P := fun u v => ∃ (e : Int32 → Int32) (u' : SX) (v' : SY), rl_R N C L (B + 9) ((c + 1) % 256) ad f_sealed a_ops a_xs a_ys a_address a_bytes a_indexAt u' v'
    ∧ (∀ (post : Int32 → SX → Prop) (s x3 x4 : Int32) (n : Nat), ¬ s ≤ x4 → rn_X post s n (e x3) (x4 + 1) u' → rn_X post s (n + 1) x3 x4 u)
    ∧ (∀ (post : Int32 → SY → Prop) (s x3 x4 : Int32) (n : Nat), ¬ s ≤ x4 → rn_Y post s n (e x3) (x4 + 1) v' → rn_Y post s (n + 1) x3 x4 v)) ?_ I
  intros
  rename_i H
  exact jw_step hN hC hc hB CD H
theorem jw_run {S : Nat} (hN : N ≤ 8) (hC : C ≤ 8) (hS : S ≤ 200) (CD : rl_cd C L ad a_ops a_xs a_ys a_address a_bytes a_indexAt) : ∀ d i, i + d = S → ∀ (B c : Nat) (u : SX) (v : SY) (x3 : Int32), c < 256 → B + 9 * d < 2 ^ 31 → rl_R N C L B c ad f_sealed a_ops a_xs a_ys a_address a_bytes a_indexAt u v → ∃ (c' : Nat) (u' : SX) (v' : SY) (x3' : Int32), c' < 256 ∧ rl_R N C L (B + 9 * d) c' ad f_sealed a_ops a_xs a_ys a_address a_bytes a_indexAt u' v'
    ∧ (∀ post : Int32 → SX → Prop, post x3' u' → rn_X post (nI S) (d + 1) x3 (nI i) u) ∧ (∀ post : Int32 → SY → Prop, post x3' v' → rn_Y post (nI S) (d + 1) x3 (nI i) v) := by
  intro d
  induction d with
  | zero =>
    intro i hi B c u v x3 hc hB I
    have e : i = S := by omega
    subst e
    refine ⟨c, u, v, x3, hc, I, fun post K => ?_, fun post K => ?_⟩
    · obtain ⟨f_unused, f_constant, f_word, f_target, f_channel, f_level, f_prefix, f_negate, f_operate, f_disableChannel, f_disableTimer, f_processCount, f_channelCount, f_length, f_sealed, f_timerHead, f_running, f_interrupted, f_regA, f_regB, f_regC, f_savedA, f_savedB, f_savedC, f_operand, f_clock, f_faults, a_ops, a_xs, a_ys, a_sizes, a_address, a_bytes, a_indexAt, a_locals, a_states, a_priorities, a_pointers, a_branches, a_deadlines, a_held, a_readyLink, a_timerLink, a_head, a_tail, a_writers, a_readers, a_counters⟩ := u
      show wX_run_24 post (nI i) (0 + 1) x3 (nI i) f_unused f_constant f_word f_target f_channel f_level f_prefix f_negate f_operate f_disableChannel f_disableTimer f_processCount f_channelCount f_length f_sealed f_timerHead f_running f_interrupted f_regA f_regB f_regC f_savedA f_savedB f_savedC f_operand f_clock f_faults a_ops a_xs a_ys a_sizes a_address a_bytes a_indexAt a_locals a_states a_priorities a_pointers a_branches a_deadlines a_held a_readyLink a_timerLink a_head a_tail a_writers a_readers a_counters
      rw [wX_run_24]
      exact br_t (Int32.le_refl _) K
    · obtain ⟨g_length, g_procs, g_chans, g_clock, g_faults, g_sealed, g_nextTicket, b_ops, b_xs, b_ys, b_st, b_prio, b_pos, b_ra, b_rb, b_rc, b_words, b_chan, b_held, b_named, b_wake, b_open, b_guard, b_timer, b_chosen, b_ticket, b_sent, b_received, b_sentFold, b_receivedFold⟩ := v
      show wY_run_24 post (nI i) (0 + 1) x3 (nI i) g_length g_procs g_chans g_clock g_faults g_sealed g_nextTicket b_ops b_xs b_ys b_st b_prio b_pos b_ra b_rb b_rc b_words b_chan b_held b_named b_wake b_open b_guard b_timer b_chosen b_ticket b_sent b_received b_sentFold b_receivedFold
      rw [wY_run_24]
      exact br_t (Int32.le_refl _) K
  | succ d ih =>
    intro i hi B c u v x3 hc hB I
    have hs : ¬ nI S ≤ nI i := nI_ge (by omega) (by omega)
    obtain ⟨e, u1, v1, R1, sX, sY⟩ := jw_stepR hN hC hc (by omega) CD I
    obtain ⟨c', u', v', x3', hc', R', hX, hY⟩ := ih (i + 1) (by omega) (B + 9) ((c + 1) % 256) u1 v1 (e x3) (Nat.mod_lt _ (by decide)) (by omega) R1
    refine ⟨c', u', v', x3', hc', rl_mono (by omega) R', fun post K => ?_, fun post K => ?_⟩
    · refine sX post (nI S) x3 (nI i) (d + 1) hs ?_
      rw [nI_1]
      exact hX post K
    · refine sY post (nI S) x3 (nI i) (d + 1) hs ?_
      rw [nI_1]
      exact hY post K
end
section
variable {f_unused f_constant f_word f_target f_channel f_level f_prefix f_negate f_operate f_disableChannel f_disableTimer f_processCount f_channelCount f_length f_sealed f_timerHead f_running f_interrupted f_regA f_regB f_regC f_savedA f_savedB f_savedC f_operand f_clock f_faults : Int32} {a_ops a_xs a_ys a_sizes a_address a_bytes a_indexAt a_locals a_states a_priorities a_pointers a_branches a_deadlines a_held a_readyLink a_timerLink a_head a_tail a_writers a_readers a_counters : Nat → Int32}
variable {g_length g_procs g_chans g_clock g_faults g_sealed : Int32} {g_nextTicket : Int64} {b_ops b_xs b_ys b_st b_prio b_pos b_ra b_rb b_rc b_words b_chan b_held b_named b_wake b_open b_guard b_timer b_chosen b_sent b_received b_sentFold b_receivedFold : Nat → Int32} {b_ticket : Nat → Int64}
theorem jw_clamp (p : Int32) (lo hi : Nat) (h : lo ≤ hi) (hh : hi < 2 ^ 31) : ∃ m, lo ≤ m ∧ m ≤ hi ∧ (∀ post : Int32 → Prop, post (nI m) → wpX_clamp post (f_unused, f_constant, f_word, f_target, f_channel, f_level, f_prefix, f_negate, f_operate, f_disableChannel, f_disableTimer, f_processCount, f_channelCount, f_length, f_sealed, f_timerHead, f_running, f_interrupted, f_regA, f_regB, f_regC, f_savedA, f_savedB, f_savedC, f_operand, f_clock, f_faults, a_ops, a_xs, a_ys, a_sizes, a_address, a_bytes, a_indexAt, a_locals, a_states, a_priorities, a_pointers, a_branches, a_deadlines, a_held, a_readyLink, a_timerLink, a_head, a_tail, a_writers, a_readers, a_counters) p (nI lo) (nI hi)) ∧ (∀ post : Int32 → Prop, post (nI m) → wpY_clamp post (g_length, g_procs, g_chans, g_clock, g_faults, g_sealed, g_nextTicket, b_ops, b_xs, b_ys, b_st, b_prio, b_pos, b_ra, b_rb, b_rc, b_words, b_chan, b_held, b_named, b_wake, b_open, b_guard, b_timer, b_chosen, b_ticket, b_sent, b_received, b_sentFold, b_receivedFold) p (nI lo) (nI hi)) := by
  by_cases z : nI lo ≤ p
  · by_cases z2 : p ≤ nI hi
    · have z0 : ¬ p < 0 := fun q => by
        have h1 := nI_pos' (show lo < 2 ^ 31 by omega)
        exact Int32.lt_irrefl (Int32.lt_of_le_of_lt (Int32.le_trans h1 z) q)
      obtain ⟨j, hj, e⟩ := nI_of z0
      subst e
      rw [nI_leI (by omega) hj] at z
      rw [nI_leI hj hh] at z2
      refine ⟨j, z, z2, fun post K => br_t (nI_le z hj) (br_t (nI_le z2 hh) K), fun post K => br_t (nI_le z hj) (br_t (nI_le z2 hh) K)⟩
    · exact ⟨hi, h, Nat.le_refl _, fun post K => br_t z (br_f z2 K), fun post K => br_t z (br_f z2 K)⟩
  · exact ⟨lo, Nat.le_refl _, h, fun post K => br_f z K, fun post K => br_f z K⟩
end
end
section
/-! kinds of operands, the coded operand, its size -/
def kd_x : Nat → Nat
  | 0 => 1
  | 1 => 2
  | 2 => 2
  | 3 => 1
  | 6 => 3
  | 7 => 3
  | 8 => 3
  | 10 => 4
  | 11 => 4
  | 15 => 4
  | 18 => 4
  | 19 => 3
  | _ => 0
def kd_y : Nat → Nat
  | 8 => 5
  | 11 => 2
  | 18 => 3
  | _ => 0
theorem kd_xle : ∀ j, j < 21 → kd_x j < 5 := by decide
theorem kd_yle : ∀ j, j < 21 → kd_y j < 6 := by decide
/-- an operand of a kind; T: targets lie below it -/
def kd_v (C T : Nat) : Nat → Int32 → Prop
  | 0, _ => True
  | 1, v => -32768 ≤ v.toInt ∧ v.toInt ≤ 32767
  | 2, v => ∃ n, n < 8 ∧ v = nI n
  | 3, v => ∃ n, n < T ∧ v = nI n
  | 4, v => ∃ n, n < C ∧ v = nI n
  | _, v => ∃ n, n < 2 ∧ v = nI n
def kd_p (C T : Nat) (o x y : Int32) : Prop := ∃ j, j < 21 ∧ o = nI j ∧ kd_v C T (kd_x j) x ∧ kd_v C T (kd_y j) y
section
variable {f_unused f_constant f_word f_target f_channel f_level f_prefix f_negate f_operate f_disableChannel f_disableTimer f_processCount f_channelCount f_length f_sealed f_timerHead f_running f_interrupted f_regA f_regB f_regC f_savedA f_savedB f_savedC f_operand f_clock f_faults : Int32} {a_ops a_xs a_ys a_sizes a_address a_bytes a_indexAt a_locals a_states a_priorities a_pointers a_branches a_deadlines a_held a_readyLink a_timerLink a_head a_tail a_writers a_readers a_counters : Nat → Int32}
theorem xw_kx {post : Int32 → Prop} : ∀ j, j < 21 → post (nI (kd_x j)) → wpX_kindOfX post (f_unused, f_constant, f_word, f_target, f_channel, f_level, f_prefix, f_negate, f_operate, f_disableChannel, f_disableTimer, f_processCount, f_channelCount, f_length, f_sealed, f_timerHead, f_running, f_interrupted, f_regA, f_regB, f_regC, f_savedA, f_savedB, f_savedC, f_operand, f_clock, f_faults, a_ops, a_xs, a_ys, a_sizes, a_address, a_bytes, a_indexAt, a_locals, a_states, a_priorities, a_pointers, a_branches, a_deadlines, a_held, a_readyLink, a_timerLink, a_head, a_tail, a_writers, a_readers, a_counters) (nI j)
  | 0, _, K => br_f (by decide) <| br_f (by decide) <| br_t (by decide) K
  | 1, _, K => br_f (by decide) <| br_f (by decide) <| br_f (by decide) <| br_t (by decide) K
  | 2, _, K => br_f (by decide) <| br_f (by decide) <| br_f (by decide) <| br_f (by decide) <| br_t (by decide) K
  | 3, _, K => br_f (by decide) <| br_f (by decide) <| br_f (by decide) <| br_f (by decide) <| br_f (by decide) <| br_t (by decide) K
  | 4, _, K => br_f (by decide) <| br_f (by decide) <| br_f (by decide) <| br_f (by decide) <| br_f (by decide) <| br_f (by decide) <| br_t (by decide) K
  | 5, _, K => br_f (by decide) <| br_f (by decide) <| br_f (by decide) <| br_f (by decide) <| br_f (by decide) <| br_f (by decide) <| br_f (by decide) <| br_t (by decide) K
  | 6, _, K => br_f (by decide) <| br_f (by decide) <| br_f (by decide) <| br_f (by decide) <| br_f (by decide) <| br_f (by decide) <| br_f (by decide) <| br_f (by decide) <| br_t (by decide) K
  | 7, _, K => br_f (by decide) <| br_f (by decide) <| br_f (by decide) <| br_f (by decide) <| br_f (by decide) <| br_f (by decide) <| br_f (by decide) <| br_f (by decide) <| br_f (by decide) <| br_t (by decide) K
  | 8, _, K => br_f (by decide) <| br_f (by decide) <| br_f (by decide) <| br_f (by decide) <| br_f (by decide) <| br_f (by decide) <| br_f (by decide) <| br_f (by decide) <| br_f (by decide) <| br_f (by decide) <| br_t (by decide) K
  | 9, _, K => br_f (by decide) <| br_f (by decide) <| br_f (by decide) <| br_f (by decide) <| br_f (by decide) <| br_f (by decide) <| br_f (by decide) <| br_f (by decide) <| br_f (by decide) <| br_f (by decide) <| br_f (by decide) <| br_t (by decide) K
  | 10, _, K => br_f (by decide) <| br_f (by decide) <| br_f (by decide) <| br_f (by decide) <| br_f (by decide) <| br_f (by decide) <| br_f (by decide) <| br_f (by decide) <| br_f (by decide) <| br_f (by decide) <| br_f (by decide) <| br_f (by decide) <| br_t (by decide) K
  | 11, _, K => br_f (by decide) <| br_f (by decide) <| br_f (by decide) <| br_f (by decide) <| br_f (by decide) <| br_f (by decide) <| br_f (by decide) <| br_f (by decide) <| br_f (by decide) <| br_f (by decide) <| br_f (by decide) <| br_f (by decide) <| br_f (by decide) <| br_t (by decide) K
  | 12, _, K => br_f (by decide) <| br_f (by decide) <| br_f (by decide) <| br_f (by decide) <| br_f (by decide) <| br_f (by decide) <| br_f (by decide) <| br_f (by decide) <| br_f (by decide) <| br_f (by decide) <| br_f (by decide) <| br_f (by decide) <| br_f (by decide) <| br_f (by decide) <| br_t (by decide) K
  | 13, _, K => br_f (by decide) <| br_f (by decide) <| br_f (by decide) <| br_f (by decide) <| br_f (by decide) <| br_f (by decide) <| br_f (by decide) <| br_f (by decide) <| br_f (by decide) <| br_f (by decide) <| br_f (by decide) <| br_f (by decide) <| br_f (by decide) <| br_f (by decide) <| br_f (by decide) <| br_t (by decide) K
  | 14, _, K => br_f (by decide) <| br_f (by decide) <| br_f (by decide) <| br_f (by decide) <| br_f (by decide) <| br_f (by decide) <| br_f (by decide) <| br_f (by decide) <| br_f (by decide) <| br_f (by decide) <| br_f (by decide) <| br_f (by decide) <| br_f (by decide) <| br_f (by decide) <| br_f (by decide) <| br_f (by decide) <| br_t (by decide) K
  | 15, _, K => br_f (by decide) <| br_f (by decide) <| br_f (by decide) <| br_f (by decide) <| br_f (by decide) <| br_f (by decide) <| br_f (by decide) <| br_f (by decide) <| br_f (by decide) <| br_f (by decide) <| br_f (by decide) <| br_f (by decide) <| br_f (by decide) <| br_f (by decide) <| br_f (by decide) <| br_f (by decide) <| br_f (by decide) <| br_t (by decide) K
  | 16, _, K => br_f (by decide) <| br_f (by decide) <| br_f (by decide) <| br_f (by decide) <| br_f (by decide) <| br_f (by decide) <| br_f (by decide) <| br_f (by decide) <| br_f (by decide) <| br_f (by decide) <| br_f (by decide) <| br_f (by decide) <| br_f (by decide) <| br_f (by decide) <| br_f (by decide) <| br_f (by decide) <| br_f (by decide) <| br_f (by decide) <| br_t (by decide) K
  | 17, _, K => br_f (by decide) <| br_f (by decide) <| br_f (by decide) <| br_f (by decide) <| br_f (by decide) <| br_f (by decide) <| br_f (by decide) <| br_f (by decide) <| br_f (by decide) <| br_f (by decide) <| br_f (by decide) <| br_f (by decide) <| br_f (by decide) <| br_f (by decide) <| br_f (by decide) <| br_f (by decide) <| br_f (by decide) <| br_f (by decide) <| br_f (by decide) <| br_t (by decide) K
  | 18, _, K => br_f (by decide) <| br_f (by decide) <| br_f (by decide) <| br_f (by decide) <| br_f (by decide) <| br_f (by decide) <| br_f (by decide) <| br_f (by decide) <| br_f (by decide) <| br_f (by decide) <| br_f (by decide) <| br_f (by decide) <| br_f (by decide) <| br_f (by decide) <| br_f (by decide) <| br_f (by decide) <| br_f (by decide) <| br_f (by decide) <| br_f (by decide) <| br_f (by decide) <| br_t (by decide) K
  | 19, _, K => br_f (by decide) <| br_f (by decide) <| br_f (by decide) <| br_f (by decide) <| br_f (by decide) <| br_f (by decide) <| br_f (by decide) <| br_f (by decide) <| br_f (by decide) <| br_f (by decide) <| br_f (by decide) <| br_f (by decide) <| br_f (by decide) <| br_f (by decide) <| br_f (by decide) <| br_f (by decide) <| br_f (by decide) <| br_f (by decide) <| br_f (by decide) <| br_f (by decide) <| br_f (by decide) <| br_t (by decide) K
  | 20, _, K => br_f (by decide) (br_t (by decide) K)
  | n + 21, h, _ => absurd h (by omega)
theorem xw_ky {post : Int32 → Prop} : ∀ j, j < 21 → post (nI (kd_y j)) → wpX_kindOfY post (f_unused, f_constant, f_word, f_target, f_channel, f_level, f_prefix, f_negate, f_operate, f_disableChannel, f_disableTimer, f_processCount, f_channelCount, f_length, f_sealed, f_timerHead, f_running, f_interrupted, f_regA, f_regB, f_regC, f_savedA, f_savedB, f_savedC, f_operand, f_clock, f_faults, a_ops, a_xs, a_ys, a_sizes, a_address, a_bytes, a_indexAt, a_locals, a_states, a_priorities, a_pointers, a_branches, a_deadlines, a_held, a_readyLink, a_timerLink, a_head, a_tail, a_writers, a_readers, a_counters) (nI j)
  | 0, _, K => br_f (by decide) <| br_f (by decide) <| br_f (by decide) <| K
  | 1, _, K => br_f (by decide) <| br_f (by decide) <| br_f (by decide) <| K
  | 2, _, K => br_f (by decide) <| br_f (by decide) <| br_f (by decide) <| K
  | 3, _, K => br_f (by decide) <| br_f (by decide) <| br_f (by decide) <| K
  | 4, _, K => br_f (by decide) <| br_f (by decide) <| br_f (by decide) <| K
  | 5, _, K => br_f (by decide) <| br_f (by decide) <| br_f (by decide) <| K
  | 6, _, K => br_f (by decide) <| br_f (by decide) <| br_f (by decide) <| K
  | 7, _, K => br_f (by decide) <| br_f (by decide) <| br_f (by decide) <| K
  | 8, _, K => br_t (by decide) K
  | 9, _, K => br_f (by decide) <| br_f (by decide) <| br_f (by decide) <| K
  | 10, _, K => br_f (by decide) <| br_f (by decide) <| br_f (by decide) <| K
  | 11, _, K => br_f (by decide) <| br_t (by decide) K
  | 12, _, K => br_f (by decide) <| br_f (by decide) <| br_f (by decide) <| K
  | 13, _, K => br_f (by decide) <| br_f (by decide) <| br_f (by decide) <| K
  | 14, _, K => br_f (by decide) <| br_f (by decide) <| br_f (by decide) <| K
  | 15, _, K => br_f (by decide) <| br_f (by decide) <| br_f (by decide) <| K
  | 16, _, K => br_f (by decide) <| br_f (by decide) <| br_f (by decide) <| K
  | 17, _, K => br_f (by decide) <| br_f (by decide) <| br_f (by decide) <| K
  | 18, _, K => br_f (by decide) <| br_f (by decide) <| br_t (by decide) K
  | 19, _, K => br_f (by decide) <| br_f (by decide) <| br_f (by decide) <| K
  | 20, _, K => br_f (by decide) <| br_f (by decide) <| br_f (by decide) <| K
  | n + 21, h, _ => absurd h (by omega)
/-- the function's number -/
def kd_f : Nat → Nat
  | 0 => 0
  | 1 => 1
  | 2 => 2
  | 3 => 3
  | 4 => 9
  | 5 => 9
  | 6 => 6
  | 7 => 7
  | 8 => 8
  | 9 => 9
  | 10 => 10
  | 11 => 11
  | 12 => 9
  | 13 => 9
  | 14 => 9
  | 15 => 15
  | 16 => 9
  | 17 => 9
  | 18 => 12
  | 19 => 13
  | 20 => 9
  | _ => 9
theorem xw_fo {post : Int32 → Prop} : ∀ j, j < 21 → post (nI (kd_f j)) → wpX_functionOf post (f_unused, f_constant, f_word, f_target, f_channel, f_level, f_prefix, f_negate, f_operate, f_disableChannel, f_disableTimer, f_processCount, f_channelCount, f_length, f_sealed, f_timerHead, f_running, f_interrupted, f_regA, f_regB, f_regC, f_savedA, f_savedB, f_savedC, f_operand, f_clock, f_faults, a_ops, a_xs, a_ys, a_sizes, a_address, a_bytes, a_indexAt, a_locals, a_states, a_priorities, a_pointers, a_branches, a_deadlines, a_held, a_readyLink, a_timerLink, a_head, a_tail, a_writers, a_readers, a_counters) (nI j)
  | 0, _, K => br_f (by decide) <| br_f (by decide) <| xw_kx 0 (by decide) (br_f (by decide) K)
  | 1, _, K => br_f (by decide) <| br_f (by decide) <| xw_kx 1 (by decide) (br_f (by decide) K)
  | 2, _, K => br_f (by decide) <| br_f (by decide) <| xw_kx 2 (by decide) (br_f (by decide) K)
  | 3, _, K => br_f (by decide) <| br_f (by decide) <| xw_kx 3 (by decide) (br_f (by decide) K)
  | 4, _, K => br_f (by decide) <| br_f (by decide) <| xw_kx 4 (by decide) (br_t (by decide) K)
  | 5, _, K => br_f (by decide) <| br_f (by decide) <| xw_kx 5 (by decide) (br_t (by decide) K)
  | 6, _, K => br_f (by decide) <| br_f (by decide) <| xw_kx 6 (by decide) (br_f (by decide) K)
  | 7, _, K => br_f (by decide) <| br_f (by decide) <| xw_kx 7 (by decide) (br_f (by decide) K)
  | 8, _, K => br_f (by decide) <| br_f (by decide) <| xw_kx 8 (by decide) (br_f (by decide) K)
  | 9, _, K => br_f (by decide) <| br_f (by decide) <| xw_kx 9 (by decide) (br_t (by decide) K)
  | 10, _, K => br_f (by decide) <| br_f (by decide) <| xw_kx 10 (by decide) (br_f (by decide) K)
  | 11, _, K => br_f (by decide) <| br_f (by decide) <| xw_kx 11 (by decide) (br_f (by decide) K)
  | 12, _, K => br_f (by decide) <| br_f (by decide) <| xw_kx 12 (by decide) (br_t (by decide) K)
  | 13, _, K => br_f (by decide) <| br_f (by decide) <| xw_kx 13 (by decide) (br_t (by decide) K)
  | 14, _, K => br_f (by decide) <| br_f (by decide) <| xw_kx 14 (by decide) (br_t (by decide) K)
  | 15, _, K => br_f (by decide) <| br_f (by decide) <| xw_kx 15 (by decide) (br_f (by decide) K)
  | 16, _, K => br_f (by decide) <| br_f (by decide) <| xw_kx 16 (by decide) (br_t (by decide) K)
  | 17, _, K => br_f (by decide) <| br_f (by decide) <| xw_kx 17 (by decide) (br_t (by decide) K)
  | 18, _, K => br_t (by decide) K
  | 19, _, K => br_f (by decide) <| br_t (by decide) K
  | 20, _, K => br_f (by decide) <| br_f (by decide) <| xw_kx 20 (by decide) (br_t (by decide) K)
  | n + 21, h, _ => absurd h (by omega)
end
/-- the coded operand of instruction i -/
def ov_f (ad : Nat → Nat) (i : Nat) (x y : Int32) : Nat → Int32
  | 0 => x
  | 1 => x
  | 2 => x
  | 3 => x
  | 6 => nI (ad x.toNatClampNeg) - nI (ad (i + 1))
  | 7 => nI (ad x.toNatClampNeg) - nI (ad (i + 1))
  | 8 => ((nI (ad x.toNatClampNeg) - nI (ad (i + 1))) <<< ((1 : Int32) &&& 31)) ||| y
  | 10 => x
  | 11 => (y <<< ((3 : Int32) &&& 31)) ||| x
  | 15 => x
  | 18 => ((nI (ad y.toNatClampNeg) - nI (ad (i + 1))) <<< ((3 : Int32) &&& 31)) ||| x
  | 19 => nI (ad x.toNatClampNeg) - nI (ad (i + 1))
  | n => nI n
section
variable {f_unused f_constant f_word f_target f_channel f_level f_prefix f_negate f_operate f_disableChannel f_disableTimer f_processCount f_channelCount f_length f_sealed f_timerHead f_running f_interrupted f_regA f_regB f_regC f_savedA f_savedB f_savedC f_operand f_clock f_faults : Int32} {a_ops a_xs a_ys a_sizes a_address a_bytes a_indexAt a_locals a_states a_priorities a_pointers a_branches a_deadlines a_held a_readyLink a_timerLink a_head a_tail a_writers a_readers a_counters : Nat → Int32}
theorem xw_ov_0 {post : Int32 → Prop} {C L i : Nat} {ad : Nat → Nat} (hL : L ≤ 64) (hi : i < L) (hA : ∀ k, k ≤ L → a_address k = nI (ad k)) (eo : a_ops i = nI 0) (hx : kd_v C L (kd_x 0) (a_xs i)) (hy : kd_v C L (kd_y 0) (a_ys i)) (K : post (ov_f ad i (a_xs i) (a_ys i) 0)) : wpX_operandOf post (f_unused, f_constant, f_word, f_target, f_channel, f_level, f_prefix, f_negate, f_operate, f_disableChannel, f_disableTimer, f_processCount, f_channelCount, f_length, f_sealed, f_timerHead, f_running, f_interrupted, f_regA, f_regB, f_regC, f_savedA, f_savedB, f_savedC, f_operand, f_clock, f_faults, a_ops, a_xs, a_ys, a_sizes, a_address, a_bytes, a_indexAt, a_locals, a_states, a_priorities, a_pointers, a_branches, a_deadlines, a_held, a_readyLink, a_timerLink, a_head, a_tail, a_writers, a_readers, a_counters) (nI i) := by
    have hi64 : i < 64 := by omega
    simp only [wpX_operandOf, ba_v64 hi64, ba_c64 hi64, nI_1, nI_clamp (show i + 1 < 2 ^ 31 by omega), vp_in_nI (show i + 1 < 65 by omega) (show 65 < 2 ^ 31 by decide), eo, hA (i + 1) (by omega), forall_eq, true_implies, false_implies, not_true_eq_false, not_false_eq_true, and_true, true_and, implies_true]
    exact br_t (by decide) (xw_kx 0 (by decide) (br_f (by decide) (And.intro (ba_v64 hi64) (by rw [ba_c64 hi64]; exact K))))

theorem xw_ov_1 {post : Int32 → Prop} {C L i : Nat} {ad : Nat → Nat} (hL : L ≤ 64) (hi : i < L) (hA : ∀ k, k ≤ L → a_address k = nI (ad k)) (eo : a_ops i = nI 1) (hx : kd_v C L (kd_x 1) (a_xs i)) (hy : kd_v C L (kd_y 1) (a_ys i)) (K : post (ov_f ad i (a_xs i) (a_ys i) 1)) : wpX_operandOf post (f_unused, f_constant, f_word, f_target, f_channel, f_level, f_prefix, f_negate, f_operate, f_disableChannel, f_disableTimer, f_processCount, f_channelCount, f_length, f_sealed, f_timerHead, f_running, f_interrupted, f_regA, f_regB, f_regC, f_savedA, f_savedB, f_savedC, f_operand, f_clock, f_faults, a_ops, a_xs, a_ys, a_sizes, a_address, a_bytes, a_indexAt, a_locals, a_states, a_priorities, a_pointers, a_branches, a_deadlines, a_held, a_readyLink, a_timerLink, a_head, a_tail, a_writers, a_readers, a_counters) (nI i) := by
    have hi64 : i < 64 := by omega
    simp only [wpX_operandOf, ba_v64 hi64, ba_c64 hi64, nI_1, nI_clamp (show i + 1 < 2 ^ 31 by omega), vp_in_nI (show i + 1 < 65 by omega) (show 65 < 2 ^ 31 by decide), eo, hA (i + 1) (by omega), forall_eq, true_implies, false_implies, not_true_eq_false, not_false_eq_true, and_true, true_and, implies_true]
    exact br_t (by decide) (xw_kx 1 (by decide) (br_f (by decide) (And.intro (ba_v64 hi64) (by rw [ba_c64 hi64]; exact K))))

theorem xw_ov_2 {post : Int32 → Prop} {C L i : Nat} {ad : Nat → Nat} (hL : L ≤ 64) (hi : i < L) (hA : ∀ k, k ≤ L → a_address k = nI (ad k)) (eo : a_ops i = nI 2) (hx : kd_v C L (kd_x 2) (a_xs i)) (hy : kd_v C L (kd_y 2) (a_ys i)) (K : post (ov_f ad i (a_xs i) (a_ys i) 2)) : wpX_operandOf post (f_unused, f_constant, f_word, f_target, f_channel, f_level, f_prefix, f_negate, f_operate, f_disableChannel, f_disableTimer, f_processCount, f_channelCount, f_length, f_sealed, f_timerHead, f_running, f_interrupted, f_regA, f_regB, f_regC, f_savedA, f_savedB, f_savedC, f_operand, f_clock, f_faults, a_ops, a_xs, a_ys, a_sizes, a_address, a_bytes, a_indexAt, a_locals, a_states, a_priorities, a_pointers, a_branches, a_deadlines, a_held, a_readyLink, a_timerLink, a_head, a_tail, a_writers, a_readers, a_counters) (nI i) := by
    have hi64 : i < 64 := by omega
    simp only [wpX_operandOf, ba_v64 hi64, ba_c64 hi64, nI_1, nI_clamp (show i + 1 < 2 ^ 31 by omega), vp_in_nI (show i + 1 < 65 by omega) (show 65 < 2 ^ 31 by decide), eo, hA (i + 1) (by omega), forall_eq, true_implies, false_implies, not_true_eq_false, not_false_eq_true, and_true, true_and, implies_true]
    exact br_t (by decide) (xw_kx 2 (by decide) (br_f (by decide) (And.intro (ba_v64 hi64) (by rw [ba_c64 hi64]; exact K))))

theorem xw_ov_3 {post : Int32 → Prop} {C L i : Nat} {ad : Nat → Nat} (hL : L ≤ 64) (hi : i < L) (hA : ∀ k, k ≤ L → a_address k = nI (ad k)) (eo : a_ops i = nI 3) (hx : kd_v C L (kd_x 3) (a_xs i)) (hy : kd_v C L (kd_y 3) (a_ys i)) (K : post (ov_f ad i (a_xs i) (a_ys i) 3)) : wpX_operandOf post (f_unused, f_constant, f_word, f_target, f_channel, f_level, f_prefix, f_negate, f_operate, f_disableChannel, f_disableTimer, f_processCount, f_channelCount, f_length, f_sealed, f_timerHead, f_running, f_interrupted, f_regA, f_regB, f_regC, f_savedA, f_savedB, f_savedC, f_operand, f_clock, f_faults, a_ops, a_xs, a_ys, a_sizes, a_address, a_bytes, a_indexAt, a_locals, a_states, a_priorities, a_pointers, a_branches, a_deadlines, a_held, a_readyLink, a_timerLink, a_head, a_tail, a_writers, a_readers, a_counters) (nI i) := by
    have hi64 : i < 64 := by omega
    simp only [wpX_operandOf, ba_v64 hi64, ba_c64 hi64, nI_1, nI_clamp (show i + 1 < 2 ^ 31 by omega), vp_in_nI (show i + 1 < 65 by omega) (show 65 < 2 ^ 31 by decide), eo, hA (i + 1) (by omega), forall_eq, true_implies, false_implies, not_true_eq_false, not_false_eq_true, and_true, true_and, implies_true]
    exact br_t (by decide) (xw_kx 3 (by decide) (br_f (by decide) (And.intro (ba_v64 hi64) (by rw [ba_c64 hi64]; exact K))))

theorem xw_ov_4 {post : Int32 → Prop} {C L i : Nat} {ad : Nat → Nat} (hL : L ≤ 64) (hi : i < L) (hA : ∀ k, k ≤ L → a_address k = nI (ad k)) (eo : a_ops i = nI 4) (hx : kd_v C L (kd_x 4) (a_xs i)) (hy : kd_v C L (kd_y 4) (a_ys i)) (K : post (ov_f ad i (a_xs i) (a_ys i) 4)) : wpX_operandOf post (f_unused, f_constant, f_word, f_target, f_channel, f_level, f_prefix, f_negate, f_operate, f_disableChannel, f_disableTimer, f_processCount, f_channelCount, f_length, f_sealed, f_timerHead, f_running, f_interrupted, f_regA, f_regB, f_regC, f_savedA, f_savedB, f_savedC, f_operand, f_clock, f_faults, a_ops, a_xs, a_ys, a_sizes, a_address, a_bytes, a_indexAt, a_locals, a_states, a_priorities, a_pointers, a_branches, a_deadlines, a_held, a_readyLink, a_timerLink, a_head, a_tail, a_writers, a_readers, a_counters) (nI i) := by
    have hi64 : i < 64 := by omega
    simp only [wpX_operandOf, ba_v64 hi64, ba_c64 hi64, nI_1, nI_clamp (show i + 1 < 2 ^ 31 by omega), vp_in_nI (show i + 1 < 65 by omega) (show 65 < 2 ^ 31 by decide), eo, hA (i + 1) (by omega), forall_eq, true_implies, false_implies, not_true_eq_false, not_false_eq_true, and_true, true_and, implies_true]
    exact br_t (by decide) (xw_kx 4 (by decide) (br_t (by decide) K))

theorem xw_ov_5 {post : Int32 → Prop} {C L i : Nat} {ad : Nat → Nat} (hL : L ≤ 64) (hi : i < L) (hA : ∀ k, k ≤ L → a_address k = nI (ad k)) (eo : a_ops i = nI 5) (hx : kd_v C L (kd_x 5) (a_xs i)) (hy : kd_v C L (kd_y 5) (a_ys i)) (K : post (ov_f ad i (a_xs i) (a_ys i) 5)) : wpX_operandOf post (f_unused, f_constant, f_word, f_target, f_channel, f_level, f_prefix, f_negate, f_operate, f_disableChannel, f_disableTimer, f_processCount, f_channelCount, f_length, f_sealed, f_timerHead, f_running, f_interrupted, f_regA, f_regB, f_regC, f_savedA, f_savedB, f_savedC, f_operand, f_clock, f_faults, a_ops, a_xs, a_ys, a_sizes, a_address, a_bytes, a_indexAt, a_locals, a_states, a_priorities, a_pointers, a_branches, a_deadlines, a_held, a_readyLink, a_timerLink, a_head, a_tail, a_writers, a_readers, a_counters) (nI i) := by
    have hi64 : i < 64 := by omega
    simp only [wpX_operandOf, ba_v64 hi64, ba_c64 hi64, nI_1, nI_clamp (show i + 1 < 2 ^ 31 by omega), vp_in_nI (show i + 1 < 65 by omega) (show 65 < 2 ^ 31 by decide), eo, hA (i + 1) (by omega), forall_eq, true_implies, false_implies, not_true_eq_false, not_false_eq_true, and_true, true_and, implies_true]
    exact br_t (by decide) (xw_kx 5 (by decide) (br_t (by decide) K))

theorem xw_ov_6 {post : Int32 → Prop} {C L i : Nat} {ad : Nat → Nat} (hL : L ≤ 64) (hi : i < L) (hA : ∀ k, k ≤ L → a_address k = nI (ad k)) (eo : a_ops i = nI 6) (hx : kd_v C L (kd_x 6) (a_xs i)) (hy : kd_v C L (kd_y 6) (a_ys i)) (K : post (ov_f ad i (a_xs i) (a_ys i) 6)) : wpX_operandOf post (f_unused, f_constant, f_word, f_target, f_channel, f_level, f_prefix, f_negate, f_operate, f_disableChannel, f_disableTimer, f_processCount, f_channelCount, f_length, f_sealed, f_timerHead, f_running, f_interrupted, f_regA, f_regB, f_regC, f_savedA, f_savedB, f_savedC, f_operand, f_clock, f_faults, a_ops, a_xs, a_ys, a_sizes, a_address, a_bytes, a_indexAt, a_locals, a_states, a_priorities, a_pointers, a_branches, a_deadlines, a_held, a_readyLink, a_timerLink, a_head, a_tail, a_writers, a_readers, a_counters) (nI i) := by
    have hi64 : i < 64 := by omega
    simp only [wpX_operandOf, ba_v64 hi64, ba_c64 hi64, nI_1, nI_clamp (show i + 1 < 2 ^ 31 by omega), vp_in_nI (show i + 1 < 65 by omega) (show 65 < 2 ^ 31 by decide), eo, hA (i + 1) (by omega), forall_eq, true_implies, false_implies, not_true_eq_false, not_false_eq_true, and_true, true_and, implies_true]
    obtain ⟨k, hk, ek⟩ := hx
    have K2 : post (nI (ad (a_xs i).toNatClampNeg) - nI (ad (i + 1))) := K
    rw [ek, nI_clamp (show k < 2 ^ 31 by omega)] at K2
    refine br_f (by decide) <| br_f (by decide) <| br_t (by decide) ?_
    simp only [wX_operandOf_88, ba_v64 hi64, ba_c64 hi64, ek, nI_clamp (show k < 2 ^ 31 by omega), vp_in_nI (show k < 65 by omega) (show 65 < 2 ^ 31 by decide), hA k (by omega), forall_eq, true_implies, false_implies, not_true_eq_false, not_false_eq_true, and_true, true_and, implies_true]
    exact K2

theorem xw_ov_7 {post : Int32 → Prop} {C L i : Nat} {ad : Nat → Nat} (hL : L ≤ 64) (hi : i < L) (hA : ∀ k, k ≤ L → a_address k = nI (ad k)) (eo : a_ops i = nI 7) (hx : kd_v C L (kd_x 7) (a_xs i)) (hy : kd_v C L (kd_y 7) (a_ys i)) (K : post (ov_f ad i (a_xs i) (a_ys i) 7)) : wpX_operandOf post (f_unused, f_constant, f_word, f_target, f_channel, f_level, f_prefix, f_negate, f_operate, f_disableChannel, f_disableTimer, f_processCount, f_channelCount, f_length, f_sealed, f_timerHead, f_running, f_interrupted, f_regA, f_regB, f_regC, f_savedA, f_savedB, f_savedC, f_operand, f_clock, f_faults, a_ops, a_xs, a_ys, a_sizes, a_address, a_bytes, a_indexAt, a_locals, a_states, a_priorities, a_pointers, a_branches, a_deadlines, a_held, a_readyLink, a_timerLink, a_head, a_tail, a_writers, a_readers, a_counters) (nI i) := by
    have hi64 : i < 64 := by omega
    simp only [wpX_operandOf, ba_v64 hi64, ba_c64 hi64, nI_1, nI_clamp (show i + 1 < 2 ^ 31 by omega), vp_in_nI (show i + 1 < 65 by omega) (show 65 < 2 ^ 31 by decide), eo, hA (i + 1) (by omega), forall_eq, true_implies, false_implies, not_true_eq_false, not_false_eq_true, and_true, true_and, implies_true]
    obtain ⟨k, hk, ek⟩ := hx
    have K2 : post (nI (ad (a_xs i).toNatClampNeg) - nI (ad (i + 1))) := K
    rw [ek, nI_clamp (show k < 2 ^ 31 by omega)] at K2
    refine br_f (by decide) <| br_f (by decide) <| br_f (by decide) <| br_t (by decide) ?_
    simp only [wX_operandOf_88, ba_v64 hi64, ba_c64 hi64, ek, nI_clamp (show k < 2 ^ 31 by omega), vp_in_nI (show k < 65 by omega) (show 65 < 2 ^ 31 by decide), hA k (by omega), forall_eq, true_implies, false_implies, not_true_eq_false, not_false_eq_true, and_true, true_and, implies_true]
    exact K2

theorem xw_ov_8 {post : Int32 → Prop} {C L i : Nat} {ad : Nat → Nat} (hL : L ≤ 64) (hi : i < L) (hA : ∀ k, k ≤ L → a_address k = nI (ad k)) (eo : a_ops i = nI 8) (hx : kd_v C L (kd_x 8) (a_xs i)) (hy : kd_v C L (kd_y 8) (a_ys i)) (K : post (ov_f ad i (a_xs i) (a_ys i) 8)) : wpX_operandOf post (f_unused, f_constant, f_word, f_target, f_channel, f_level, f_prefix, f_negate, f_operate, f_disableChannel, f_disableTimer, f_processCount, f_channelCount, f_length, f_sealed, f_timerHead, f_running, f_interrupted, f_regA, f_regB, f_regC, f_savedA, f_savedB, f_savedC, f_operand, f_clock, f_faults, a_ops, a_xs, a_ys, a_sizes, a_address, a_bytes, a_indexAt, a_locals, a_states, a_priorities, a_pointers, a_branches, a_deadlines, a_held, a_readyLink, a_timerLink, a_head, a_tail, a_writers, a_readers, a_counters) (nI i) := by
    have hi64 : i < 64 := by omega
    simp only [wpX_operandOf, ba_v64 hi64, ba_c64 hi64, nI_1, nI_clamp (show i + 1 < 2 ^ 31 by omega), vp_in_nI (show i + 1 < 65 by omega) (show 65 < 2 ^ 31 by decide), eo, hA (i + 1) (by omega), forall_eq, true_implies, false_implies, not_true_eq_false, not_false_eq_true, and_true, true_and, implies_true]
    obtain ⟨k, hk, ek⟩ := hx
    simp only [ov_f, ek, nI_clamp (show k < 2 ^ 31 by omega)] at K
    refine br_f (by decide) <| br_f (by decide) <| br_f (by decide) <| br_f (by decide) <| br_t (by decide) ?_
    simp only [ba_v64 hi64, ba_c64 hi64, ek, nI_clamp (show k < 2 ^ 31 by omega), vp_in_nI (show k < 65 by omega) (show 65 < 2 ^ 31 by decide), hA k (by omega), forall_eq, true_implies, false_implies, not_true_eq_false, not_false_eq_true, and_true, true_and, implies_true]
    exact K

theorem xw_ov_9 {post : Int32 → Prop} {C L i : Nat} {ad : Nat → Nat} (hL : L ≤ 64) (hi : i < L) (hA : ∀ k, k ≤ L → a_address k = nI (ad k)) (eo : a_ops i = nI 9) (hx : kd_v C L (kd_x 9) (a_xs i)) (hy : kd_v C L (kd_y 9) (a_ys i)) (K : post (ov_f ad i (a_xs i) (a_ys i) 9)) : wpX_operandOf post (f_unused, f_constant, f_word, f_target, f_channel, f_level, f_prefix, f_negate, f_operate, f_disableChannel, f_disableTimer, f_processCount, f_channelCount, f_length, f_sealed, f_timerHead, f_running, f_interrupted, f_regA, f_regB, f_regC, f_savedA, f_savedB, f_savedC, f_operand, f_clock, f_faults, a_ops, a_xs, a_ys, a_sizes, a_address, a_bytes, a_indexAt, a_locals, a_states, a_priorities, a_pointers, a_branches, a_deadlines, a_held, a_readyLink, a_timerLink, a_head, a_tail, a_writers, a_readers, a_counters) (nI i) := by
    have hi64 : i < 64 := by omega
    simp only [wpX_operandOf, ba_v64 hi64, ba_c64 hi64, nI_1, nI_clamp (show i + 1 < 2 ^ 31 by omega), vp_in_nI (show i + 1 < 65 by omega) (show 65 < 2 ^ 31 by decide), eo, hA (i + 1) (by omega), forall_eq, true_implies, false_implies, not_true_eq_false, not_false_eq_true, and_true, true_and, implies_true]
    exact br_f (by decide) <| br_f (by decide) <| br_f (by decide) <| br_f (by decide) <| br_f (by decide) <| br_t (by decide) (xw_kx 9 (by decide) (br_t (by decide) K))

theorem xw_ov_10 {post : Int32 → Prop} {C L i : Nat} {ad : Nat → Nat} (hL : L ≤ 64) (hi : i < L) (hA : ∀ k, k ≤ L → a_address k = nI (ad k)) (eo : a_ops i = nI 10) (hx : kd_v C L (kd_x 10) (a_xs i)) (hy : kd_v C L (kd_y 10) (a_ys i)) (K : post (ov_f ad i (a_xs i) (a_ys i) 10)) : wpX_operandOf post (f_unused, f_constant, f_word, f_target, f_channel, f_level, f_prefix, f_negate, f_operate, f_disableChannel, f_disableTimer, f_processCount, f_channelCount, f_length, f_sealed, f_timerHead, f_running, f_interrupted, f_regA, f_regB, f_regC, f_savedA, f_savedB, f_savedC, f_operand, f_clock, f_faults, a_ops, a_xs, a_ys, a_sizes, a_address, a_bytes, a_indexAt, a_locals, a_states, a_priorities, a_pointers, a_branches, a_deadlines, a_held, a_readyLink, a_timerLink, a_head, a_tail, a_writers, a_readers, a_counters) (nI i) := by
    have hi64 : i < 64 := by omega
    simp only [wpX_operandOf, ba_v64 hi64, ba_c64 hi64, nI_1, nI_clamp (show i + 1 < 2 ^ 31 by omega), vp_in_nI (show i + 1 < 65 by omega) (show 65 < 2 ^ 31 by decide), eo, hA (i + 1) (by omega), forall_eq, true_implies, false_implies, not_true_eq_false, not_false_eq_true, and_true, true_and, implies_true]
    exact br_f (by decide) <| br_f (by decide) <| br_f (by decide) <| br_f (by decide) <| br_f (by decide) <| br_f (by decide) <| br_t (by decide) (xw_kx 10 (by decide) (br_f (by decide) (And.intro (ba_v64 hi64) (by rw [ba_c64 hi64]; exact K))))

theorem xw_ov_11 {post : Int32 → Prop} {C L i : Nat} {ad : Nat → Nat} (hL : L ≤ 64) (hi : i < L) (hA : ∀ k, k ≤ L → a_address k = nI (ad k)) (eo : a_ops i = nI 11) (hx : kd_v C L (kd_x 11) (a_xs i)) (hy : kd_v C L (kd_y 11) (a_ys i)) (K : post (ov_f ad i (a_xs i) (a_ys i) 11)) : wpX_operandOf post (f_unused, f_constant, f_word, f_target, f_channel, f_level, f_prefix, f_negate, f_operate, f_disableChannel, f_disableTimer, f_processCount, f_channelCount, f_length, f_sealed, f_timerHead, f_running, f_interrupted, f_regA, f_regB, f_regC, f_savedA, f_savedB, f_savedC, f_operand, f_clock, f_faults, a_ops, a_xs, a_ys, a_sizes, a_address, a_bytes, a_indexAt, a_locals, a_states, a_priorities, a_pointers, a_branches, a_deadlines, a_held, a_readyLink, a_timerLink, a_head, a_tail, a_writers, a_readers, a_counters) (nI i) := by
    have hi64 : i < 64 := by omega
    simp only [wpX_operandOf, ba_v64 hi64, ba_c64 hi64, nI_1, nI_clamp (show i + 1 < 2 ^ 31 by omega), vp_in_nI (show i + 1 < 65 by omega) (show 65 < 2 ^ 31 by decide), eo, hA (i + 1) (by omega), forall_eq, true_implies, false_implies, not_true_eq_false, not_false_eq_true, and_true, true_and, implies_true]
    exact br_f (by decide) <| br_f (by decide) <| br_f (by decide) <| br_f (by decide) <| br_f (by decide) <| br_f (by decide) <| br_f (by decide) <| br_t (by decide) K

theorem xw_ov_12 {post : Int32 → Prop} {C L i : Nat} {ad : Nat → Nat} (hL : L ≤ 64) (hi : i < L) (hA : ∀ k, k ≤ L → a_address k = nI (ad k)) (eo : a_ops i = nI 12) (hx : kd_v C L (kd_x 12) (a_xs i)) (hy : kd_v C L (kd_y 12) (a_ys i)) (K : post (ov_f ad i (a_xs i) (a_ys i) 12)) : wpX_operandOf post (f_unused, f_constant, f_word, f_target, f_channel, f_level, f_prefix, f_negate, f_operate, f_disableChannel, f_disableTimer, f_processCount, f_channelCount, f_length, f_sealed, f_timerHead, f_running, f_interrupted, f_regA, f_regB, f_regC, f_savedA, f_savedB, f_savedC, f_operand, f_clock, f_faults, a_ops, a_xs, a_ys, a_sizes, a_address, a_bytes, a_indexAt, a_locals, a_states, a_priorities, a_pointers, a_branches, a_deadlines, a_held, a_readyLink, a_timerLink, a_head, a_tail, a_writers, a_readers, a_counters) (nI i) := by
    have hi64 : i < 64 := by omega
    simp only [wpX_operandOf, ba_v64 hi64, ba_c64 hi64, nI_1, nI_clamp (show i + 1 < 2 ^ 31 by omega), vp_in_nI (show i + 1 < 65 by omega) (show 65 < 2 ^ 31 by decide), eo, hA (i + 1) (by omega), forall_eq, true_implies, false_implies, not_true_eq_false, not_false_eq_true, and_true, true_and, implies_true]
    exact br_f (by decide) <| br_f (by decide) <| br_f (by decide) <| br_f (by decide) <| br_f (by decide) <| br_f (by decide) <| br_f (by decide) <| br_f (by decide) <| br_t (by decide) (xw_kx 12 (by decide) (br_t (by decide) K))

theorem xw_ov_13 {post : Int32 → Prop} {C L i : Nat} {ad : Nat → Nat} (hL : L ≤ 64) (hi : i < L) (hA : ∀ k, k ≤ L → a_address k = nI (ad k)) (eo : a_ops i = nI 13) (hx : kd_v C L (kd_x 13) (a_xs i)) (hy : kd_v C L (kd_y 13) (a_ys i)) (K : post (ov_f ad i (a_xs i) (a_ys i) 13)) : wpX_operandOf post (f_unused, f_constant, f_word, f_target, f_channel, f_level, f_prefix, f_negate, f_operate, f_disableChannel, f_disableTimer, f_processCount, f_channelCount, f_length, f_sealed, f_timerHead, f_running, f_interrupted, f_regA, f_regB, f_regC, f_savedA, f_savedB, f_savedC, f_operand, f_clock, f_faults, a_ops, a_xs, a_ys, a_sizes, a_address, a_bytes, a_indexAt, a_locals, a_states, a_priorities, a_pointers, a_branches, a_deadlines, a_held, a_readyLink, a_timerLink, a_head, a_tail, a_writers, a_readers, a_counters) (nI i) := by
    have hi64 : i < 64 := by omega
    simp only [wpX_operandOf, ba_v64 hi64, ba_c64 hi64, nI_1, nI_clamp (show i + 1 < 2 ^ 31 by omega), vp_in_nI (show i + 1 < 65 by omega) (show 65 < 2 ^ 31 by decide), eo, hA (i + 1) (by omega), forall_eq, true_implies, false_implies, not_true_eq_false, not_false_eq_true, and_true, true_and, implies_true]
    exact br_f (by decide) <| br_f (by decide) <| br_f (by decide) <| br_f (by decide) <| br_f (by decide) <| br_f (by decide) <| br_f (by decide) <| br_f (by decide) <| br_f (by decide) <| br_t (by decide) (xw_kx 13 (by decide) (br_t (by decide) K))

theorem xw_ov_14 {post : Int32 → Prop} {C L i : Nat} {ad : Nat → Nat} (hL : L ≤ 64) (hi : i < L) (hA : ∀ k, k ≤ L → a_address k = nI (ad k)) (eo : a_ops i = nI 14) (hx : kd_v C L (kd_x 14) (a_xs i)) (hy : kd_v C L (kd_y 14) (a_ys i)) (K : post (ov_f ad i (a_xs i) (a_ys i) 14)) : wpX_operandOf post (f_unused, f_constant, f_word, f_target, f_channel, f_level, f_prefix, f_negate, f_operate, f_disableChannel, f_disableTimer, f_processCount, f_channelCount, f_length, f_sealed, f_timerHead, f_running, f_interrupted, f_regA, f_regB, f_regC, f_savedA, f_savedB, f_savedC, f_operand, f_clock, f_faults, a_ops, a_xs, a_ys, a_sizes, a_address, a_bytes, a_indexAt, a_locals, a_states, a_priorities, a_pointers, a_branches, a_deadlines, a_held, a_readyLink, a_timerLink, a_head, a_tail, a_writers, a_readers, a_counters) (nI i) := by
    have hi64 : i < 64 := by omega
    simp only [wpX_operandOf, ba_v64 hi64, ba_c64 hi64, nI_1, nI_clamp (show i + 1 < 2 ^ 31 by omega), vp_in_nI (show i + 1 < 65 by omega) (show 65 < 2 ^ 31 by decide), eo, hA (i + 1) (by omega), forall_eq, true_implies, false_implies, not_true_eq_false, not_false_eq_true, and_true, true_and, implies_true]
    exact br_f (by decide) <| br_f (by decide) <| br_f (by decide) <| br_f (by decide) <| br_f (by decide) <| br_f (by decide) <| br_f (by decide) <| br_f (by decide) <| br_f (by decide) <| br_f (by decide) <| br_t (by decide) (xw_kx 14 (by decide) (br_t (by decide) K))

theorem xw_ov_15 {post : Int32 → Prop} {C L i : Nat} {ad : Nat → Nat} (hL : L ≤ 64) (hi : i < L) (hA : ∀ k, k ≤ L → a_address k = nI (ad k)) (eo : a_ops i = nI 15) (hx : kd_v C L (kd_x 15) (a_xs i)) (hy : kd_v C L (kd_y 15) (a_ys i)) (K : post (ov_f ad i (a_xs i) (a_ys i) 15)) : wpX_operandOf post (f_unused, f_constant, f_word, f_target, f_channel, f_level, f_prefix, f_negate, f_operate, f_disableChannel, f_disableTimer, f_processCount, f_channelCount, f_length, f_sealed, f_timerHead, f_running, f_interrupted, f_regA, f_regB, f_regC, f_savedA, f_savedB, f_savedC, f_operand, f_clock, f_faults, a_ops, a_xs, a_ys, a_sizes, a_address, a_bytes, a_indexAt, a_locals, a_states, a_priorities, a_pointers, a_branches, a_deadlines, a_held, a_readyLink, a_timerLink, a_head, a_tail, a_writers, a_readers, a_counters) (nI i) := by
    have hi64 : i < 64 := by omega
    simp only [wpX_operandOf, ba_v64 hi64, ba_c64 hi64, nI_1, nI_clamp (show i + 1 < 2 ^ 31 by omega), vp_in_nI (show i + 1 < 65 by omega) (show 65 < 2 ^ 31 by decide), eo, hA (i + 1) (by omega), forall_eq, true_implies, false_implies, not_true_eq_false, not_false_eq_true, and_true, true_and, implies_true]
    exact br_f (by decide) <| br_f (by decide) <| br_f (by decide) <| br_f (by decide) <| br_f (by decide) <| br_f (by decide) <| br_f (by decide) <| br_f (by decide) <| br_f (by decide) <| br_f (by decide) <| br_f (by decide) <| br_t (by decide) (xw_kx 15 (by decide) (br_f (by decide) (And.intro (ba_v64 hi64) (by rw [ba_c64 hi64]; exact K))))

theorem xw_ov_16 {post : Int32 → Prop} {C L i : Nat} {ad : Nat → Nat} (hL : L ≤ 64) (hi : i < L) (hA : ∀ k, k ≤ L → a_address k = nI (ad k)) (eo : a_ops i = nI 16) (hx : kd_v C L (kd_x 16) (a_xs i)) (hy : kd_v C L (kd_y 16) (a_ys i)) (K : post (ov_f ad i (a_xs i) (a_ys i) 16)) : wpX_operandOf post (f_unused, f_constant, f_word, f_target, f_channel, f_level, f_prefix, f_negate, f_operate, f_disableChannel, f_disableTimer, f_processCount, f_channelCount, f_length, f_sealed, f_timerHead, f_running, f_interrupted, f_regA, f_regB, f_regC, f_savedA, f_savedB, f_savedC, f_operand, f_clock, f_faults, a_ops, a_xs, a_ys, a_sizes, a_address, a_bytes, a_indexAt, a_locals, a_states, a_priorities, a_pointers, a_branches, a_deadlines, a_held, a_readyLink, a_timerLink, a_head, a_tail, a_writers, a_readers, a_counters) (nI i) := by
    have hi64 : i < 64 := by omega
    simp only [wpX_operandOf, ba_v64 hi64, ba_c64 hi64, nI_1, nI_clamp (show i + 1 < 2 ^ 31 by omega), vp_in_nI (show i + 1 < 65 by omega) (show 65 < 2 ^ 31 by decide), eo, hA (i + 1) (by omega), forall_eq, true_implies, false_implies, not_true_eq_false, not_false_eq_true, and_true, true_and, implies_true]
    exact br_f (by decide) <| br_f (by decide) <| br_f (by decide) <| br_f (by decide) <| br_f (by decide) <| br_f (by decide) <| br_f (by decide) <| br_f (by decide) <| br_f (by decide) <| br_f (by decide) <| br_f (by decide) <| br_f (by decide) <| br_t (by decide) (xw_kx 16 (by decide) (br_t (by decide) K))

theorem xw_ov_17 {post : Int32 → Prop} {C L i : Nat} {ad : Nat → Nat} (hL : L ≤ 64) (hi : i < L) (hA : ∀ k, k ≤ L → a_address k = nI (ad k)) (eo : a_ops i = nI 17) (hx : kd_v C L (kd_x 17) (a_xs i)) (hy : kd_v C L (kd_y 17) (a_ys i)) (K : post (ov_f ad i (a_xs i) (a_ys i) 17)) : wpX_operandOf post (f_unused, f_constant, f_word, f_target, f_channel, f_level, f_prefix, f_negate, f_operate, f_disableChannel, f_disableTimer, f_processCount, f_channelCount, f_length, f_sealed, f_timerHead, f_running, f_interrupted, f_regA, f_regB, f_regC, f_savedA, f_savedB, f_savedC, f_operand, f_clock, f_faults, a_ops, a_xs, a_ys, a_sizes, a_address, a_bytes, a_indexAt, a_locals, a_states, a_priorities, a_pointers, a_branches, a_deadlines, a_held, a_readyLink, a_timerLink, a_head, a_tail, a_writers, a_readers, a_counters) (nI i) := by
    have hi64 : i < 64 := by omega
    simp only [wpX_operandOf, ba_v64 hi64, ba_c64 hi64, nI_1, nI_clamp (show i + 1 < 2 ^ 31 by omega), vp_in_nI (show i + 1 < 65 by omega) (show 65 < 2 ^ 31 by decide), eo, hA (i + 1) (by omega), forall_eq, true_implies, false_implies, not_true_eq_false, not_false_eq_true, and_true, true_and, implies_true]
    exact br_f (by decide) <| br_f (by decide) <| br_f (by decide) <| br_f (by decide) <| br_f (by decide) <| br_f (by decide) <| br_f (by decide) <| br_f (by decide) <| br_f (by decide) <| br_f (by decide) <| br_f (by decide) <| br_f (by decide) <| br_f (by decide) <| br_t (by decide) (xw_kx 17 (by decide) (br_t (by decide) K))

theorem xw_ov_18 {post : Int32 → Prop} {C L i : Nat} {ad : Nat → Nat} (hL : L ≤ 64) (hi : i < L) (hA : ∀ k, k ≤ L → a_address k = nI (ad k)) (eo : a_ops i = nI 18) (hx : kd_v C L (kd_x 18) (a_xs i)) (hy : kd_v C L (kd_y 18) (a_ys i)) (K : post (ov_f ad i (a_xs i) (a_ys i) 18)) : wpX_operandOf post (f_unused, f_constant, f_word, f_target, f_channel, f_level, f_prefix, f_negate, f_operate, f_disableChannel, f_disableTimer, f_processCount, f_channelCount, f_length, f_sealed, f_timerHead, f_running, f_interrupted, f_regA, f_regB, f_regC, f_savedA, f_savedB, f_savedC, f_operand, f_clock, f_faults, a_ops, a_xs, a_ys, a_sizes, a_address, a_bytes, a_indexAt, a_locals, a_states, a_priorities, a_pointers, a_branches, a_deadlines, a_held, a_readyLink, a_timerLink, a_head, a_tail, a_writers, a_readers, a_counters) (nI i) := by
    have hi64 : i < 64 := by omega
    simp only [wpX_operandOf, ba_v64 hi64, ba_c64 hi64, nI_1, nI_clamp (show i + 1 < 2 ^ 31 by omega), vp_in_nI (show i + 1 < 65 by omega) (show 65 < 2 ^ 31 by decide), eo, hA (i + 1) (by omega), forall_eq, true_implies, false_implies, not_true_eq_false, not_false_eq_true, and_true, true_and, implies_true]
    obtain ⟨k, hk, ek⟩ := hy
    simp only [ov_f, ek, nI_clamp (show k < 2 ^ 31 by omega)] at K
    refine br_f (by decide) <| br_f (by decide) <| br_f (by decide) <| br_f (by decide) <| br_f (by decide) <| br_f (by decide) <| br_f (by decide) <| br_f (by decide) <| br_f (by decide) <| br_f (by decide) <| br_f (by decide) <| br_f (by decide) <| br_f (by decide) <| br_f (by decide) <| br_t (by decide) ?_
    simp only [ba_v64 hi64, ba_c64 hi64, ek, nI_clamp (show k < 2 ^ 31 by omega), vp_in_nI (show k < 65 by omega) (show 65 < 2 ^ 31 by decide), hA k (by omega), forall_eq, true_implies, false_implies, not_true_eq_false, not_false_eq_true, and_true, true_and, implies_true]
    exact K

theorem xw_ov_19 {post : Int32 → Prop} {C L i : Nat} {ad : Nat → Nat} (hL : L ≤ 64) (hi : i < L) (hA : ∀ k, k ≤ L → a_address k = nI (ad k)) (eo : a_ops i = nI 19) (hx : kd_v C L (kd_x 19) (a_xs i)) (hy : kd_v C L (kd_y 19) (a_ys i)) (K : post (ov_f ad i (a_xs i) (a_ys i) 19)) : wpX_operandOf post (f_unused, f_constant, f_word, f_target, f_channel, f_level, f_prefix, f_negate, f_operate, f_disableChannel, f_disableTimer, f_processCount, f_channelCount, f_length, f_sealed, f_timerHead, f_running, f_interrupted, f_regA, f_regB, f_regC, f_savedA, f_savedB, f_savedC, f_operand, f_clock, f_faults, a_ops, a_xs, a_ys, a_sizes, a_address, a_bytes, a_indexAt, a_locals, a_states, a_priorities, a_pointers, a_branches, a_deadlines, a_held, a_readyLink, a_timerLink, a_head, a_tail, a_writers, a_readers, a_counters) (nI i) := by
    have hi64 : i < 64 := by omega
    simp only [wpX_operandOf, ba_v64 hi64, ba_c64 hi64, nI_1, nI_clamp (show i + 1 < 2 ^ 31 by omega), vp_in_nI (show i + 1 < 65 by omega) (show 65 < 2 ^ 31 by decide), eo, hA (i + 1) (by omega), forall_eq, true_implies, false_implies, not_true_eq_false, not_false_eq_true, and_true, true_and, implies_true]
    obtain ⟨k, hk, ek⟩ := hx
    have K2 : post (nI (ad (a_xs i).toNatClampNeg) - nI (ad (i + 1))) := K
    rw [ek, nI_clamp (show k < 2 ^ 31 by omega)] at K2
    refine br_f (by decide) <| br_f (by decide) <| br_f (by decide) <| br_f (by decide) <| br_f (by decide) <| br_f (by decide) <| br_f (by decide) <| br_f (by decide) <| br_f (by decide) <| br_f (by decide) <| br_f (by decide) <| br_f (by decide) <| br_f (by decide) <| br_f (by decide) <| br_f (by decide) <| (fun _ => ?_)
    simp only [wX_operandOf_88, ba_v64 hi64, ba_c64 hi64, ek, nI_clamp (show k < 2 ^ 31 by omega), vp_in_nI (show k < 65 by omega) (show 65 < 2 ^ 31 by decide), hA k (by omega), forall_eq, true_implies, false_implies, not_true_eq_false, not_false_eq_true, and_true, true_and, implies_true]
    exact K2

theorem xw_ov_20 {post : Int32 → Prop} {C L i : Nat} {ad : Nat → Nat} (hL : L ≤ 64) (hi : i < L) (hA : ∀ k, k ≤ L → a_address k = nI (ad k)) (eo : a_ops i = nI 20) (hx : kd_v C L (kd_x 20) (a_xs i)) (hy : kd_v C L (kd_y 20) (a_ys i)) (K : post (ov_f ad i (a_xs i) (a_ys i) 20)) : wpX_operandOf post (f_unused, f_constant, f_word, f_target, f_channel, f_level, f_prefix, f_negate, f_operate, f_disableChannel, f_disableTimer, f_processCount, f_channelCount, f_length, f_sealed, f_timerHead, f_running, f_interrupted, f_regA, f_regB, f_regC, f_savedA, f_savedB, f_savedC, f_operand, f_clock, f_faults, a_ops, a_xs, a_ys, a_sizes, a_address, a_bytes, a_indexAt, a_locals, a_states, a_priorities, a_pointers, a_branches, a_deadlines, a_held, a_readyLink, a_timerLink, a_head, a_tail, a_writers, a_readers, a_counters) (nI i) := by
    have hi64 : i < 64 := by omega
    simp only [wpX_operandOf, ba_v64 hi64, ba_c64 hi64, nI_1, nI_clamp (show i + 1 < 2 ^ 31 by omega), vp_in_nI (show i + 1 < 65 by omega) (show 65 < 2 ^ 31 by decide), eo, hA (i + 1) (by omega), forall_eq, true_implies, false_implies, not_true_eq_false, not_false_eq_true, and_true, true_and, implies_true]
    exact br_f (by decide) (br_t (by decide) (xw_kx 20 (by decide) (br_t (by decide) K)))

theorem xw_ov {post : Int32 → Prop} {C L i : Nat} {ad : Nat → Nat} (hL : L ≤ 64) (hi : i < L) (hA : ∀ k, k ≤ L → a_address k = nI (ad k)) : ∀ j, j < 21 → a_ops i = nI j → kd_v C L (kd_x j) (a_xs i) → kd_v C L (kd_y j) (a_ys i) → post (ov_f ad i (a_xs i) (a_ys i) j) → wpX_operandOf post (f_unused, f_constant, f_word, f_target, f_channel, f_level, f_prefix, f_negate, f_operate, f_disableChannel, f_disableTimer, f_processCount, f_channelCount, f_length, f_sealed, f_timerHead, f_running, f_interrupted, f_regA, f_regB, f_regC, f_savedA, f_savedB, f_savedC, f_operand, f_clock, f_faults, a_ops, a_xs, a_ys, a_sizes, a_address, a_bytes, a_indexAt, a_locals, a_states, a_priorities, a_pointers, a_branches, a_deadlines, a_held, a_readyLink, a_timerLink, a_head, a_tail, a_writers, a_readers, a_counters) (nI i)
  | 0, _, eo, hx, hy, K => xw_ov_0 hL hi hA eo hx hy K
  | 1, _, eo, hx, hy, K => xw_ov_1 hL hi hA eo hx hy K
  | 2, _, eo, hx, hy, K => xw_ov_2 hL hi hA eo hx hy K
  | 3, _, eo, hx, hy, K => xw_ov_3 hL hi hA eo hx hy K
  | 4, _, eo, hx, hy, K => xw_ov_4 hL hi hA eo hx hy K
  | 5, _, eo, hx, hy, K => xw_ov_5 hL hi hA eo hx hy K
  | 6, _, eo, hx, hy, K => xw_ov_6 hL hi hA eo hx hy K
  | 7, _, eo, hx, hy, K => xw_ov_7 hL hi hA eo hx hy K
  | 8, _, eo, hx, hy, K => xw_ov_8 hL hi hA eo hx hy K
  | 9, _, eo, hx, hy, K => xw_ov_9 hL hi hA eo hx hy K
  | 10, _, eo, hx, hy, K => xw_ov_10 hL hi hA eo hx hy K
  | 11, _, eo, hx, hy, K => xw_ov_11 hL hi hA eo hx hy K
  | 12, _, eo, hx, hy, K => xw_ov_12 hL hi hA eo hx hy K
  | 13, _, eo, hx, hy, K => xw_ov_13 hL hi hA eo hx hy K
  | 14, _, eo, hx, hy, K => xw_ov_14 hL hi hA eo hx hy K
  | 15, _, eo, hx, hy, K => xw_ov_15 hL hi hA eo hx hy K
  | 16, _, eo, hx, hy, K => xw_ov_16 hL hi hA eo hx hy K
  | 17, _, eo, hx, hy, K => xw_ov_17 hL hi hA eo hx hy K
  | 18, _, eo, hx, hy, K => xw_ov_18 hL hi hA eo hx hy K
  | 19, _, eo, hx, hy, K => xw_ov_19 hL hi hA eo hx hy K
  | 20, _, eo, hx, hy, K => xw_ov_20 hL hi hA eo hx hy K
  | n + 21, h, _, _, _, _ => absurd h (by omega)
end
end
section
/-! coded operands: their size, and what they give back -/
def ov_r (w : Int32) : Prop := (¬ w < 0 ∧ w < 65536) ∨ (w < 0 ∧ w ^^^ (-1) < 65536)
theorem ov_fitR {w : Int32} (h : ov_r w) : cd_fit w 4 := by
  rcases cd_mag w with ⟨z, m, hm, e⟩ | ⟨z, m, hm, e⟩
  · rcases h with ⟨_, h⟩ | ⟨h, _⟩
    · rw [e] at h
      have h2 : m < 65536 := (nI_ltI (b := 65536) hm (by decide)).mp h
      exact ⟨m, hm, h2, Or.inl ⟨z, e, by decide⟩⟩
    · exact absurd h z
  · rcases h with ⟨h, _⟩ | ⟨_, h⟩
    · exact absurd z h
    · rw [e] at h
      have h2 : m < 65536 := (nI_ltI (b := 65536) hm (by decide)).mp h
      exact ⟨m, hm, h2, Or.inr ⟨z, e, by decide⟩⟩
theorem ov_small {n : Nat} (h : n < 64) : cd_fit (nI n) 4 := ⟨n, by omega, Nat.lt_of_lt_of_le h (by decide), Or.inl ⟨nI_pos (by omega), rfl, by decide⟩⟩
theorem ov_const {x : Int32} (h1 : -32768 ≤ x.toInt) (h2 : x.toInt ≤ 32767) : cd_fit x 4 := by
  rcases cd_mag x with ⟨z, m, hm, e⟩ | ⟨z, m, hm, e⟩
  · have e2 : x.toInt = (m : Int) := by rw [e]; exact nI_toInt hm
    exact ⟨m, hm, Nat.lt_of_lt_of_le (show m < 32768 by omega) (by decide), Or.inl ⟨z, e, by decide⟩⟩
  · have e2 : (x ^^^ (-1)).toInt = (m : Int) := by rw [e]; exact nI_toInt hm
    rw [Int32.xor_neg_one, Int32.toInt_not] at e2
    have e3 : (-x.toInt - 1).bmod (2 ^ 32) = -x.toInt - 1 := Int.bmod_eq_of_le (by omega) (by omega)
    rw [e3] at e2
    exact ⟨m, hm, Nat.lt_of_lt_of_le (show m < 32768 by omega) (by decide), Or.inr ⟨z, e, by decide⟩⟩
theorem ov_d {p q : Nat} (hp : p ≤ 256) (hq : q ≤ 256) : ∃ a, a < 513 ∧ nI p - nI q = nI a - 256 := by
  refine ⟨p + 256 - q, by omega, ?_⟩
  have h : nI (p + 256 - q) + nI q = nI p + nI 256 := by
    rw [nI_add, nI_add]
    exact congrArg nI (by omega)
  have h2 : nI 256 = 256 := by decide
  rw [h2] at h
  grind
theorem ov_t0 : ∀ a, a < 513 → ((¬ nI a - 256 < 0 ∧ nI a - 256 < 65536) ∨ (nI a - 256 < 0 ∧ (nI a - 256) ^^^ (-1) < 65536)) := by decide +kernel
theorem ov_t1 : ∀ a, a < 513 → ∀ m, m < 2 → ((((nI a - 256) <<< ((1 : Int32) &&& 31)) ||| nI m) >>> ((1 : Int32) &&& 31) = nI a - 256 ∧ (((nI a - 256) <<< ((1 : Int32) &&& 31)) ||| nI m) &&& 1 = nI m ∧ ((¬ ((nI a - 256) <<< ((1 : Int32) &&& 31)) ||| nI m < 0 ∧ ((nI a - 256) <<< ((1 : Int32) &&& 31)) ||| nI m < 65536) ∨ (((nI a - 256) <<< ((1 : Int32) &&& 31)) ||| nI m < 0 ∧ (((nI a - 256) <<< ((1 : Int32) &&& 31)) ||| nI m) ^^^ (-1) < 65536))) := by decide +kernel
theorem ov_t3 : ∀ a, a < 513 → ∀ m, m < 8 → ((((nI a - 256) <<< ((3 : Int32) &&& 31)) ||| nI m) >>> ((3 : Int32) &&& 31) = nI a - 256 ∧ (((nI a - 256) <<< ((3 : Int32) &&& 31)) ||| nI m) &&& 7 = nI m ∧ ((¬ ((nI a - 256) <<< ((3 : Int32) &&& 31)) ||| nI m < 0 ∧ ((nI a - 256) <<< ((3 : Int32) &&& 31)) ||| nI m < 65536) ∨ (((nI a - 256) <<< ((3 : Int32) &&& 31)) ||| nI m < 0 ∧ (((nI a - 256) <<< ((3 : Int32) &&& 31)) ||| nI m) ^^^ (-1) < 65536))) := by decide +kernel
theorem ov_ti : ∀ h, h < 8 → ∀ m, m < 8 → (((nI h <<< ((3 : Int32) &&& 31)) ||| nI m) &&& 7 = nI m ∧ (((nI h <<< ((3 : Int32) &&& 31)) ||| nI m) >>> ((3 : Int32) &&& 31)) &&& 7 = nI h ∧ ((¬ (nI h <<< ((3 : Int32) &&& 31)) ||| nI m < 0 ∧ (nI h <<< ((3 : Int32) &&& 31)) ||| nI m < 65536) ∨ ((nI h <<< ((3 : Int32) &&& 31)) ||| nI m < 0 ∧ ((nI h <<< ((3 : Int32) &&& 31)) ||| nI m) ^^^ (-1) < 65536))) := by decide +kernel
section
variable {C L i : Nat} {ad : Nat → Nat} {x y : Int32}
theorem ov_b_0 (hC : C ≤ 8) (hL : L ≤ 64) (hi : i < L) (hA : ∀ k, k ≤ L → ad k ≤ 256) (hx : kd_v C L (kd_x 0) x) (hy : kd_v C L (kd_y 0) y) : cd_fit (ov_f ad i x y 0) 4 ∧ cd_in C L ad i (nI 0) x y (nI (kd_f 0)) (ov_f ad i x y 0) := by
  exact ⟨ov_const hx.1 hx.2, Or.inr (Or.inl ⟨by decide, Or.inl (by decide), rfl⟩)⟩

theorem ov_b_1 (hC : C ≤ 8) (hL : L ≤ 64) (hi : i < L) (hA : ∀ k, k ≤ L → ad k ≤ 256) (hx : kd_v C L (kd_x 1) x) (hy : kd_v C L (kd_y 1) y) : cd_fit (ov_f ad i x y 1) 4 ∧ cd_in C L ad i (nI 1) x y (nI (kd_f 1)) (ov_f ad i x y 1) := by
  obtain ⟨k, hk, e⟩ := hx
  subst e
  exact ⟨ov_small (n := k) (by omega), Or.inr (Or.inr (Or.inl ⟨by decide, Or.inl (by decide), k, hk, rfl, rfl⟩))⟩

theorem ov_b_2 (hC : C ≤ 8) (hL : L ≤ 64) (hi : i < L) (hA : ∀ k, k ≤ L → ad k ≤ 256) (hx : kd_v C L (kd_x 2) x) (hy : kd_v C L (kd_y 2) y) : cd_fit (ov_f ad i x y 2) 4 ∧ cd_in C L ad i (nI 2) x y (nI (kd_f 2)) (ov_f ad i x y 2) := by
  obtain ⟨k, hk, e⟩ := hx
  subst e
  exact ⟨ov_small (n := k) (by omega), Or.inr (Or.inr (Or.inl ⟨by decide, Or.inr (by decide), k, hk, rfl, rfl⟩))⟩

theorem ov_b_3 (hC : C ≤ 8) (hL : L ≤ 64) (hi : i < L) (hA : ∀ k, k ≤ L → ad k ≤ 256) (hx : kd_v C L (kd_x 3) x) (hy : kd_v C L (kd_y 3) y) : cd_fit (ov_f ad i x y 3) 4 ∧ cd_in C L ad i (nI 3) x y (nI (kd_f 3)) (ov_f ad i x y 3) := by
  exact ⟨ov_const hx.1 hx.2, Or.inr (Or.inl ⟨by decide, Or.inr (by decide), rfl⟩)⟩

theorem ov_b_4 (hC : C ≤ 8) (hL : L ≤ 64) (hi : i < L) (hA : ∀ k, k ≤ L → ad k ≤ 256) (hx : kd_v C L (kd_x 4) x) (hy : kd_v C L (kd_y 4) y) : cd_fit (ov_f ad i x y 4) 4 ∧ cd_in C L ad i (nI 4) x y (nI (kd_f 4)) (ov_f ad i x y 4) := by
  exact ⟨ov_small (n := 4) (by decide), Or.inl ⟨by decide, rfl, Or.inl (by decide)⟩⟩

theorem ov_b_5 (hC : C ≤ 8) (hL : L ≤ 64) (hi : i < L) (hA : ∀ k, k ≤ L → ad k ≤ 256) (hx : kd_v C L (kd_x 5) x) (hy : kd_v C L (kd_y 5) y) : cd_fit (ov_f ad i x y 5) 4 ∧ cd_in C L ad i (nI 5) x y (nI (kd_f 5)) (ov_f ad i x y 5) := by
  exact ⟨ov_small (n := 5) (by decide), Or.inl ⟨by decide, rfl, Or.inr (Or.inl (by decide))⟩⟩

theorem ov_b_6 (hC : C ≤ 8) (hL : L ≤ 64) (hi : i < L) (hA : ∀ k, k ≤ L → ad k ≤ 256) (hx : kd_v C L (kd_x 6) x) (hy : kd_v C L (kd_y 6) y) : cd_fit (ov_f ad i x y 6) 4 ∧ cd_in C L ad i (nI 6) x y (nI (kd_f 6)) (ov_f ad i x y 6) := by
  obtain ⟨k, hk, e⟩ := hx
  subst e
  have ew : ov_f ad i (nI k) y 6 = nI (ad k) - nI (ad (i + 1)) := by
    show nI (ad (nI k).toNatClampNeg) - nI (ad (i + 1)) = _
    rw [nI_clamp (show k < 2 ^ 31 by omega)]
  obtain ⟨a, ha, ea⟩ := ov_d (hA k (by omega)) (hA (i + 1) (by omega))
  refine ⟨ov_fitR ?_, Or.inr (Or.inr (Or.inr (Or.inr (Or.inl ⟨by decide, Or.inl (by decide), k, hk, rfl, ew⟩))))⟩
  rw [ew, ea]
  exact ov_t0 a ha

theorem ov_b_7 (hC : C ≤ 8) (hL : L ≤ 64) (hi : i < L) (hA : ∀ k, k ≤ L → ad k ≤ 256) (hx : kd_v C L (kd_x 7) x) (hy : kd_v C L (kd_y 7) y) : cd_fit (ov_f ad i x y 7) 4 ∧ cd_in C L ad i (nI 7) x y (nI (kd_f 7)) (ov_f ad i x y 7) := by
  obtain ⟨k, hk, e⟩ := hx
  subst e
  have ew : ov_f ad i (nI k) y 7 = nI (ad k) - nI (ad (i + 1)) := by
    show nI (ad (nI k).toNatClampNeg) - nI (ad (i + 1)) = _
    rw [nI_clamp (show k < 2 ^ 31 by omega)]
  obtain ⟨a, ha, ea⟩ := ov_d (hA k (by omega)) (hA (i + 1) (by omega))
  refine ⟨ov_fitR ?_, Or.inr (Or.inr (Or.inr (Or.inr (Or.inl ⟨by decide, Or.inr (by decide), k, hk, rfl, ew⟩))))⟩
  rw [ew, ea]
  exact ov_t0 a ha

theorem ov_b_8 (hC : C ≤ 8) (hL : L ≤ 64) (hi : i < L) (hA : ∀ k, k ≤ L → ad k ≤ 256) (hx : kd_v C L (kd_x 8) x) (hy : kd_v C L (kd_y 8) y) : cd_fit (ov_f ad i x y 8) 4 ∧ cd_in C L ad i (nI 8) x y (nI (kd_f 8)) (ov_f ad i x y 8) := by
  obtain ⟨k, hk, e⟩ := hx
  obtain ⟨m, hm, e2⟩ := hy
  subst e e2
  have ew : ov_f ad i (nI k) (nI m) 8 = ((nI (ad k) - nI (ad (i + 1))) <<< ((1 : Int32) &&& 31)) ||| nI m := by
    show ((nI (ad (nI k).toNatClampNeg) - nI (ad (i + 1))) <<< ((1 : Int32) &&& 31)) ||| nI m = _
    rw [nI_clamp (show k < 2 ^ 31 by omega)]
  obtain ⟨a, ha, ea⟩ := ov_d (hA k (by omega)) (hA (i + 1) (by omega))
  obtain ⟨t1, t2, t3⟩ := ov_t1 a ha m hm
  refine ⟨ov_fitR ?_, Or.inr (Or.inr (Or.inr (Or.inr (Or.inr (Or.inr (Or.inl ⟨by decide, by decide, k, m, hk, hm, rfl, rfl, ?_, ?_⟩))))))⟩
  · rw [ew, ea]; exact t3
  · rw [ew, ea]; exact t1
  · rw [ew, ea]; exact t2

theorem ov_b_9 (hC : C ≤ 8) (hL : L ≤ 64) (hi : i < L) (hA : ∀ k, k ≤ L → ad k ≤ 256) (hx : kd_v C L (kd_x 9) x) (hy : kd_v C L (kd_y 9) y) : cd_fit (ov_f ad i x y 9) 4 ∧ cd_in C L ad i (nI 9) x y (nI (kd_f 9)) (ov_f ad i x y 9) := by
  exact ⟨ov_small (n := 9) (by decide), Or.inl ⟨by decide, rfl, Or.inr (Or.inr (Or.inl (by decide)))⟩⟩

theorem ov_b_10 (hC : C ≤ 8) (hL : L ≤ 64) (hi : i < L) (hA : ∀ k, k ≤ L → ad k ≤ 256) (hx : kd_v C L (kd_x 10) x) (hy : kd_v C L (kd_y 10) y) : cd_fit (ov_f ad i x y 10) 4 ∧ cd_in C L ad i (nI 10) x y (nI (kd_f 10)) (ov_f ad i x y 10) := by
  obtain ⟨k, hk, e⟩ := hx
  subst e
  exact ⟨ov_small (n := k) (by omega), Or.inr (Or.inr (Or.inr (Or.inl ⟨by decide, Or.inl (by decide), k, hk, rfl, rfl⟩)))⟩

theorem ov_b_11 (hC : C ≤ 8) (hL : L ≤ 64) (hi : i < L) (hA : ∀ k, k ≤ L → ad k ≤ 256) (hx : kd_v C L (kd_x 11) x) (hy : kd_v C L (kd_y 11) y) : cd_fit (ov_f ad i x y 11) 4 ∧ cd_in C L ad i (nI 11) x y (nI (kd_f 11)) (ov_f ad i x y 11) := by
  obtain ⟨k, hk, e⟩ := hx
  obtain ⟨h, hh, e2⟩ := hy
  subst e e2
  obtain ⟨t1, t2, t3⟩ := ov_ti h hh k (by omega)
  exact ⟨ov_fitR t3, Or.inr (Or.inr (Or.inr (Or.inr (Or.inr (Or.inr (Or.inr (Or.inl ⟨by decide, by decide, k, h, hk, hh, rfl, rfl, t1, t2⟩)))))))⟩

theorem ov_b_12 (hC : C ≤ 8) (hL : L ≤ 64) (hi : i < L) (hA : ∀ k, k ≤ L → ad k ≤ 256) (hx : kd_v C L (kd_x 12) x) (hy : kd_v C L (kd_y 12) y) : cd_fit (ov_f ad i x y 12) 4 ∧ cd_in C L ad i (nI 12) x y (nI (kd_f 12)) (ov_f ad i x y 12) := by
  exact ⟨ov_small (n := 12) (by decide), Or.inl ⟨by decide, rfl, Or.inr (Or.inr (Or.inr (Or.inl (by decide))))⟩⟩

theorem ov_b_13 (hC : C ≤ 8) (hL : L ≤ 64) (hi : i < L) (hA : ∀ k, k ≤ L → ad k ≤ 256) (hx : kd_v C L (kd_x 13) x) (hy : kd_v C L (kd_y 13) y) : cd_fit (ov_f ad i x y 13) 4 ∧ cd_in C L ad i (nI 13) x y (nI (kd_f 13)) (ov_f ad i x y 13) := by
  exact ⟨ov_small (n := 13) (by decide), Or.inl ⟨by decide, rfl, Or.inr (Or.inr (Or.inr (Or.inr (Or.inl (by decide)))))⟩⟩

theorem ov_b_14 (hC : C ≤ 8) (hL : L ≤ 64) (hi : i < L) (hA : ∀ k, k ≤ L → ad k ≤ 256) (hx : kd_v C L (kd_x 14) x) (hy : kd_v C L (kd_y 14) y) : cd_fit (ov_f ad i x y 14) 4 ∧ cd_in C L ad i (nI 14) x y (nI (kd_f 14)) (ov_f ad i x y 14) := by
  exact ⟨ov_small (n := 14) (by decide), Or.inl ⟨by decide, rfl, Or.inr (Or.inr (Or.inr (Or.inr (Or.inr (Or.inl (by decide))))))⟩⟩

theorem ov_b_15 (hC : C ≤ 8) (hL : L ≤ 64) (hi : i < L) (hA : ∀ k, k ≤ L → ad k ≤ 256) (hx : kd_v C L (kd_x 15) x) (hy : kd_v C L (kd_y 15) y) : cd_fit (ov_f ad i x y 15) 4 ∧ cd_in C L ad i (nI 15) x y (nI (kd_f 15)) (ov_f ad i x y 15) := by
  obtain ⟨k, hk, e⟩ := hx
  subst e
  exact ⟨ov_small (n := k) (by omega), Or.inr (Or.inr (Or.inr (Or.inl ⟨by decide, Or.inr (by decide), k, hk, rfl, rfl⟩)))⟩

theorem ov_b_16 (hC : C ≤ 8) (hL : L ≤ 64) (hi : i < L) (hA : ∀ k, k ≤ L → ad k ≤ 256) (hx : kd_v C L (kd_x 16) x) (hy : kd_v C L (kd_y 16) y) : cd_fit (ov_f ad i x y 16) 4 ∧ cd_in C L ad i (nI 16) x y (nI (kd_f 16)) (ov_f ad i x y 16) := by
  exact ⟨ov_small (n := 16) (by decide), Or.inl ⟨by decide, rfl, Or.inr (Or.inr (Or.inr (Or.inr (Or.inr (Or.inr (Or.inl (by decide)))))))⟩⟩

theorem ov_b_17 (hC : C ≤ 8) (hL : L ≤ 64) (hi : i < L) (hA : ∀ k, k ≤ L → ad k ≤ 256) (hx : kd_v C L (kd_x 17) x) (hy : kd_v C L (kd_y 17) y) : cd_fit (ov_f ad i x y 17) 4 ∧ cd_in C L ad i (nI 17) x y (nI (kd_f 17)) (ov_f ad i x y 17) := by
  exact ⟨ov_small (n := 17) (by decide), Or.inl ⟨by decide, rfl, Or.inr (Or.inr (Or.inr (Or.inr (Or.inr (Or.inr (Or.inr (Or.inl (by decide))))))))⟩⟩

theorem ov_b_18 (hC : C ≤ 8) (hL : L ≤ 64) (hi : i < L) (hA : ∀ k, k ≤ L → ad k ≤ 256) (hx : kd_v C L (kd_x 18) x) (hy : kd_v C L (kd_y 18) y) : cd_fit (ov_f ad i x y 18) 4 ∧ cd_in C L ad i (nI 18) x y (nI (kd_f 18)) (ov_f ad i x y 18) := by
  obtain ⟨m, hm, e⟩ := hx
  obtain ⟨k, hk, e2⟩ := hy
  subst e e2
  have ew : ov_f ad i (nI m) (nI k) 18 = ((nI (ad k) - nI (ad (i + 1))) <<< ((3 : Int32) &&& 31)) ||| nI m := by
    show ((nI (ad (nI k).toNatClampNeg) - nI (ad (i + 1))) <<< ((3 : Int32) &&& 31)) ||| nI m = _
    rw [nI_clamp (show k < 2 ^ 31 by omega)]
  obtain ⟨a, ha, ea⟩ := ov_d (hA k (by omega)) (hA (i + 1) (by omega))
  obtain ⟨t1, t2, t3⟩ := ov_t3 a ha m (by omega)
  refine ⟨ov_fitR ?_, Or.inr (Or.inr (Or.inr (Or.inr (Or.inr (Or.inr (Or.inr (Or.inr ⟨by decide, by decide, m, k, hm, hk, rfl, rfl, ?_, ?_⟩)))))))⟩
  · rw [ew, ea]; exact t3
  · rw [ew, ea]; exact t2
  · rw [ew, ea]; exact t1

theorem ov_b_19 (hC : C ≤ 8) (hL : L ≤ 64) (hi : i < L) (hA : ∀ k, k ≤ L → ad k ≤ 256) (hx : kd_v C L (kd_x 19) x) (hy : kd_v C L (kd_y 19) y) : cd_fit (ov_f ad i x y 19) 4 ∧ cd_in C L ad i (nI 19) x y (nI (kd_f 19)) (ov_f ad i x y 19) := by
  obtain ⟨k, hk, e⟩ := hx
  subst e
  have ew : ov_f ad i (nI k) y 19 = nI (ad k) - nI (ad (i + 1)) := by
    show nI (ad (nI k).toNatClampNeg) - nI (ad (i + 1)) = _
    rw [nI_clamp (show k < 2 ^ 31 by omega)]
  obtain ⟨a, ha, ea⟩ := ov_d (hA k (by omega)) (hA (i + 1) (by omega))
  refine ⟨ov_fitR ?_, Or.inr (Or.inr (Or.inr (Or.inr (Or.inr (Or.inl ⟨by decide, by decide, k, hk, rfl, ew⟩)))))⟩
  rw [ew, ea]
  exact ov_t0 a ha

theorem ov_b_20 (hC : C ≤ 8) (hL : L ≤ 64) (hi : i < L) (hA : ∀ k, k ≤ L → ad k ≤ 256) (hx : kd_v C L (kd_x 20) x) (hy : kd_v C L (kd_y 20) y) : cd_fit (ov_f ad i x y 20) 4 ∧ cd_in C L ad i (nI 20) x y (nI (kd_f 20)) (ov_f ad i x y 20) := by
  exact ⟨ov_small (n := 20) (by decide), Or.inl ⟨by decide, rfl, Or.inr (Or.inr (Or.inr (Or.inr (Or.inr (Or.inr (Or.inr (Or.inr (by decide))))))))⟩⟩

theorem ov_all (hC : C ≤ 8) (hL : L ≤ 64) (hi : i < L) (hA : ∀ k, k ≤ L → ad k ≤ 256) : ∀ j, j < 21 → kd_v C L (kd_x j) x → kd_v C L (kd_y j) y → cd_fit (ov_f ad i x y j) 4 ∧ cd_in C L ad i (nI j) x y (nI (kd_f j)) (ov_f ad i x y j)
  | 0, _, hx, hy => ov_b_0 hC hL hi hA hx hy
  | 1, _, hx, hy => ov_b_1 hC hL hi hA hx hy
  | 2, _, hx, hy => ov_b_2 hC hL hi hA hx hy
  | 3, _, hx, hy => ov_b_3 hC hL hi hA hx hy
  | 4, _, hx, hy => ov_b_4 hC hL hi hA hx hy
  | 5, _, hx, hy => ov_b_5 hC hL hi hA hx hy
  | 6, _, hx, hy => ov_b_6 hC hL hi hA hx hy
  | 7, _, hx, hy => ov_b_7 hC hL hi hA hx hy
  | 8, _, hx, hy => ov_b_8 hC hL hi hA hx hy
  | 9, _, hx, hy => ov_b_9 hC hL hi hA hx hy
  | 10, _, hx, hy => ov_b_10 hC hL hi hA hx hy
  | 11, _, hx, hy => ov_b_11 hC hL hi hA hx hy
  | 12, _, hx, hy => ov_b_12 hC hL hi hA hx hy
  | 13, _, hx, hy => ov_b_13 hC hL hi hA hx hy
  | 14, _, hx, hy => ov_b_14 hC hL hi hA hx hy
  | 15, _, hx, hy => ov_b_15 hC hL hi hA hx hy
  | 16, _, hx, hy => ov_b_16 hC hL hi hA hx hy
  | 17, _, hx, hy => ov_b_17 hC hL hi hA hx hy
  | 18, _, hx, hy => ov_b_18 hC hL hi hA hx hy
  | 19, _, hx, hy => ov_b_19 hC hL hi hA hx hy
  | 20, _, hx, hy => ov_b_20 hC hL hi hA hx hy
  | n + 21, h, _, _ => absurd h (by omega)
theorem kd_f16 : ∀ j, j < 21 → kd_f j < 16 ∧ kd_f j ≠ 4 ∧ kd_f j ≠ 5 := by decide
end
section
variable {f_unused f_constant f_word f_target f_channel f_level f_prefix f_negate f_operate f_disableChannel f_disableTimer f_processCount f_channelCount f_length f_sealed f_timerHead f_running f_interrupted f_regA f_regB f_regC f_savedA f_savedB f_savedC f_operand f_clock f_faults : Int32} {a_ops a_xs a_ys a_sizes a_address a_bytes a_indexAt a_locals a_states a_priorities a_pointers a_branches a_deadlines a_held a_readyLink a_timerLink a_head a_tail a_writers a_readers a_counters : Nat → Int32}
theorem xw_sz0 : ∀ (e q s t : Nat), q < 16 ^ e → t + e ≤ 8 → q < 2 ^ 31 → ∃ s', s ≤ s' ∧ s' ≤ s + e ∧ q < 16 ^ (s' - s) ∧ ∀ post : Int32 → Prop, post (nI s') → wX_sizeOf_30 post f_unused f_constant f_word f_target f_channel f_level f_prefix f_negate f_operate f_disableChannel f_disableTimer f_processCount f_channelCount f_length f_sealed f_timerHead f_running f_interrupted f_regA f_regB f_regC f_savedA f_savedB f_savedC f_operand f_clock f_faults a_ops a_xs a_ys a_sizes a_address a_bytes a_indexAt a_locals a_states a_priorities a_pointers a_branches a_deadlines a_held a_readyLink a_timerLink a_head a_tail a_writers a_readers a_counters (e + 1) (nI s) (nI q) (nI t) := by
  intro e
  induction e with
  | zero =>
    intro q s t hq ht hq2
    have e0 : q = 0 := by simpa using hq
    subst e0
    refine ⟨s, Nat.le_refl _, Nat.le_refl _, by rw [Nat.sub_self]; exact Nat.one_pos, fun post K => ?_⟩
    rw [wX_sizeOf_30]
    exact br_c (fun _ => K) (fun _ => br_t rfl K)
  | succ e ih =>
    intro q s t hq ht hq2
    by_cases z : q = 0
    · subst z
      refine ⟨s, Nat.le_refl _, by omega, by rw [Nat.sub_self]; exact Nat.one_pos, fun post K => ?_⟩
      rw [wX_sizeOf_30]
      exact br_c (fun _ => K) (fun _ => br_t rfl K)
    · have h16 : q / 16 < 16 ^ e := by
        rw [Nat.div_lt_iff_lt_mul (by decide)]
        rw [Nat.pow_succ] at hq
        exact hq
      obtain ⟨s', h1, h2, h3, W⟩ := ih (q / 16) (s + 1) (t + 1) h16 (by omega) (by omega)
      refine ⟨s', by omega, by omega, ?_, fun post K => ?_⟩
      · rw [Nat.div_lt_iff_lt_mul (by decide), ← Nat.pow_succ] at h3
        rw [show s' - s = s' - (s + 1) + 1 from by omega]
        exact h3
      · have h8 : ¬ (8 : Int32) ≤ nI t := ba_8 (by omega)
        have zq : ¬ nI q = 0 := nI_ne0 (by omega) hq2
        rw [wX_sizeOf_30]
        simp only [h8, zq, nI_1, cd_shrN hq2, forall_eq, true_implies, false_implies, not_true_eq_false, not_false_eq_true, and_true, true_and, implies_true]
        exact W post K
theorem xw_size {v : Int32} (H : cd_fit v 4) : ∃ s, s ≤ 4 ∧ cd_fit v s ∧ ∀ post : Int32 → Prop, post (nI s) → wpX_sizeOf post (f_unused, f_constant, f_word, f_target, f_channel, f_level, f_prefix, f_negate, f_operate, f_disableChannel, f_disableTimer, f_processCount, f_channelCount, f_length, f_sealed, f_timerHead, f_running, f_interrupted, f_regA, f_regB, f_regC, f_savedA, f_savedB, f_savedC, f_operand, f_clock, f_faults, a_ops, a_xs, a_ys, a_sizes, a_address, a_bytes, a_indexAt, a_locals, a_states, a_priorities, a_pointers, a_branches, a_deadlines, a_held, a_readyLink, a_timerLink, a_head, a_tail, a_writers, a_readers, a_counters) v := by
  obtain ⟨m, hm, h4, H⟩ := H
  have h4' : m < 65536 := h4
  rcases H with ⟨z, e, _⟩ | ⟨z, e, _⟩
  · obtain ⟨s, h1, h2, h3, W⟩ := xw_sz0 (f_unused := f_unused) (f_constant := f_constant) (f_word := f_word) (f_target := f_target) (f_channel := f_channel) (f_level := f_level) (f_prefix := f_prefix) (f_negate := f_negate) (f_operate := f_operate) (f_disableChannel := f_disableChannel) (f_disableTimer := f_disableTimer) (f_processCount := f_processCount) (f_channelCount := f_channelCount) (f_length := f_length) (f_sealed := f_sealed) (f_timerHead := f_timerHead) (f_running := f_running) (f_interrupted := f_interrupted) (f_regA := f_regA) (f_regB := f_regB) (f_regC := f_regC) (f_savedA := f_savedA) (f_savedB := f_savedB) (f_savedC := f_savedC) (f_operand := f_operand) (f_clock := f_clock) (f_faults := f_faults) (a_ops := a_ops) (a_xs := a_xs) (a_ys := a_ys) (a_sizes := a_sizes) (a_address := a_address) (a_bytes := a_bytes) (a_indexAt := a_indexAt) (a_locals := a_locals) (a_states := a_states) (a_priorities := a_priorities) (a_pointers := a_pointers) (a_branches := a_branches) (a_deadlines := a_deadlines) (a_held := a_held) (a_readyLink := a_readyLink) (a_timerLink := a_timerLink) (a_head := a_head) (a_tail := a_tail) (a_writers := a_writers) (a_readers := a_readers) (a_counters := a_counters) 3 (m / 16) 1 0 (show m / 16 < 4096 by omega) (by omega) (by omega)
    refine ⟨s, by omega, ⟨m, hm, ?_, Or.inl ⟨z, e, by omega⟩⟩, fun post K => ?_⟩
    · rw [Nat.div_lt_iff_lt_mul (by decide), ← Nat.pow_succ] at h3
      rw [show s = s - 1 + 1 from by omega]
      exact h3
    · have z2 : (0 : Int32) ≤ v := Int32.not_lt.mp z
      simp only [wpX_sizeOf, wX_sizeOf_9, z2, e, cd_shrN hm, nI_pos' hm, forall_eq, true_implies, false_implies, not_true_eq_false, not_false_eq_true, and_true, true_and, implies_true]
      exact ⟨_, W post K⟩
  · obtain ⟨s, h1, h2, h3, W⟩ := xw_sz0 (f_unused := f_unused) (f_constant := f_constant) (f_word := f_word) (f_target := f_target) (f_channel := f_channel) (f_level := f_level) (f_prefix := f_prefix) (f_negate := f_negate) (f_operate := f_operate) (f_disableChannel := f_disableChannel) (f_disableTimer := f_disableTimer) (f_processCount := f_processCount) (f_channelCount := f_channelCount) (f_length := f_length) (f_sealed := f_sealed) (f_timerHead := f_timerHead) (f_running := f_running) (f_interrupted := f_interrupted) (f_regA := f_regA) (f_regB := f_regB) (f_regC := f_regC) (f_savedA := f_savedA) (f_savedB := f_savedB) (f_savedC := f_savedC) (f_operand := f_operand) (f_clock := f_clock) (f_faults := f_faults) (a_ops := a_ops) (a_xs := a_xs) (a_ys := a_ys) (a_sizes := a_sizes) (a_address := a_address) (a_bytes := a_bytes) (a_indexAt := a_indexAt) (a_locals := a_locals) (a_states := a_states) (a_priorities := a_priorities) (a_pointers := a_pointers) (a_branches := a_branches) (a_deadlines := a_deadlines) (a_held := a_held) (a_readyLink := a_readyLink) (a_timerLink := a_timerLink) (a_head := a_head) (a_tail := a_tail) (a_writers := a_writers) (a_readers := a_readers) (a_counters := a_counters) 2 (m / 256) 2 0 (show m / 256 < 256 by omega) (by omega) (by omega)
    refine ⟨s, by omega, ⟨m, hm, ?_, Or.inr ⟨z, e, by omega⟩⟩, fun post K => ?_⟩
    · rw [Nat.div_lt_iff_lt_mul (by decide)] at h3
      have e2 : 16 ^ s = 16 ^ (s - 2) * 256 := by
        rw [show (256 : Nat) = 16 ^ 2 from rfl, ← Nat.pow_add]
        exact congrArg _ (by omega)
      rw [e2]
      exact h3
    · have z2 : ¬ (0 : Int32) ≤ v := Int32.not_le.mpr z
      have e8 : nI m >>> ((8 : Int32) &&& 31) = nI (m / 256) := pk_shrN hm _ 8 (by decide)
      simp only [wpX_sizeOf, wX_sizeOf_9, z2, e, e8, forall_eq, true_implies, false_implies, not_true_eq_false, not_false_eq_true, and_true, true_and, implies_true]
      exact ⟨_, W post K⟩
end
end
section
/-! the layout: it only grows, and ends fitting -/
def ps_f (S : Nat → Nat) : Nat → Nat
  | 0 => 0
  | k + 1 => ps_f S k + S k
theorem ps_le {S : Nat → Nat} {L : Nat} (h : ∀ k, k < L → S k ≤ 4) : ∀ k, k ≤ L → ps_f S k ≤ 4 * k := by
  intro k
  induction k with
  | zero => intro _; exact Nat.le_refl _
  | succ k ih =>
    intro hk
    have h1 := ih (by omega)
    have h2 := h k (by omega)
    show ps_f S k + S k ≤ _
    omega
theorem ps_mono {S S' : Nat → Nat} {L : Nat} (h : ∀ k, k < L → S k ≤ S' k) : ∀ k, k ≤ L → ps_f S k ≤ ps_f S' k := by
  intro k
  induction k with
  | zero => intro _; exact Nat.le_refl _
  | succ k ih =>
    intro hk
    have h1 := ih (by omega)
    have h2 := h k (by omega)
    show ps_f S k + S k ≤ ps_f S' k + S' k
    omega
theorem ps_lt {S S' : Nat → Nat} {L j : Nat} (h : ∀ k, k < L → S k ≤ S' k) (hj : j < L) (hs : S j < S' j) : ∀ k, j < k → k ≤ L → ps_f S k < ps_f S' k := by
  intro k
  induction k with
  | zero => intro z _; omega
  | succ k ih =>
    intro hk hkL
    show ps_f S k + S k < ps_f S' k + S' k
    by_cases e : j = k
    · subst e
      have h1 := ps_mono h j (by omega)
      omega
    · have h1 := ih (by omega) (by omega)
      have h2 := h k (by omega)
      omega
theorem ps_eq {S S' : Nat → Nat} {L : Nat} (h : ∀ k, k < L → S k = S' k) : ∀ k, k ≤ L → ps_f S k = ps_f S' k := by
  intro k
  induction k with
  | zero => intro _; rfl
  | succ k ih =>
    intro hk
    show ps_f S k + S k = ps_f S' k + S' k
    rw [ih (by omega), h k (by omega)]
theorem ps_one : ∀ k, ps_f (fun _ => 1) k = k := by
  intro k
  induction k with
  | zero => rfl
  | succ k ih => show ps_f _ k + 1 = k + 1; rw [ih]
theorem ps_up {S : Nat → Nat} {L : Nat} (h : ∀ k, k < L → 1 ≤ S k) : ∀ d k, k + d ≤ L → ps_f S k + d ≤ ps_f S (k + d) := by
  intro d
  induction d with
  | zero => intro k _; exact Nat.le_refl _
  | succ d ih =>
    intro k hk
    have h1 := ih k (by omega)
    have h2 := h (k + d) (by omega)
    show ps_f S k + (d + 1) ≤ ps_f S (k + d) + S (k + d)
    omega
/-- the coded operand in a program -/
def ov_g (ops xs ys : Nat → Int32) (ad : Nat → Nat) (i : Nat) : Int32 := ov_f ad i (xs i) (ys i) (ops i).toNatClampNeg
theorem ov_same {C L i : Nat} {ad ad' : Nat → Nat} {x y : Int32} (hL : L ≤ 64) (hi : i < L) (e : ∀ k, k ≤ L → ad' k = ad k) : ∀ j, j < 21 → kd_v C L (kd_x j) x → kd_v C L (kd_y j) y → ov_f ad' i x y j = ov_f ad i x y j
  | 0, _, _, _ => rfl
  | 1, _, _, _ => rfl
  | 2, _, _, _ => rfl
  | 3, _, _, _ => rfl
  | 4, _, _, _ => rfl
  | 5, _, _, _ => rfl
  | 6, _, ⟨k, hk, ek⟩, _ => by
    subst ek
    show nI (ad' (nI k).toNatClampNeg) - nI (ad' (i + 1)) = nI (ad (nI k).toNatClampNeg) - nI (ad (i + 1))
    rw [nI_clamp (by omega), e k (by omega), e (i + 1) (by omega)]
  | 7, _, ⟨k, hk, ek⟩, _ => by
    subst ek
    show nI (ad' (nI k).toNatClampNeg) - nI (ad' (i + 1)) = nI (ad (nI k).toNatClampNeg) - nI (ad (i + 1))
    rw [nI_clamp (by omega), e k (by omega), e (i + 1) (by omega)]
  | 8, _, ⟨k, hk, ek⟩, _ => by
    subst ek
    show ((nI (ad' (nI k).toNatClampNeg) - nI (ad' (i + 1))) <<< ((1 : Int32) &&& 31)) ||| y = ((nI (ad (nI k).toNatClampNeg) - nI (ad (i + 1))) <<< ((1 : Int32) &&& 31)) ||| y
    rw [nI_clamp (by omega), e k (by omega), e (i + 1) (by omega)]
  | 9, _, _, _ => rfl
  | 10, _, _, _ => rfl
  | 11, _, _, _ => rfl
  | 12, _, _, _ => rfl
  | 13, _, _, _ => rfl
  | 14, _, _, _ => rfl
  | 15, _, _, _ => rfl
  | 16, _, _, _ => rfl
  | 17, _, _, _ => rfl
  | 18, _, _, ⟨k, hk, ek⟩ => by
    subst ek
    show ((nI (ad' (nI k).toNatClampNeg) - nI (ad' (i + 1))) <<< ((3 : Int32) &&& 31)) ||| x = ((nI (ad (nI k).toNatClampNeg) - nI (ad (i + 1))) <<< ((3 : Int32) &&& 31)) ||| x
    rw [nI_clamp (by omega), e k (by omega), e (i + 1) (by omega)]
  | 19, _, ⟨k, hk, ek⟩, _ => by
    subst ek
    show nI (ad' (nI k).toNatClampNeg) - nI (ad' (i + 1)) = nI (ad (nI k).toNatClampNeg) - nI (ad (i + 1))
    rw [nI_clamp (by omega), e k (by omega), e (i + 1) (by omega)]
  | 20, _, _, _ => rfl
  | n + 21, h, _, _ => absurd h (by omega)
def la_s (L : Nat) (S : Nat → Nat) (sz : Nat → Int32) : Prop := ∀ k, k < L → sz k = nI (S k) ∧ 1 ≤ S k ∧ S k ≤ 4
section
variable {C L : Nat}
variable {f_unused f_constant f_word f_target f_channel f_level f_prefix f_negate f_operate f_disableChannel f_disableTimer f_processCount f_channelCount f_length f_sealed f_timerHead f_running f_interrupted f_regA f_regB f_regC f_savedA f_savedB f_savedC f_operand f_clock f_faults : Int32} {a_ops a_xs a_ys a_sizes a_address a_bytes a_indexAt a_locals a_states a_priorities a_pointers a_branches a_deadlines a_held a_readyLink a_timerLink a_head a_tail a_writers a_readers a_counters : Nat → Int32}
theorem xw_og {post : Int32 → Prop} {ad : Nat → Nat} {i : Nat} (hL : L ≤ 64) (hi : i < L) (hA : ∀ k, k ≤ L → a_address k = nI (ad k)) (PV : ∀ i, i < L → kd_p C L (a_ops i) (a_xs i) (a_ys i)) (K : post (ov_g a_ops a_xs a_ys ad i)) : wpX_operandOf post (f_unused, f_constant, f_word, f_target, f_channel, f_level, f_prefix, f_negate, f_operate, f_disableChannel, f_disableTimer, f_processCount, f_channelCount, f_length, f_sealed, f_timerHead, f_running, f_interrupted, f_regA, f_regB, f_regC, f_savedA, f_savedB, f_savedC, f_operand, f_clock, f_faults, a_ops, a_xs, a_ys, a_sizes, a_address, a_bytes, a_indexAt, a_locals, a_states, a_priorities, a_pointers, a_branches, a_deadlines, a_held, a_readyLink, a_timerLink, a_head, a_tail, a_writers, a_readers, a_counters) (nI i) := by
  obtain ⟨j, hj, eo, hx, hy⟩ := PV i hi
  unfold ov_g at K
  rw [eo, nI_clamp (show j < 2 ^ 31 by omega)] at K
  exact xw_ov hL hi hA j hj eo hx hy K
theorem ov_gf {ad : Nat → Nat} {i : Nat} (hC : C ≤ 8) (hL : L ≤ 64) (hi : i < L) (hB : ∀ k, k ≤ L → ad k ≤ 256) (PV : ∀ i, i < L → kd_p C L (a_ops i) (a_xs i) (a_ys i)) : cd_fit (ov_g a_ops a_xs a_ys ad i) 4 := by
  obtain ⟨j, hj, eo, hx, hy⟩ := PV i hi
  unfold ov_g
  rw [eo, nI_clamp (show j < 2 ^ 31 by omega)]
  exact (ov_all hC hL hi hB j hj hx hy).1
theorem xl_4 {ad : Nat → Nat} (hC : C ≤ 8) (hL : L ≤ 64) (hA : ∀ k, k ≤ L → a_address k = nI (ad k)) (hB : ∀ k, k ≤ L → ad k ≤ 256) (PV : ∀ i, i < L → kd_p C L (a_ops i) (a_xs i) (a_ys i)) : ∀ d i, i + d = L → ∀ (S : Nat → Nat) (sz : Nat → Int32) (g : Int32), la_s L S sz → (g = 0 ∨ g = 1) →
    ∃ (S' : Nat → Nat) (sz' : Nat → Int32) (g' : Int32), la_s L S' sz' ∧ (∀ k, k < L → S k ≤ S' k) ∧ (g' = 0 ∨ g' = 1) ∧ (g' = 0 → g = 0 ∧ ∀ k, k < L → S' k = S k ∧ (i ≤ k → cd_fit (ov_g a_ops a_xs a_ys ad k) (S k))) ∧ (g' = 1 → g = 1 ∨ ∃ k, k < L ∧ S k < S' k)
      ∧ ∀ post : Int32 → SX → Prop, (∃ n, wX_relax_54 post g' f_unused f_constant f_word f_target f_channel f_level f_prefix f_negate f_operate f_disableChannel f_disableTimer f_processCount f_channelCount (nI L) f_sealed f_timerHead f_running f_interrupted f_regA f_regB f_regC f_savedA f_savedB f_savedC f_operand f_clock f_faults n 0 a_ops a_xs a_ys sz' a_address a_bytes a_indexAt a_locals a_states a_priorities a_pointers a_branches a_deadlines a_held a_readyLink a_timerLink a_head a_tail a_writers a_readers a_counters) → wX_relax_4 post f_unused f_constant f_word f_target f_channel f_level f_prefix f_negate f_operate f_disableChannel f_disableTimer f_processCount f_channelCount (nI L) f_sealed f_timerHead f_running f_interrupted f_regA f_regB f_regC f_savedA f_savedB f_savedC f_operand f_clock f_faults (d + 1) g (nI i) a_ops a_xs a_ys sz a_address a_bytes a_indexAt a_locals a_states a_priorities a_pointers a_branches a_deadlines a_held a_readyLink a_timerLink a_head a_tail a_writers a_readers a_counters := by
  intro d
  induction d with
  | zero =>
    intro i hi S sz g hS hg
    have e : i = L := by omega
    subst e
    refine ⟨S, sz, g, hS, fun k _ => Nat.le_refl _, hg, fun z => ⟨z, fun k hk => ⟨rfl, fun h => absurd h (by omega)⟩⟩, fun z => Or.inl z, fun post K => ?_⟩
    rw [wX_relax_4]
    exact br_t (Int32.le_refl _) K
  | succ d ih =>
    intro i hi S sz g hS hg
    have hiL : i < L := by omega
    have hi64 : i < 64 := by omega
    have h8 : ¬ nI L ≤ nI i := nI_ge (by omega) (by omega)
    have hSi := hS i hiL
    obtain ⟨s, hs4, fs, WS⟩ := xw_size (f_unused := f_unused) (f_constant := f_constant) (f_word := f_word) (f_target := f_target) (f_channel := f_channel) (f_level := f_level) (f_prefix := f_prefix) (f_negate := f_negate) (f_operate := f_operate) (f_disableChannel := f_disableChannel) (f_disableTimer := f_disableTimer) (f_processCount := f_processCount) (f_channelCount := f_channelCount) (f_length := nI L) (f_sealed := f_sealed) (f_timerHead := f_timerHead) (f_running := f_running) (f_interrupted := f_interrupted) (f_regA := f_regA) (f_regB := f_regB) (f_regC := f_regC) (f_savedA := f_savedA) (f_savedB := f_savedB) (f_savedC := f_savedC) (f_operand := f_operand) (f_clock := f_clock) (f_faults := f_faults) (a_ops := a_ops) (a_xs := a_xs) (a_ys := a_ys) (a_sizes := sz) (a_address := a_address) (a_bytes := a_bytes) (a_indexAt := a_indexAt) (a_locals := a_locals) (a_states := a_states) (a_priorities := a_priorities) (a_pointers := a_pointers) (a_branches := a_branches) (a_deadlines := a_deadlines) (a_held := a_held) (a_readyLink := a_readyLink) (a_timerLink := a_timerLink) (a_head := a_head) (a_tail := a_tail) (a_writers := a_writers) (a_readers := a_readers) (a_counters := a_counters) (ov_gf hC hL hiL hB PV)
    have hs1 : 1 ≤ s := by
      obtain ⟨m, _, _, h⟩ := fs
      rcases h with h | h
      · exact h.2.2
      · have := h.2.2
        omega
    by_cases le : s ≤ S i
    · obtain ⟨S', sz', g', h1, h2, h3, h4, h5, W⟩ := ih (i + 1) (by omega) S sz g hS hg
      refine ⟨S', sz', g', h1, h2, h3, fun z => ⟨(h4 z).1, fun k hk => ⟨((h4 z).2 k hk).1, fun hik => ?_⟩⟩, h5, fun post K => ?_⟩
      · by_cases e : k = i
        · rw [e]
          exact cd_mono le fs
        · exact ((h4 z).2 k hk).2 (by omega)
      · have h := W post K
        rw [wX_relax_4]
        refine br_f h8 (xw_og hL hiL hA PV (WS _ ?_))
        have c1 : nI s ≤ nI (S i) := nI_le le (by omega)
        simp only [ba_v64 hi64, ba_c64 hi64, hSi.1, c1, nI_1, forall_eq, true_implies, false_implies, not_true_eq_false, not_false_eq_true, and_true, true_and, implies_true]
        exact h
    · obtain ⟨S', sz', g', h1, h2, h3, h4, h5, W⟩ := ih (i + 1) (by omega) (fun k => if k = i then s else S k) (upd sz i (nI s)) 1 (fun k hk => by
        by_cases e : k = i
        · subst e
          rw [pk_us]
          show nI s = nI (if k = k then s else S k) ∧ 1 ≤ (if k = k then s else S k) ∧ (if k = k then s else S k) ≤ 4
          rw [if_pos rfl]
          exact ⟨rfl, hs1, hs4⟩
        · rw [pk_un e]
          show sz k = nI (if k = i then s else S k) ∧ 1 ≤ (if k = i then s else S k) ∧ (if k = i then s else S k) ≤ 4
          rw [if_neg e]
          exact hS k hk) (Or.inr rfl)
      have grow : ∀ k, k < L → S k ≤ S' k := fun k hk => by
        have h := h2 k hk
        have h' : (if k = i then s else S k) ≤ S' k := h
        by_cases e : k = i
        · rw [if_pos e] at h'
          rw [e] at h' ⊢
          omega
        · rw [if_neg e] at h'
          exact h'
      refine ⟨S', sz', g', h1, grow, h3, fun z => absurd (h4 z).1 (by decide), fun _ => Or.inr ⟨i, hiL, ?_⟩, fun post K => ?_⟩
      · have h := h2 i hiL
        have h' : (if i = i then s else S i) ≤ S' i := h
        rw [if_pos rfl] at h'
        omega
      · have h := W post K
        rw [wX_relax_4]
        refine br_f h8 (xw_og hL hiL hA PV (WS _ ?_))
        have c1 : ¬ nI s ≤ nI (S i) := nI_ge (by omega) (by omega)
        simp only [ba_v64 hi64, ba_c64 hi64, hSi.1, c1, nI_1, forall_eq, true_implies, false_implies, not_true_eq_false, not_false_eq_true, and_true, true_and, implies_true]
        exact h
theorem xl_54 {S : Nat → Nat} {g : Int32} (hL : L ≤ 64) (hS : la_s L S a_sizes) (hg : g = 0 ∨ g = 1) : ∀ d i, i + d = L → ∀ adr : Nat → Int32, (∀ k, k ≤ i → adr k = nI (ps_f S k)) →
    ∃ adr' : Nat → Int32, (∀ k, k ≤ L → adr' k = nI (ps_f S k)) ∧ ∀ post : Int32 → SX → Prop, post g (f_unused, f_constant, f_word, f_target, f_channel, f_level, f_prefix, f_negate, f_operate, f_disableChannel, f_disableTimer, f_processCount, f_channelCount, nI L, f_sealed, f_timerHead, f_running, f_interrupted, f_regA, f_regB, f_regC, f_savedA, f_savedB, f_savedC, f_operand, f_clock, f_faults, a_ops, a_xs, a_ys, a_sizes, adr', a_bytes, a_indexAt, a_locals, a_states, a_priorities, a_pointers, a_branches, a_deadlines, a_held, a_readyLink, a_timerLink, a_head, a_tail, a_writers, a_readers, a_counters) → wX_relax_54 post g f_unused f_constant f_word f_target f_channel f_level f_prefix f_negate f_operate f_disableChannel f_disableTimer f_processCount f_channelCount (nI L) f_sealed f_timerHead f_running f_interrupted f_regA f_regB f_regC f_savedA f_savedB f_savedC f_operand f_clock f_faults (d + 1) (nI i) a_ops a_xs a_ys a_sizes adr a_bytes a_indexAt a_locals a_states a_priorities a_pointers a_branches a_deadlines a_held a_readyLink a_timerLink a_head a_tail a_writers a_readers a_counters := by
  intro d
  induction d with
  | zero =>
    intro i hi adr ha
    have e : i = L := by omega
    subst e
    refine ⟨adr, ha, fun post K => ?_⟩
    rw [wX_relax_54]
    refine br_t (Int32.le_refl _) (And.intro ?_ K)
    rcases hg with e | e
    · rw [e]; exact narrow_b0
    · rw [e]; exact narrow_b1
  | succ d ih =>
    intro i hi adr ha
    have hiL : i < L := by omega
    have h8 : ¬ nI L ≤ nI i := nI_ge (by omega) (by omega)
    obtain ⟨adr', h1, W⟩ := ih (i + 1) (by omega) (upd adr (i + 1) (nI (ps_f S (i + 1)))) (fun k hk => by
      by_cases e : k = i + 1
      · rw [e, pk_us]
      · rw [pk_un e]
        exact ha k (by omega))
    refine ⟨adr', h1, fun post K => ?_⟩
    have h := W post K
    have e1 : nI (ps_f S i) + nI (S i) = nI (ps_f S (i + 1)) := nI_add _ _
    rw [wX_relax_54]
    simp only [h8, nI_1, vp_in_nI (show i < 65 by omega) (show 65 < 2 ^ 31 by decide), vp_in_nI (show i + 1 < 65 by omega) (show 65 < 2 ^ 31 by decide), ba_v64 (show i < 64 by omega), ba_c64 (show i < 64 by omega), nI_clamp (show i + 1 < 2 ^ 31 by omega), ha i (Nat.le_refl _), (hS i hiL).1, e1, forall_eq, true_implies, false_implies, not_true_eq_false, not_false_eq_true, and_true, true_and, implies_true]
    exact h
/-- the layout fits -/
def la_ok (L : Nat) (ops xs ys : Nat → Int32) (S : Nat → Nat) : Prop := ∀ k, k < L → cd_fit (ov_g ops xs ys (ps_f S) k) (S k)
theorem xl_relax {S : Nat → Nat} (hC : C ≤ 8) (hL : L ≤ 64) (hS : la_s L S a_sizes) (hA : ∀ k, k ≤ L → a_address k = nI (ps_f S k)) (PV : ∀ i, i < L → kd_p C L (a_ops i) (a_xs i) (a_ys i)) :
    ∃ (S' : Nat → Nat) (sz' adr' : Nat → Int32) (g' : Int32), la_s L S' sz' ∧ (∀ k, k ≤ L → adr' k = nI (ps_f S' k)) ∧ (g' = 0 ∨ g' = 1) ∧ (g' = 0 → la_ok L a_ops a_xs a_ys S') ∧ (g' = 1 → ps_f S L < ps_f S' L)
      ∧ ∀ post : Int32 → SX → Prop, post g' (f_unused, f_constant, f_word, f_target, f_channel, f_level, f_prefix, f_negate, f_operate, f_disableChannel, f_disableTimer, f_processCount, f_channelCount, nI L, f_sealed, f_timerHead, f_running, f_interrupted, f_regA, f_regB, f_regC, f_savedA, f_savedB, f_savedC, f_operand, f_clock, f_faults, a_ops, a_xs, a_ys, sz', adr', a_bytes, a_indexAt, a_locals, a_states, a_priorities, a_pointers, a_branches, a_deadlines, a_held, a_readyLink, a_timerLink, a_head, a_tail, a_writers, a_readers, a_counters) → wpX_relax post (f_unused, f_constant, f_word, f_target, f_channel, f_level, f_prefix, f_negate, f_operate, f_disableChannel, f_disableTimer, f_processCount, f_channelCount, nI L, f_sealed, f_timerHead, f_running, f_interrupted, f_regA, f_regB, f_regC, f_savedA, f_savedB, f_savedC, f_operand, f_clock, f_faults, a_ops, a_xs, a_ys, a_sizes, a_address, a_bytes, a_indexAt, a_locals, a_states, a_priorities, a_pointers, a_branches, a_deadlines, a_held, a_readyLink, a_timerLink, a_head, a_tail, a_writers, a_readers, a_counters) := by
  have hB : ∀ k, k ≤ L → ps_f S k ≤ 256 := fun k hk => by
    have := ps_le (fun k hk => (hS k hk).2.2) k hk
    omega
  obtain ⟨S', sz', g', h1, h2, h3, h4, h5, W⟩ := xl_4 (f_unused := f_unused) (f_constant := f_constant) (f_word := f_word) (f_target := f_target) (f_channel := f_channel) (f_level := f_level) (f_prefix := f_prefix) (f_negate := f_negate) (f_operate := f_operate) (f_disableChannel := f_disableChannel) (f_disableTimer := f_disableTimer) (f_processCount := f_processCount) (f_channelCount := f_channelCount) (f_sealed := f_sealed) (f_timerHead := f_timerHead) (f_running := f_running) (f_interrupted := f_interrupted) (f_regA := f_regA) (f_regB := f_regB) (f_regC := f_regC) (f_savedA := f_savedA) (f_savedB := f_savedB) (f_savedC := f_savedC) (f_operand := f_operand) (f_clock := f_clock) (f_faults := f_faults) (a_ops := a_ops) (a_xs := a_xs) (a_ys := a_ys) (a_address := a_address) (a_bytes := a_bytes) (a_indexAt := a_indexAt) (a_locals := a_locals) (a_states := a_states) (a_priorities := a_priorities) (a_pointers := a_pointers) (a_branches := a_branches) (a_deadlines := a_deadlines) (a_held := a_held) (a_readyLink := a_readyLink) (a_timerLink := a_timerLink) (a_head := a_head) (a_tail := a_tail) (a_writers := a_writers) (a_readers := a_readers) (a_counters := a_counters) hC hL hA hB PV L 0 (by omega) S a_sizes 0 hS (Or.inl rfl)
  obtain ⟨adr', q1, V⟩ := xl_54 (f_unused := f_unused) (f_constant := f_constant) (f_word := f_word) (f_target := f_target) (f_channel := f_channel) (f_level := f_level) (f_prefix := f_prefix) (f_negate := f_negate) (f_operate := f_operate) (f_disableChannel := f_disableChannel) (f_disableTimer := f_disableTimer) (f_processCount := f_processCount) (f_channelCount := f_channelCount) (f_sealed := f_sealed) (f_timerHead := f_timerHead) (f_running := f_running) (f_interrupted := f_interrupted) (f_regA := f_regA) (f_regB := f_regB) (f_regC := f_regC) (f_savedA := f_savedA) (f_savedB := f_savedB) (f_savedC := f_savedC) (f_operand := f_operand) (f_clock := f_clock) (f_faults := f_faults) (a_ops := a_ops) (a_xs := a_xs) (a_ys := a_ys) (a_sizes := sz') (a_bytes := a_bytes) (a_indexAt := a_indexAt) (a_locals := a_locals) (a_states := a_states) (a_priorities := a_priorities) (a_pointers := a_pointers) (a_branches := a_branches) (a_deadlines := a_deadlines) (a_held := a_held) (a_readyLink := a_readyLink) (a_timerLink := a_timerLink) (a_head := a_head) (a_tail := a_tail) (a_writers := a_writers) (a_readers := a_readers) (a_counters := a_counters) (S := S') hL h1 h3 L 0 (by omega) a_address (fun k hk => by
    have e : k = 0 := by omega
    subst e
    exact hA 0 (by omega))
  refine ⟨S', sz', adr', g', h1, q1, h3, fun z k hk => ?_, fun z => ?_, fun post K => ⟨L + 1, W post ⟨L + 1, V post K⟩⟩⟩
  · have h := (h4 z).2
    have e := ps_eq (fun k hk => (h k hk).1)
    have f := (h k hk).2 (Nat.zero_le _)
    rw [(h k hk).1]
    obtain ⟨j, hj, eo, hx, hy⟩ := PV k hk
    have same : ov_g a_ops a_xs a_ys (ps_f S') k = ov_g a_ops a_xs a_ys (ps_f S) k := by
      unfold ov_g
      rw [eo, nI_clamp (show j < 2 ^ 31 by omega)]
      exact ov_same hL hk (fun k hk => (e k hk)) j hj hx hy
    rw [same]
    exact f
  · rcases h5 z with q | ⟨k, hk, q⟩
    · exact absurd q (by decide)
    · exact ps_lt h2 hk q L hk (Nat.le_refl _)
end
end
section
/-! the layout's passes, the encoding, the whole code -/
section
variable {C L : Nat}
variable {f_unused f_constant f_word f_target f_channel f_level f_prefix f_negate f_operate f_disableChannel f_disableTimer f_processCount f_channelCount f_length f_sealed f_timerHead f_running f_interrupted f_regA f_regB f_regC f_savedA f_savedB f_savedC f_operand f_clock f_faults : Int32} {a_ops a_xs a_ys a_sizes a_address a_bytes a_indexAt a_locals a_states a_priorities a_pointers a_branches a_deadlines a_held a_readyLink a_timerLink a_head a_tail a_writers a_readers a_counters : Nat → Int32}
theorem xl_38 (hC : C ≤ 8) (hL : L ≤ 64) (hL1 : 1 ≤ L) (PV : ∀ i, i < L → kd_p C L (a_ops i) (a_xs i) (a_ys i)) : ∀ d p, p + d = 256 → ∀ (S : Nat → Nat) (sz adr : Nat → Int32) (g : Int32), la_s L S sz → (∀ k, k ≤ L → adr k = nI (ps_f S k)) → ((g = 1 ∧ L + p ≤ ps_f S L) ∨ (g = 0 ∧ la_ok L a_ops a_xs a_ys S)) →
    ∃ (S' : Nat → Nat) (sz' adr' : Nat → Int32), la_s L S' sz' ∧ (∀ k, k ≤ L → adr' k = nI (ps_f S' k)) ∧ la_ok L a_ops a_xs a_ys S' ∧ ∀ post : SX → Prop, post (f_unused, f_constant, f_word, f_target, f_channel, f_level, f_prefix, f_negate, f_operate, f_disableChannel, f_disableTimer, f_processCount, f_channelCount, nI L, f_sealed, f_timerHead, f_running, f_interrupted, f_regA, f_regB, f_regC, f_savedA, f_savedB, f_savedC, f_operand, f_clock, f_faults, a_ops, a_xs, a_ys, sz', adr', a_bytes, a_indexAt, a_locals, a_states, a_priorities, a_pointers, a_branches, a_deadlines, a_held, a_readyLink, a_timerLink, a_head, a_tail, a_writers, a_readers, a_counters) → wX_layOut_38 post (d + 1) g (nI p) f_unused f_constant f_word f_target f_channel f_level f_prefix f_negate f_operate f_disableChannel f_disableTimer f_processCount f_channelCount (nI L) f_sealed f_timerHead f_running f_interrupted f_regA f_regB f_regC f_savedA f_savedB f_savedC f_operand f_clock f_faults a_ops a_xs a_ys sz adr a_bytes a_indexAt a_locals a_states a_priorities a_pointers a_branches a_deadlines a_held a_readyLink a_timerLink a_head a_tail a_writers a_readers a_counters := by
  intro d
  induction d with
  | zero =>
    intro p hp S sz adr g hS hA hg
    have e : p = 256 := by omega
    subst e
    rcases hg with ⟨_, h⟩ | ⟨_, h⟩
    · have := ps_le (fun k hk => (hS k hk).2.2) L (Nat.le_refl _)
      omega
    · refine ⟨S, sz, adr, hS, hA, h, fun post K => ?_⟩
      rw [wX_layOut_38]
      exact br_t (by decide) K
  | succ d ih =>
    intro p hp S sz adr g hS hA hg
    have h8 : ¬ (256 : Int32) ≤ nI p := nI_ge (b := 256) (by omega) (by decide)
    rcases hg with ⟨e, h⟩ | ⟨e, h⟩
    · subst e
      obtain ⟨S1, sz1, adr1, g1, r1, r2, r3, r4, r5, W⟩ := xl_relax (f_unused := f_unused) (f_constant := f_constant) (f_word := f_word) (f_target := f_target) (f_channel := f_channel) (f_level := f_level) (f_prefix := f_prefix) (f_negate := f_negate) (f_operate := f_operate) (f_disableChannel := f_disableChannel) (f_disableTimer := f_disableTimer) (f_processCount := f_processCount) (f_channelCount := f_channelCount) (f_sealed := f_sealed) (f_timerHead := f_timerHead) (f_running := f_running) (f_interrupted := f_interrupted) (f_regA := f_regA) (f_regB := f_regB) (f_regC := f_regC) (f_savedA := f_savedA) (f_savedB := f_savedB) (f_savedC := f_savedC) (f_operand := f_operand) (f_clock := f_clock) (f_faults := f_faults) (a_ops := a_ops) (a_xs := a_xs) (a_ys := a_ys) (a_sizes := sz) (a_address := adr) (a_bytes := a_bytes) (a_indexAt := a_indexAt) (a_locals := a_locals) (a_states := a_states) (a_priorities := a_priorities) (a_pointers := a_pointers) (a_branches := a_branches) (a_deadlines := a_deadlines) (a_held := a_held) (a_readyLink := a_readyLink) (a_timerLink := a_timerLink) (a_head := a_head) (a_tail := a_tail) (a_writers := a_writers) (a_readers := a_readers) (a_counters := a_counters) hC hL hS hA PV
      obtain ⟨S', sz', adr', q1, q2, q3, V⟩ := ih (p + 1) (by omega) S1 sz1 adr1 g1 r1 r2 (by
        rcases r3 with z | z
        · exact Or.inr ⟨z, r4 z⟩
        · have := r5 z
          exact Or.inl ⟨z, by omega⟩)
      refine ⟨S', sz', adr', q1, q2, q3, fun post K => ?_⟩
      rw [wX_layOut_38]
      refine br_f h8 (br_f (by decide) (W _ ?_))
      refine nm_r (nI_1 p) ?_
      exact V post K
    · subst e
      refine ⟨S, sz, adr, hS, hA, h, fun post K => ?_⟩
      rw [wX_layOut_38]
      exact br_f h8 (br_t rfl K)
theorem xl_2 (hL : L ≤ 64) : ∀ d i, i + d = L → ∀ sz adr : Nat → Int32, (∀ k, k < i → sz k = nI 1) → (∀ k, k ≤ i → adr k = nI k) →
    ∃ sz' adr' : Nat → Int32, (∀ k, k < L → sz' k = nI 1) ∧ (∀ k, k ≤ L → adr' k = nI k) ∧ ∀ post : SX → Prop, (∃ n, wX_layOut_38 post n 1 0 f_unused f_constant f_word f_target f_channel f_level f_prefix f_negate f_operate f_disableChannel f_disableTimer f_processCount f_channelCount (nI L) f_sealed f_timerHead f_running f_interrupted f_regA f_regB f_regC f_savedA f_savedB f_savedC f_operand f_clock f_faults a_ops a_xs a_ys sz' adr' a_bytes a_indexAt a_locals a_states a_priorities a_pointers a_branches a_deadlines a_held a_readyLink a_timerLink a_head a_tail a_writers a_readers a_counters) → wX_layOut_2 post f_unused f_constant f_word f_target f_channel f_level f_prefix f_negate f_operate f_disableChannel f_disableTimer f_processCount f_channelCount (nI L) f_sealed f_timerHead f_running f_interrupted f_regA f_regB f_regC f_savedA f_savedB f_savedC f_operand f_clock f_faults (d + 1) (nI i) a_ops a_xs a_ys sz adr a_bytes a_indexAt a_locals a_states a_priorities a_pointers a_branches a_deadlines a_held a_readyLink a_timerLink a_head a_tail a_writers a_readers a_counters := by
  intro d
  induction d with
  | zero =>
    intro i hi sz adr hs ha
    have e : i = L := by omega
    subst e
    refine ⟨sz, adr, hs, ha, fun post K => ?_⟩
    rw [wX_layOut_2]
    exact br_t (Int32.le_refl _) K
  | succ d ih =>
    intro i hi sz adr hs ha
    have h8 : ¬ nI L ≤ nI i := nI_ge (by omega) (by omega)
    obtain ⟨sz', adr', q1, q2, V⟩ := ih (i + 1) (by omega) (upd sz i 1) (upd adr (i + 1) (nI (i + 1))) (fun k hk => by
      by_cases e : k = i
      · rw [e, pk_us]; rfl
      · rw [pk_un e]
        exact hs k (by omega)) (fun k hk => by
      by_cases e : k = i + 1
      · rw [e, pk_us]
      · rw [pk_un e]
        exact ha k (by omega))
    refine ⟨sz', adr', q1, q2, fun post K => ?_⟩
    have h := V post K
    rw [wX_layOut_2]
    simp only [h8, nI_1, vp_in_nI (show i + 1 < 65 by omega) (show 65 < 2 ^ 31 by decide), ba_v64 (show i < 64 by omega), ba_c64 (show i < 64 by omega), nI_clamp (show i + 1 < 2 ^ 31 by omega), forall_eq, true_implies, false_implies, not_true_eq_false, not_false_eq_true, and_true, true_and, implies_true]
    exact h
theorem xl_layout (hC : C ≤ 8) (hL : L ≤ 64) (hL1 : 1 ≤ L) (h0 : a_address 0 = 0) (PV : ∀ i, i < L → kd_p C L (a_ops i) (a_xs i) (a_ys i)) :
    ∃ (S : Nat → Nat) (sz adr : Nat → Int32), la_s L S sz ∧ (∀ k, k ≤ L → adr k = nI (ps_f S k)) ∧ la_ok L a_ops a_xs a_ys S ∧ ∀ post : SX → Prop, post (f_unused, f_constant, f_word, f_target, f_channel, f_level, f_prefix, f_negate, f_operate, f_disableChannel, f_disableTimer, f_processCount, f_channelCount, nI L, f_sealed, f_timerHead, f_running, f_interrupted, f_regA, f_regB, f_regC, f_savedA, f_savedB, f_savedC, f_operand, f_clock, f_faults, a_ops, a_xs, a_ys, sz, adr, a_bytes, a_indexAt, a_locals, a_states, a_priorities, a_pointers, a_branches, a_deadlines, a_held, a_readyLink, a_timerLink, a_head, a_tail, a_writers, a_readers, a_counters) → wpX_layOut post (f_unused, f_constant, f_word, f_target, f_channel, f_level, f_prefix, f_negate, f_operate, f_disableChannel, f_disableTimer, f_processCount, f_channelCount, nI L, f_sealed, f_timerHead, f_running, f_interrupted, f_regA, f_regB, f_regC, f_savedA, f_savedB, f_savedC, f_operand, f_clock, f_faults, a_ops, a_xs, a_ys, a_sizes, a_address, a_bytes, a_indexAt, a_locals, a_states, a_priorities, a_pointers, a_branches, a_deadlines, a_held, a_readyLink, a_timerLink, a_head, a_tail, a_writers, a_readers, a_counters) := by
  obtain ⟨sz1, adr1, q1, q2, V⟩ := xl_2 (f_unused := f_unused) (f_constant := f_constant) (f_word := f_word) (f_target := f_target) (f_channel := f_channel) (f_level := f_level) (f_prefix := f_prefix) (f_negate := f_negate) (f_operate := f_operate) (f_disableChannel := f_disableChannel) (f_disableTimer := f_disableTimer) (f_processCount := f_processCount) (f_channelCount := f_channelCount) (f_sealed := f_sealed) (f_timerHead := f_timerHead) (f_running := f_running) (f_interrupted := f_interrupted) (f_regA := f_regA) (f_regB := f_regB) (f_regC := f_regC) (f_savedA := f_savedA) (f_savedB := f_savedB) (f_savedC := f_savedC) (f_operand := f_operand) (f_clock := f_clock) (f_faults := f_faults) (a_ops := a_ops) (a_xs := a_xs) (a_ys := a_ys) (a_bytes := a_bytes) (a_indexAt := a_indexAt) (a_locals := a_locals) (a_states := a_states) (a_priorities := a_priorities) (a_pointers := a_pointers) (a_branches := a_branches) (a_deadlines := a_deadlines) (a_held := a_held) (a_readyLink := a_readyLink) (a_timerLink := a_timerLink) (a_head := a_head) (a_tail := a_tail) (a_writers := a_writers) (a_readers := a_readers) (a_counters := a_counters) hL L 0 (by omega) a_sizes a_address (fun k hk => absurd hk (by omega)) (fun k hk => by
    have e : k = 0 := by omega
    subst e
    exact h0)
  obtain ⟨S, sz, adr, r1, r2, r3, W⟩ := xl_38 (f_unused := f_unused) (f_constant := f_constant) (f_word := f_word) (f_target := f_target) (f_channel := f_channel) (f_level := f_level) (f_prefix := f_prefix) (f_negate := f_negate) (f_operate := f_operate) (f_disableChannel := f_disableChannel) (f_disableTimer := f_disableTimer) (f_processCount := f_processCount) (f_channelCount := f_channelCount) (f_sealed := f_sealed) (f_timerHead := f_timerHead) (f_running := f_running) (f_interrupted := f_interrupted) (f_regA := f_regA) (f_regB := f_regB) (f_regC := f_regC) (f_savedA := f_savedA) (f_savedB := f_savedB) (f_savedC := f_savedC) (f_operand := f_operand) (f_clock := f_clock) (f_faults := f_faults) (a_ops := a_ops) (a_xs := a_xs) (a_ys := a_ys) (a_bytes := a_bytes) (a_indexAt := a_indexAt) (a_locals := a_locals) (a_states := a_states) (a_priorities := a_priorities) (a_pointers := a_pointers) (a_branches := a_branches) (a_deadlines := a_deadlines) (a_held := a_held) (a_readyLink := a_readyLink) (a_timerLink := a_timerLink) (a_head := a_head) (a_tail := a_tail) (a_writers := a_writers) (a_readers := a_readers) (a_counters := a_counters) hC hL hL1 PV 256 0 (by omega) (fun _ => 1) sz1 adr1 1 (fun k hk => ⟨q1 k hk, Nat.le_refl _, show (1 : Nat) ≤ 4 from by decide⟩) (fun k hk => by rw [ps_one]; exact q2 k hk) (Or.inl ⟨rfl, by rw [ps_one]; omega⟩)
  exact ⟨S, sz, adr, r1, r2, r3, fun post K => ⟨L + 1, V post ⟨257, W post K⟩⟩⟩
theorem ba_sub1 (x : Int32) : x + (-1) = x - 1 := (Int32.sub_eq_add_neg x 1).symm
theorem xe_29 {i a k : Nat} {f v : Int32} (hi : i < 64) (hA : a_address i = nI a) (hak : a + k < 512) : ∀ t j, j + t = k → ∀ b : Nat → Int32, (∀ q, q < j → b (a + (k - 1 - q)) = cd_b (cd_gg f v q) (cd_rr v q)) →
    ∃ b' : Nat → Int32, (∀ q, q < k → b' (a + (k - 1 - q)) = cd_b (cd_gg f v q) (cd_rr v q)) ∧ (∀ p, (p < a ∨ a + k ≤ p) → b' p = b p) ∧ ∀ post : SX → Prop, post (f_unused, f_constant, f_word, f_target, f_channel, f_level, f_prefix, f_negate, f_operate, f_disableChannel, f_disableTimer, f_processCount, f_channelCount, f_length, f_sealed, f_timerHead, f_running, f_interrupted, f_regA, f_regB, f_regC, f_savedA, f_savedB, f_savedC, f_operand, f_clock, f_faults, a_ops, a_xs, a_ys, a_sizes, a_address, b', upd a_indexAt a (nI i), a_locals, a_states, a_priorities, a_pointers, a_branches, a_deadlines, a_held, a_readyLink, a_timerLink, a_head, a_tail, a_writers, a_readers, a_counters) → wX_encode_29 post (nI i) f_unused f_constant f_word f_target f_channel f_level f_prefix f_negate f_operate f_disableChannel f_disableTimer f_processCount f_channelCount f_length f_sealed f_timerHead f_running f_interrupted f_regA f_regB f_regC f_savedA f_savedB f_savedC f_operand f_clock f_faults (t + 1) (cd_gg f v j) (cd_rr v j) (nI (a + t) - 1) a_ops a_xs a_ys a_sizes a_address b a_indexAt a_locals a_states a_priorities a_pointers a_branches a_deadlines a_held a_readyLink a_timerLink a_head a_tail a_writers a_readers a_counters := by
  intro t
  induction t with
  | zero =>
    intro j hj b hb
    have e : j = k := by omega
    subst e
    refine ⟨b, hb, fun p _ => rfl, fun post K => ?_⟩
    have lt : nI (a + 0) - 1 < nI a := by
      rw [Int32.lt_iff_toInt_lt]
      have e1 : (nI (a + 0) - 1).toInt = (a : Int) - 1 := pk_sub_toInt (a := a) (b := 1) (by omega) (by decide)
      rw [e1, nI_toInt (by omega)]
      omega
    rw [wX_encode_29]
    simp only [vp_in_nI (show i < 65 by omega) (show 65 < 2 ^ 31 by decide), ba_c64 hi, hA, lt, vp_in_nI (show a < 512 by omega) (show 512 < 2 ^ 31 by decide), nI_clamp (show a < 2 ^ 31 by omega), forall_eq, true_implies, false_implies, not_true_eq_false, not_false_eq_true, and_true, true_and, implies_true]
    exact K
  | succ t ih =>
    intro j hj b hb
    have hp : a + t < 512 := by omega
    have ep : a + t = a + (k - 1 - j) := by omega
    obtain ⟨b', q1, q2, V⟩ := ih (j + 1) (by omega) (upd b (a + t) (cd_b (cd_gg f v j) (cd_rr v j))) (fun q hq => by
      by_cases e : q = j
      · rw [e, ← ep, pk_us]
      · rw [pk_un (by omega)]
        exact hb q (by omega))
    refine ⟨b', q1, fun p hp2 => ?_, fun post K => ?_⟩
    · rw [q2 p hp2, pk_un (by omega)]
    · have h := V post K
      have e1 : nI (a + (t + 1)) - 1 = nI (a + t) := nI_pred (a + t)
      have nlt : ¬ nI (a + t) < nI a := nI_nlt (by omega) (by omega)
      have fold : vp_nar .byte (((cd_gg f v j <<< ((4 : Int32) &&& 31)) ||| (cd_rr v j &&& 15)).toInt8.toInt32) = cd_b (cd_gg f v j) (cd_rr v j) := rfl
      rw [wX_encode_29]
      simp only [vp_in_nI (show i < 65 by omega) (show 65 < 2 ^ 31 by decide), ba_c64 hi, hA, e1, nlt, vp_in_nI hp (show 512 < 2 ^ 31 by decide), nI_clamp (show a + t < 2 ^ 31 by omega), fold, forall_eq, true_implies, false_implies, not_true_eq_false, not_false_eq_true, and_true, true_and, implies_true]
      have h2 : wX_encode_29 post (nI i) f_unused f_constant f_word f_target f_channel f_level f_prefix f_negate f_operate f_disableChannel f_disableTimer f_processCount f_channelCount f_length f_sealed f_timerHead f_running f_interrupted f_regA f_regB f_regC f_savedA f_savedB f_savedC f_operand f_clock f_faults (t + 1) (cd_g (cd_rr v j)) (cd_r (cd_rr v j)) (nI (a + t) - 1) a_ops a_xs a_ys a_sizes a_address (upd b (a + t) (cd_b (cd_gg f v j) (cd_rr v j))) a_indexAt a_locals a_states a_priorities a_pointers a_branches a_deadlines a_held a_readyLink a_timerLink a_head a_tail a_writers a_readers a_counters := h
      by_cases z : cd_rr v j < 0
      · have z2 : ¬ 0 ≤ cd_rr v j := Int32.not_le.mpr z
        unfold cd_g cd_r at h2
        rw [if_pos z, if_pos z] at h2
        simp only [wX_encode_65, z2, ba_sub1, forall_eq, true_implies, false_implies, not_true_eq_false, not_false_eq_true, and_true, true_and, implies_true]
        exact h2
      · have z2 : 0 ≤ cd_rr v j := Int32.not_lt.mp z
        unfold cd_g cd_r at h2
        rw [if_neg z, if_neg z] at h2
        simp only [wX_encode_65, z2, ba_sub1, forall_eq, true_implies, false_implies, not_true_eq_false, not_false_eq_true, and_true, true_and, implies_true]
        exact h2
/-- instruction q stands in the bytes -/
def en_q (ops xs ys : Nat → Int32) (S : Nat → Nat) (b : Nat → Int32) (q : Nat) : Prop := ∀ j, j < S q → b (ps_f S q + (S q - 1 - j)) = cd_b (cd_gg (nI (kd_f (ops q).toNatClampNeg)) (ov_g ops xs ys (ps_f S) q) j) (cd_rr (ov_g ops xs ys (ps_f S) q) j)
theorem xe_encode {i : Nat} {S : Nat → Nat} (hL : L ≤ 64) (hi : i < L) (hS : la_s L S a_sizes) (hA : ∀ k, k ≤ L → a_address k = nI (ps_f S k)) (PV : ∀ i, i < L → kd_p C L (a_ops i) (a_xs i) (a_ys i)) :
    ∃ b : Nat → Int32, en_q a_ops a_xs a_ys S b i ∧ (∀ p, (p < ps_f S i ∨ ps_f S (i + 1) ≤ p) → b p = a_bytes p) ∧ ∀ post : SX → Prop, post (f_unused, f_constant, f_word, f_target, f_channel, f_level, f_prefix, f_negate, f_operate, f_disableChannel, f_disableTimer, f_processCount, f_channelCount, f_length, f_sealed, f_timerHead, f_running, f_interrupted, f_regA, f_regB, f_regC, f_savedA, f_savedB, f_savedC, f_operand, f_clock, f_faults, a_ops, a_xs, a_ys, a_sizes, a_address, b, upd a_indexAt (ps_f S i) (nI i), a_locals, a_states, a_priorities, a_pointers, a_branches, a_deadlines, a_held, a_readyLink, a_timerLink, a_head, a_tail, a_writers, a_readers, a_counters) → wpX_encode post (f_unused, f_constant, f_word, f_target, f_channel, f_level, f_prefix, f_negate, f_operate, f_disableChannel, f_disableTimer, f_processCount, f_channelCount, f_length, f_sealed, f_timerHead, f_running, f_interrupted, f_regA, f_regB, f_regC, f_savedA, f_savedB, f_savedC, f_operand, f_clock, f_faults, a_ops, a_xs, a_ys, a_sizes, a_address, a_bytes, a_indexAt, a_locals, a_states, a_priorities, a_pointers, a_branches, a_deadlines, a_held, a_readyLink, a_timerLink, a_head, a_tail, a_writers, a_readers, a_counters) (nI i) := by
  have hi64 : i < 64 := by omega
  have hB : ps_f S i + S i < 512 := by
    have h : ps_f S (i + 1) ≤ 4 * (i + 1) := ps_le (fun k hk => (hS k hk).2.2) (i + 1) (by omega)
    have h2 : ps_f S (i + 1) = ps_f S i + S i := rfl
    omega
  obtain ⟨b, q1, q2, V⟩ := xe_29 (f_unused := f_unused) (f_constant := f_constant) (f_word := f_word) (f_target := f_target) (f_channel := f_channel) (f_level := f_level) (f_prefix := f_prefix) (f_negate := f_negate) (f_operate := f_operate) (f_disableChannel := f_disableChannel) (f_disableTimer := f_disableTimer) (f_processCount := f_processCount) (f_channelCount := f_channelCount) (f_length := f_length) (f_sealed := f_sealed) (f_timerHead := f_timerHead) (f_running := f_running) (f_interrupted := f_interrupted) (f_regA := f_regA) (f_regB := f_regB) (f_regC := f_regC) (f_savedA := f_savedA) (f_savedB := f_savedB) (f_savedC := f_savedC) (f_operand := f_operand) (f_clock := f_clock) (f_faults := f_faults) (a_ops := a_ops) (a_xs := a_xs) (a_ys := a_ys) (a_sizes := a_sizes) (a_address := a_address) (a_indexAt := a_indexAt) (a_locals := a_locals) (a_states := a_states) (a_priorities := a_priorities) (a_pointers := a_pointers) (a_branches := a_branches) (a_deadlines := a_deadlines) (a_held := a_held) (a_readyLink := a_readyLink) (a_timerLink := a_timerLink) (a_head := a_head) (a_tail := a_tail) (a_writers := a_writers) (a_readers := a_readers) (a_counters := a_counters) (f := nI (kd_f (a_ops i).toNatClampNeg)) (v := ov_g a_ops a_xs a_ys (ps_f S) i) hi64 (hA i (by omega)) hB (S i) 0 (by omega) a_bytes (fun q hq => absurd hq (by omega))
  refine ⟨b, q1, q2, fun post K => ?_⟩
  obtain ⟨j, hj, eo, hx, hy⟩ := PV i hi
  have h := V post K
  have ec : (a_ops i).toNatClampNeg = j := by rw [eo]; exact nI_clamp (by omega)
  unfold wpX_encode
  refine And.intro (ba_v64 hi64) ?_
  rw [ba_c64 hi64, eo]
  refine xw_fo j hj (xw_og hL hi hA PV ?_)
  simp only [nI_1, vp_in_nI (show i + 1 < 65 by omega) (show 65 < 2 ^ 31 by decide), nI_clamp (show i + 1 < 2 ^ 31 by omega), hA (i + 1) (by omega), forall_eq, true_implies, false_implies, not_true_eq_false, not_false_eq_true, and_true, true_and, implies_true]
  rw [ec] at h
  exact ⟨_, h⟩
theorem xe_26 {S : Nat → Nat} (hL : L ≤ 64) (hS : la_s L S a_sizes) (hA : ∀ k, k ≤ L → a_address k = nI (ps_f S k)) (PV : ∀ i, i < L → kd_p C L (a_ops i) (a_xs i) (a_ys i)) : ∀ d i, i + d = L → ∀ b ix : Nat → Int32, (∀ q, q < i → en_q a_ops a_xs a_ys S b q ∧ ix (ps_f S q) = nI q) →
    ∃ b' ix' : Nat → Int32, (∀ q, q < L → en_q a_ops a_xs a_ys S b' q ∧ ix' (ps_f S q) = nI q) ∧ ∀ post : Int32 → SX → Prop, post 0 (f_unused, f_constant, f_word, f_target, f_channel, f_level, f_prefix, f_negate, f_operate, f_disableChannel, f_disableTimer, f_processCount, f_channelCount, nI L, 1, f_timerHead, f_running, f_interrupted, f_regA, f_regB, f_regC, f_savedA, f_savedB, f_savedC, f_operand, f_clock, f_faults, a_ops, a_xs, a_ys, a_sizes, a_address, b', ix', a_locals, a_states, a_priorities, a_pointers, a_branches, a_deadlines, a_held, a_readyLink, a_timerLink, a_head, a_tail, a_writers, a_readers, a_counters) → wX_seal_26 post (d + 1) (nI i) f_unused f_constant f_word f_target f_channel f_level f_prefix f_negate f_operate f_disableChannel f_disableTimer f_processCount f_channelCount (nI L) f_sealed f_timerHead f_running f_interrupted f_regA f_regB f_regC f_savedA f_savedB f_savedC f_operand f_clock f_faults a_ops a_xs a_ys a_sizes a_address b ix a_locals a_states a_priorities a_pointers a_branches a_deadlines a_held a_readyLink a_timerLink a_head a_tail a_writers a_readers a_counters := by
  intro d
  induction d with
  | zero =>
    intro i hi b ix hb
    have e : i = L := by omega
    subst e
    refine ⟨b, ix, hb, fun post K => ?_⟩
    rw [wX_seal_26]
    exact br_t (Int32.le_refl _) K
  | succ d ih =>
    intro i hi b ix hb
    have hiL : i < L := by omega
    have h8 : ¬ nI L ≤ nI i := nI_ge (by omega) (by omega)
    obtain ⟨b1, r1, r2, W⟩ := xe_encode (f_unused := f_unused) (f_constant := f_constant) (f_word := f_word) (f_target := f_target) (f_channel := f_channel) (f_level := f_level) (f_prefix := f_prefix) (f_negate := f_negate) (f_operate := f_operate) (f_disableChannel := f_disableChannel) (f_disableTimer := f_disableTimer) (f_processCount := f_processCount) (f_channelCount := f_channelCount) (f_length := nI L) (f_sealed := f_sealed) (f_timerHead := f_timerHead) (f_running := f_running) (f_interrupted := f_interrupted) (f_regA := f_regA) (f_regB := f_regB) (f_regC := f_regC) (f_savedA := f_savedA) (f_savedB := f_savedB) (f_savedC := f_savedC) (f_operand := f_operand) (f_clock := f_clock) (f_faults := f_faults) (a_ops := a_ops) (a_xs := a_xs) (a_ys := a_ys) (a_sizes := a_sizes) (a_address := a_address) (a_bytes := b) (a_indexAt := ix) (a_locals := a_locals) (a_states := a_states) (a_priorities := a_priorities) (a_pointers := a_pointers) (a_branches := a_branches) (a_deadlines := a_deadlines) (a_held := a_held) (a_readyLink := a_readyLink) (a_timerLink := a_timerLink) (a_head := a_head) (a_tail := a_tail) (a_writers := a_writers) (a_readers := a_readers) (a_counters := a_counters) hL hiL hS hA PV
    have before : ∀ q, q < i → ps_f S q + S q ≤ ps_f S i := fun q hq => by
      have h := ps_up (fun k hk => (hS k hk).2.1) (i - (q + 1)) (q + 1) (by omega)
      have e : q + 1 + (i - (q + 1)) = i := by omega
      rw [e] at h
      have h2 : ps_f S (q + 1) = ps_f S q + S q := rfl
      omega
    obtain ⟨b', ix', q1, V⟩ := ih (i + 1) (by omega) b1 (upd ix (ps_f S i) (nI i)) (fun q hq => by
      by_cases e : q = i
      · subst e
        exact ⟨r1, pk_us⟩
      · have hqi : q < i := by omega
        have hb1 := before q hqi
        have hs := (hS q (by omega)).2.1
        refine ⟨fun j hj => ?_, ?_⟩
        · rw [r2 _ (Or.inl (by omega))]
          exact (hb q hqi).1 j hj
        · rw [pk_un (by omega)]
          exact (hb q hqi).2)
    refine ⟨b', ix', q1, fun post K => ?_⟩
    rw [wX_seal_26]
    refine br_f h8 (W _ ?_)
    refine nm_r (nI_1 i) ?_
    exact V post K
/-- what a layout and its bytes are worth -/
theorem cd_all {S : Nat → Nat} (hC : C ≤ 8) (hL : L ≤ 64) (hL1 : 1 ≤ L) (hS : la_s L S a_sizes) (hA : ∀ k, k ≤ L → a_address k = nI (ps_f S k)) (hok : la_ok L a_ops a_xs a_ys S) (PV : ∀ i, i < L → kd_p C L (a_ops i) (a_xs i) (a_ys i)) (hl : a_ops (L - 1) = 6 ∨ a_ops (L - 1) = 9) (hE : ∀ q, q < L → en_q a_ops a_xs a_ys S a_bytes q ∧ a_indexAt (ps_f S q) = nI q) : rl_cd C L (ps_f S) a_ops a_xs a_ys a_address a_bytes a_indexAt := by
  have hB : ∀ k, k ≤ L → ps_f S k ≤ 256 := fun k hk => by
    have := ps_le (fun k hk => (hS k hk).2.2) k hk
    omega
  refine ⟨hL1, hL, fun i hi => ⟨hA i hi, hB i hi⟩, fun i hi => (hE i hi).2, hl, fun i hi => ?_⟩
  obtain ⟨j, hj, eo, hx, hy⟩ := PV i hi
  have ec : (a_ops i).toNatClampNeg = j := by rw [eo]; exact nI_clamp (by omega)
  have fit := hok i hi
  have en := (hE i hi).1
  have ao := ov_all hC hL hi hB j hj hx hy
  have ff := kd_f16 j hj
  unfold en_q at en
  have eg : ov_g a_ops a_xs a_ys (ps_f S) i = ov_f (ps_f S) i (a_xs i) (a_ys i) j := by
    unfold ov_g
    rw [ec]
  rw [ec, eg] at en
  rw [eg] at fit
  refine ⟨nI (kd_f j), ov_f (ps_f S) i (a_xs i) (a_ys i) j, ?_, ?_⟩
  · exact cd_whole rfl ff.1 ff.2.1 ff.2.2 (hS i hi).2.1 (by have := (hS i hi).2.2; omega) fit en
  · rw [eo]
    exact ao.2
end
end
section
/-! the relation at the head of a turn -/
def rl_free (N : Nat) (u : SX) : Prop := match u with
  | (f_unused, f_constant, f_word, f_target, f_channel, f_level, f_prefix, f_negate, f_operate, f_disableChannel, f_disableTimer, f_processCount, f_channelCount, f_length, f_sealed, f_timerHead, f_running, f_interrupted, f_regA, f_regB, f_regC, f_savedA, f_savedB, f_savedC, f_operand, f_clock, f_faults, a_ops, a_xs, a_ys, a_sizes, a_address, a_bytes, a_indexAt, a_locals, a_states, a_priorities, a_pointers, a_branches, a_deadlines, a_held, a_readyLink, a_timerLink, a_head, a_tail, a_writers, a_readers, a_counters) => ∀ p, p < N → a_states p = 0
/-- the program: being written, or sealed -/
def rl_pg (N C L : Nat) (ad : Nat → Nat) (f_sealed : Int32) (a_ops a_xs a_ys a_address a_bytes a_indexAt : Nat → Int32) (free : Prop) : Prop :=
  (f_sealed = 0 ∧ a_address 0 = 0 ∧ free ∧ ∀ i, i < L → kd_p C 64 (a_ops i) (a_xs i) (a_ys i)) ∨ (f_sealed = 1 ∧ rl_cd C L ad a_ops a_xs a_ys a_address a_bytes a_indexAt)
def rl_sz (N C L c : Nat) : Prop := 2 ≤ N ∧ N ≤ 8 ∧ 1 ≤ C ∧ C ≤ 8 ∧ L ≤ 64 ∧ c < 256
/-- both hold the same program; while it runs the component's queues, owners and code are what the reference finds by looking at all processes; k bounds the tickets -/
def i_Rel (k : Nat) (u : SX) (v : SY) : Prop :=
  ∃ (N C L c : Nat) (ad : Nat → Nat) (f_sealed : Int32) (a_ops a_xs a_ys a_address a_bytes a_indexAt : Nat → Int32), rl_sz N C L c ∧ rl_R N C L (k * 1000) c ad f_sealed a_ops a_xs a_ys a_address a_bytes a_indexAt u v ∧ rl_pg N C L ad f_sealed a_ops a_xs a_ys a_address a_bytes a_indexAt (rl_free N u)
theorem i_up {k : Nat} {u : SX} {v : SY} (h : i_Rel k u v) : i_Rel (k + 4) u v := by
  obtain ⟨N, C, L, c, ad, s, o, x, y, a, b, ix, h1, h2, h3⟩ := h
  exact ⟨N, C, L, c, ad, s, o, x, y, a, b, ix, h1, rl_mono (by omega) h2, h3⟩
theorem zz_el {k : Nat} {u : SX} {v : SY} {P : SX → SY → Prop} (h : ∀ (N C L c : Nat) (ad : Nat → Nat) (f_sealed : Int32) (a_ops : Nat → Int32) (a_xs : Nat → Int32) (a_ys : Nat → Int32) (a_address : Nat → Int32) (a_bytes : Nat → Int32) (a_indexAt : Nat → Int32) (f_unused : Int32) (f_constant : Int32) (f_word : Int32) (f_target : Int32) (f_channel : Int32) (f_level : Int32) (f_prefix : Int32) (f_negate : Int32) (f_operate : Int32) (f_disableChannel : Int32) (f_disableTimer : Int32) (f_timerHead : Int32) (f_running : Int32) (f_interrupted : Int32) (f_regA : Int32) (f_regB : Int32) (f_regC : Int32) (f_savedA : Int32) (f_savedB : Int32) (f_savedC : Int32) (f_operand : Int32) (f_faults : Int32) (a_sizes : Nat → Int32) (a_locals : Nat → Int32) (a_states : Nat → Int32) (a_priorities : Nat → Int32) (a_pointers : Nat → Int32) (a_branches : Nat → Int32) (a_deadlines : Nat → Int32) (a_held : Nat → Int32) (a_readyLink : Nat → Int32) (a_timerLink : Nat → Int32) (a_head : Nat → Int32) (a_tail : Nat → Int32) (a_writers : Nat → Int32) (a_readers : Nat → Int32) (a_counters : Nat → Int32) (g_nextTicket : Int64) (b_pos : Nat → Int32) (b_ra : Nat → Int32) (b_rb : Nat → Int32) (b_rc : Nat → Int32) (b_chan : Nat → Int32) (b_held : Nat → Int32) (b_named : Nat → Int32) (b_wake : Nat → Int32) (b_open : Nat → Int32) (b_guard : Nat → Int32) (b_timer : Nat → Int32) (b_chosen : Nat → Int32) (b_ticket : Nat → Int64) (b_sent : Nat → Int32) (b_received : Nat → Int32) (b_sentFold : Nat → Int32) (b_receivedFold : Nat → Int32), rl_sz N C L c → rl_dy N C L (k * 1000) c ad f_running f_interrupted f_regA f_regB f_regC f_savedA f_savedB f_savedC f_timerHead a_states a_priorities a_pointers a_branches a_deadlines a_held a_readyLink a_timerLink a_head a_tail a_writers a_readers a_counters g_nextTicket b_pos b_ra b_rb b_rc b_chan b_held b_named b_wake b_open b_guard b_timer b_chosen b_ticket b_sent b_received b_sentFold b_receivedFold → rl_pg N C L ad f_sealed a_ops a_xs a_ys a_address a_bytes a_indexAt (∀ p, p < N → a_states p = 0) → P (f_unused, f_constant, f_word, f_target, f_channel, f_level, f_prefix, f_negate, f_operate, f_disableChannel, f_disableTimer, nI N, nI C, nI L, f_sealed, f_timerHead, f_running, f_interrupted, f_regA, f_regB, f_regC, f_savedA, f_savedB, f_savedC, f_operand, nI c, f_faults, a_ops, a_xs, a_ys, a_sizes, a_address, a_bytes, a_indexAt, a_locals, a_states, a_priorities, a_pointers, a_branches, a_deadlines, a_held, a_readyLink, a_timerLink, a_head, a_tail, a_writers, a_readers, a_counters) (nI L, nI N, nI C, nI c, f_faults, f_sealed, g_nextTicket, a_ops, a_xs, a_ys, a_states, a_priorities, b_pos, b_ra, b_rb, b_rc, a_locals, b_chan, b_held, b_named, b_wake, b_open, b_guard, b_timer, b_chosen, b_ticket, b_sent, b_received, b_sentFold, b_receivedFold)) (I : i_Rel k u v) : P u v := by
  obtain ⟨N, C, L, c, ad, f_sealed, a_ops, a_xs, a_ys, a_address, a_bytes, a_indexAt, h1, h2, h3⟩ := I
  refine rl_out (P := fun u v => rl_pg N C L ad f_sealed a_ops a_xs a_ys a_address a_bytes a_indexAt (rl_free N u) → P u v) ?_ h2 h3
  intros
  rename_i H G
  exact h N C L c ad _ _ _ _ _ _ _ _ _ _ _ _ _ _ _ _ _ _ _ _ _ _ _ _ _ _ _ _ _ _ _ _ _ _ _ _ _ _ _ _ _ _ _ _ _ _ _ _ _ _ _ _ _ _ _ _ _ _ _ _ _ _ h1 H G
section
variable {N C L c : Nat} {ad : Nat → Nat}
variable {f_unused f_constant f_word f_target f_channel f_level f_prefix f_negate f_operate f_disableChannel f_disableTimer f_processCount f_channelCount f_length f_sealed f_timerHead f_running f_interrupted f_regA f_regB f_regC f_savedA f_savedB f_savedC f_operand f_clock f_faults : Int32} {a_ops a_xs a_ys a_sizes a_address a_bytes a_indexAt a_locals a_states a_priorities a_pointers a_branches a_deadlines a_held a_readyLink a_timerLink a_head a_tail a_writers a_readers a_counters : Nat → Int32}
variable {g_length g_procs g_chans g_clock g_faults g_sealed : Int32} {g_nextTicket : Int64} {b_ops b_xs b_ys b_st b_prio b_pos b_ra b_rb b_rc b_words b_chan b_held b_named b_wake b_open b_guard b_timer b_chosen b_sent b_received b_sentFold b_receivedFold : Nat → Int32} {b_ticket : Nat → Int64}
theorem zz_in {k : Nat} (h1 : rl_sz N C L c) (H : rl_dy N C L (k * 1000) c ad f_running f_interrupted f_regA f_regB f_regC f_savedA f_savedB f_savedC f_timerHead a_states a_priorities a_pointers a_branches a_deadlines a_held a_readyLink a_timerLink a_head a_tail a_writers a_readers a_counters g_nextTicket b_pos b_ra b_rb b_rc b_chan b_held b_named b_wake b_open b_guard b_timer b_chosen b_ticket b_sent b_received b_sentFold b_receivedFold) (G : rl_pg N C L ad f_sealed a_ops a_xs a_ys a_address a_bytes a_indexAt (∀ p, p < N → a_states p = 0)) : i_Rel k (f_unused, f_constant, f_word, f_target, f_channel, f_level, f_prefix, f_negate, f_operate, f_disableChannel, f_disableTimer, nI N, nI C, nI L, f_sealed, f_timerHead, f_running, f_interrupted, f_regA, f_regB, f_regC, f_savedA, f_savedB, f_savedC, f_operand, nI c, f_faults, a_ops, a_xs, a_ys, a_sizes, a_address, a_bytes, a_indexAt, a_locals, a_states, a_priorities, a_pointers, a_branches, a_deadlines, a_held, a_readyLink, a_timerLink, a_head, a_tail, a_writers, a_readers, a_counters) (nI L, nI N, nI C, nI c, f_faults, f_sealed, g_nextTicket, a_ops, a_xs, a_ys, a_states, a_priorities, b_pos, b_ra, b_rb, b_rc, a_locals, b_chan, b_held, b_named, b_wake, b_open, b_guard, b_timer, b_chosen, b_ticket, b_sent, b_received, b_sentFold, b_receivedFold) := ⟨N, C, L, c, ad, f_sealed, a_ops, a_xs, a_ys, a_address, a_bytes, a_indexAt, h1, rl_in H, G⟩
theorem jw_ex {p : Int32} (hN : N ≤ 8) : ((∀ post : Int32 → Prop, post 0 → wpX_exists post (f_unused, f_constant, f_word, f_target, f_channel, f_level, f_prefix, f_negate, f_operate, f_disableChannel, f_disableTimer, nI N, nI C, nI L, f_sealed, f_timerHead, f_running, f_interrupted, f_regA, f_regB, f_regC, f_savedA, f_savedB, f_savedC, f_operand, nI c, f_faults, a_ops, a_xs, a_ys, a_sizes, a_address, a_bytes, a_indexAt, a_locals, a_states, a_priorities, a_pointers, a_branches, a_deadlines, a_held, a_readyLink, a_timerLink, a_head, a_tail, a_writers, a_readers, a_counters) p) ∧ (∀ post : Int32 → Prop, post 1 → wpY_bad post (nI L, nI N, nI C, nI c, f_faults, f_sealed, g_nextTicket, a_ops, a_xs, a_ys, a_states, a_priorities, b_pos, b_ra, b_rb, b_rc, a_locals, b_chan, b_held, b_named, b_wake, b_open, b_guard, b_timer, b_chosen, b_ticket, b_sent, b_received, b_sentFold, b_receivedFold) p)) ∨ ∃ j, j < N ∧ p = nI j ∧ (∀ post : Int32 → Prop, post 1 → wpX_exists post (f_unused, f_constant, f_word, f_target, f_channel, f_level, f_prefix, f_negate, f_operate, f_disableChannel, f_disableTimer, nI N, nI C, nI L, f_sealed, f_timerHead, f_running, f_interrupted, f_regA, f_regB, f_regC, f_savedA, f_savedB, f_savedC, f_operand, nI c, f_faults, a_ops, a_xs, a_ys, a_sizes, a_address, a_bytes, a_indexAt, a_locals, a_states, a_priorities, a_pointers, a_branches, a_deadlines, a_held, a_readyLink, a_timerLink, a_head, a_tail, a_writers, a_readers, a_counters) p) ∧ (∀ post : Int32 → Prop, post 0 → wpY_bad post (nI L, nI N, nI C, nI c, f_faults, f_sealed, g_nextTicket, a_ops, a_xs, a_ys, a_states, a_priorities, b_pos, b_ra, b_rb, b_rc, a_locals, b_chan, b_held, b_named, b_wake, b_open, b_guard, b_timer, b_chosen, b_ticket, b_sent, b_received, b_sentFold, b_receivedFold) p) := by
  rcases pk_ix p (n := N) (by omega) with h | h | ⟨j, hj, e⟩
  · exact Or.inl ⟨fun post K => br_t h K, fun post K => br_t h K⟩
  · by_cases z : p < 0
    · exact Or.inl ⟨fun post K => br_t z K, fun post K => br_t z K⟩
    · exact Or.inl ⟨fun post K => br_f z (br_t h K), fun post K => br_f z (br_f (Int32.not_lt.mpr h) K)⟩
  · subst e
    have z : ¬ nI j < 0 := ba_p (by omega)
    exact Or.inr ⟨j, hj, rfl, fun post K => br_f z (br_f (nI_ge hj (by omega)) K), fun post K => br_f z (br_t (nI_lt hj (by omega)) K)⟩
end
end
section
/-! the methods that only read -/
theorem i_vc_code {k : Nat} {u : SX} {v : SY} (I : i_Rel k u v) (hk : k + 4 ≤ 2051) (v1 : Int32) (v2 : Int32) : wpX_code (fun r => wpY_code (fun r' => r' = r ∧ i_Rel (k + 4) u v) v v1 v2) u v1 v2 := by
  have q : i_Rel (k + 4) u v := i_up I
  generalize i_Rel (k + 4) u v = Q at q ⊢
  refine zz_el (P := fun u v => wpX_code (fun r => wpY_code (fun r' => r' = r ∧ Q) v v1 v2) u v1 v2) ?_ I
  intro N C L c ad f_sealed a_ops a_xs a_ys a_address a_bytes a_indexAt f_unused f_constant f_word f_target f_channel f_level f_prefix f_negate f_operate f_disableChannel f_disableTimer f_timerHead f_running f_interrupted f_regA f_regB f_regC f_savedA f_savedB f_savedC f_operand f_faults a_sizes a_locals a_states a_priorities a_pointers a_branches a_deadlines a_held a_readyLink a_timerLink a_head a_tail a_writers a_readers a_counters g_nextTicket b_pos b_ra b_rb b_rc b_chan b_held b_named b_wake b_open b_guard b_timer b_chosen b_ticket b_sent b_received b_sentFold b_receivedFold hs H G
  obtain ⟨hN2, hN, hC1, hC, hL, hc⟩ := hs
  refine br_c (fun a => br_t a ⟨rfl, q⟩) (fun a => br_c (fun b => br_f a (br_t b ⟨rfl, q⟩)) (fun b => br_c (fun d => br_f a (br_f b (br_t d ⟨rfl, q⟩))) (fun d => br_c (fun e => ?_) (fun e => br_f a (br_f b (br_f d (br_f e ⟨rfl, q⟩)))))))
  have h64 : vp_in v1 64 := by
    obtain ⟨j, hj, ej⟩ := nI_of a
    subst ej
    rw [nI_leI (by omega) hj] at b
    exact ba_v64 (by omega)
  refine br_c (fun f => And.intro h64 (br_f a (br_f b (br_f d (br_t e (br_t f (And.intro h64 ⟨rfl, q⟩))))))) (fun f => br_c (fun g => And.intro h64 (br_f a (br_f b (br_f d (br_t e (br_f f (br_t g (And.intro h64 ⟨rfl, q⟩)))))))) (fun g => And.intro h64 (br_f a (br_f b (br_f d (br_t e (br_f f (br_f g (And.intro h64 ⟨rfl, q⟩)))))))))

theorem i_vc_state {k : Nat} {u : SX} {v : SY} (I : i_Rel k u v) (hk : k + 4 ≤ 2051) (v1 : Int32) : wpX_state (fun r => wpY_state (fun r' => r' = r ∧ i_Rel (k + 4) u v) v v1) u v1 := by
  have q : i_Rel (k + 4) u v := i_up I
  generalize i_Rel (k + 4) u v = Q at q ⊢
  refine zz_el (P := fun u v => wpX_state (fun r => wpY_state (fun r' => r' = r ∧ Q) v v1) u v1) ?_ I
  intro N C L c ad f_sealed a_ops a_xs a_ys a_address a_bytes a_indexAt f_unused f_constant f_word f_target f_channel f_level f_prefix f_negate f_operate f_disableChannel f_disableTimer f_timerHead f_running f_interrupted f_regA f_regB f_regC f_savedA f_savedB f_savedC f_operand f_faults a_sizes a_locals a_states a_priorities a_pointers a_branches a_deadlines a_held a_readyLink a_timerLink a_head a_tail a_writers a_readers a_counters g_nextTicket b_pos b_ra b_rb b_rc b_chan b_held b_named b_wake b_open b_guard b_timer b_chosen b_ticket b_sent b_received b_sentFold b_receivedFold hs H G
  obtain ⟨hN2, hN, hC1, hC, hL, hc⟩ := hs
  rcases jw_ex (f_unused := f_unused) (f_constant := f_constant) (f_word := f_word) (f_target := f_target) (f_channel := f_channel) (f_level := f_level) (f_prefix := f_prefix) (f_negate := f_negate) (f_operate := f_operate) (f_disableChannel := f_disableChannel) (f_disableTimer := f_disableTimer) (f_sealed := f_sealed) (f_timerHead := f_timerHead) (f_running := f_running) (f_interrupted := f_interrupted) (f_regA := f_regA) (f_regB := f_regB) (f_regC := f_regC) (f_savedA := f_savedA) (f_savedB := f_savedB) (f_savedC := f_savedC) (f_operand := f_operand) (f_faults := f_faults) (a_ops := a_ops) (a_xs := a_xs) (a_ys := a_ys) (a_sizes := a_sizes) (a_address := a_address) (a_bytes := a_bytes) (a_indexAt := a_indexAt) (a_locals := a_locals) (a_states := a_states) (a_priorities := a_priorities) (a_pointers := a_pointers) (a_branches := a_branches) (a_deadlines := a_deadlines) (a_held := a_held) (a_readyLink := a_readyLink) (a_timerLink := a_timerLink) (a_head := a_head) (a_tail := a_tail) (a_writers := a_writers) (a_readers := a_readers) (a_counters := a_counters) (g_nextTicket := g_nextTicket) (b_pos := b_pos) (b_ra := b_ra) (b_rb := b_rb) (b_rc := b_rc) (b_chan := b_chan) (b_held := b_held) (b_named := b_named) (b_wake := b_wake) (b_open := b_open) (b_guard := b_guard) (b_timer := b_timer) (b_chosen := b_chosen) (b_ticket := b_ticket) (b_sent := b_sent) (b_received := b_received) (b_sentFold := b_sentFold) (b_receivedFold := b_receivedFold) (N := N) (C := C) (L := L) (c := c) (p := v1) hN with ⟨hX, hY⟩ | ⟨j, hj, e, hX, hY⟩
  · unfold wpX_state wpY_state
    dsimp only
    refine hX _ (br_t rfl ?_)
    exact hY _ (br_f (by decide) ⟨rfl, q⟩)
  · subst e
    have hj8 : j < 8 := by omega
    unfold wpX_state wpY_state
    dsimp only
    refine hX _ (br_f (by decide) (And.intro (ba_v hj8) ?_))
    exact hY _ (br_t rfl (And.intro (ba_v hj8) ⟨rfl, q⟩))

theorem i_vc_priority {k : Nat} {u : SX} {v : SY} (I : i_Rel k u v) (hk : k + 4 ≤ 2051) (v1 : Int32) : wpX_priority (fun r => wpY_priority (fun r' => r' = r ∧ i_Rel (k + 4) u v) v v1) u v1 := by
  have q : i_Rel (k + 4) u v := i_up I
  generalize i_Rel (k + 4) u v = Q at q ⊢
  refine zz_el (P := fun u v => wpX_priority (fun r => wpY_priority (fun r' => r' = r ∧ Q) v v1) u v1) ?_ I
  intro N C L c ad f_sealed a_ops a_xs a_ys a_address a_bytes a_indexAt f_unused f_constant f_word f_target f_channel f_level f_prefix f_negate f_operate f_disableChannel f_disableTimer f_timerHead f_running f_interrupted f_regA f_regB f_regC f_savedA f_savedB f_savedC f_operand f_faults a_sizes a_locals a_states a_priorities a_pointers a_branches a_deadlines a_held a_readyLink a_timerLink a_head a_tail a_writers a_readers a_counters g_nextTicket b_pos b_ra b_rb b_rc b_chan b_held b_named b_wake b_open b_guard b_timer b_chosen b_ticket b_sent b_received b_sentFold b_receivedFold hs H G
  obtain ⟨hN2, hN, hC1, hC, hL, hc⟩ := hs
  rcases jw_ex (f_unused := f_unused) (f_constant := f_constant) (f_word := f_word) (f_target := f_target) (f_channel := f_channel) (f_level := f_level) (f_prefix := f_prefix) (f_negate := f_negate) (f_operate := f_operate) (f_disableChannel := f_disableChannel) (f_disableTimer := f_disableTimer) (f_sealed := f_sealed) (f_timerHead := f_timerHead) (f_running := f_running) (f_interrupted := f_interrupted) (f_regA := f_regA) (f_regB := f_regB) (f_regC := f_regC) (f_savedA := f_savedA) (f_savedB := f_savedB) (f_savedC := f_savedC) (f_operand := f_operand) (f_faults := f_faults) (a_ops := a_ops) (a_xs := a_xs) (a_ys := a_ys) (a_sizes := a_sizes) (a_address := a_address) (a_bytes := a_bytes) (a_indexAt := a_indexAt) (a_locals := a_locals) (a_states := a_states) (a_priorities := a_priorities) (a_pointers := a_pointers) (a_branches := a_branches) (a_deadlines := a_deadlines) (a_held := a_held) (a_readyLink := a_readyLink) (a_timerLink := a_timerLink) (a_head := a_head) (a_tail := a_tail) (a_writers := a_writers) (a_readers := a_readers) (a_counters := a_counters) (g_nextTicket := g_nextTicket) (b_pos := b_pos) (b_ra := b_ra) (b_rb := b_rb) (b_rc := b_rc) (b_chan := b_chan) (b_held := b_held) (b_named := b_named) (b_wake := b_wake) (b_open := b_open) (b_guard := b_guard) (b_timer := b_timer) (b_chosen := b_chosen) (b_ticket := b_ticket) (b_sent := b_sent) (b_received := b_received) (b_sentFold := b_sentFold) (b_receivedFold := b_receivedFold) (N := N) (C := C) (L := L) (c := c) (p := v1) hN with ⟨hX, hY⟩ | ⟨j, hj, e, hX, hY⟩
  · unfold wpX_priority wpX_alive wpY_priority
    dsimp only
    refine hX _ (br_t rfl (br_t rfl ?_))
    exact hY _ (br_f (by decide) ⟨rfl, q⟩)
  · subst e
    have hj8 : j < 8 := by omega
    unfold wpX_priority wpX_alive wpY_priority
    dsimp only
    refine hX _ (br_f (by decide) (And.intro (ba_v hj8) (br_c (fun z => br_t rfl ?_) (fun z => br_f (by decide) (And.intro (ba_v hj8) ?_)))))
    · exact hY _ (br_t rfl (And.intro (ba_v hj8) (br_t z ⟨rfl, q⟩)))
    · exact hY _ (br_t rfl (And.intro (ba_v hj8) (br_f z (And.intro (ba_v hj8) ⟨rfl, q⟩))))

theorem i_vc_position {k : Nat} {u : SX} {v : SY} (I : i_Rel k u v) (hk : k + 4 ≤ 2051) (v1 : Int32) : wpX_position (fun r => wpY_position (fun r' => r' = r ∧ i_Rel (k + 4) u v) v v1) u v1 := by
  have q : i_Rel (k + 4) u v := i_up I
  generalize i_Rel (k + 4) u v = Q at q ⊢
  refine zz_el (P := fun u v => wpX_position (fun r => wpY_position (fun r' => r' = r ∧ Q) v v1) u v1) ?_ I
  intro N C L c ad f_sealed a_ops a_xs a_ys a_address a_bytes a_indexAt f_unused f_constant f_word f_target f_channel f_level f_prefix f_negate f_operate f_disableChannel f_disableTimer f_timerHead f_running f_interrupted f_regA f_regB f_regC f_savedA f_savedB f_savedC f_operand f_faults a_sizes a_locals a_states a_priorities a_pointers a_branches a_deadlines a_held a_readyLink a_timerLink a_head a_tail a_writers a_readers a_counters g_nextTicket b_pos b_ra b_rb b_rc b_chan b_held b_named b_wake b_open b_guard b_timer b_chosen b_ticket b_sent b_received b_sentFold b_receivedFold hs H G
  obtain ⟨hN2, hN, hC1, hC, hL, hc⟩ := hs
  rcases jw_ex (f_unused := f_unused) (f_constant := f_constant) (f_word := f_word) (f_target := f_target) (f_channel := f_channel) (f_level := f_level) (f_prefix := f_prefix) (f_negate := f_negate) (f_operate := f_operate) (f_disableChannel := f_disableChannel) (f_disableTimer := f_disableTimer) (f_sealed := f_sealed) (f_timerHead := f_timerHead) (f_running := f_running) (f_interrupted := f_interrupted) (f_regA := f_regA) (f_regB := f_regB) (f_regC := f_regC) (f_savedA := f_savedA) (f_savedB := f_savedB) (f_savedC := f_savedC) (f_operand := f_operand) (f_faults := f_faults) (a_ops := a_ops) (a_xs := a_xs) (a_ys := a_ys) (a_sizes := a_sizes) (a_address := a_address) (a_bytes := a_bytes) (a_indexAt := a_indexAt) (a_locals := a_locals) (a_states := a_states) (a_priorities := a_priorities) (a_pointers := a_pointers) (a_branches := a_branches) (a_deadlines := a_deadlines) (a_held := a_held) (a_readyLink := a_readyLink) (a_timerLink := a_timerLink) (a_head := a_head) (a_tail := a_tail) (a_writers := a_writers) (a_readers := a_readers) (a_counters := a_counters) (g_nextTicket := g_nextTicket) (b_pos := b_pos) (b_ra := b_ra) (b_rb := b_rb) (b_rc := b_rc) (b_chan := b_chan) (b_held := b_held) (b_named := b_named) (b_wake := b_wake) (b_open := b_open) (b_guard := b_guard) (b_timer := b_timer) (b_chosen := b_chosen) (b_ticket := b_ticket) (b_sent := b_sent) (b_received := b_received) (b_sentFold := b_sentFold) (b_receivedFold := b_receivedFold) (N := N) (C := C) (L := L) (c := c) (p := v1) hN with ⟨hX, hY⟩ | ⟨j, hj, e, hX, hY⟩
  · unfold wpX_position wpX_alive wpY_position
    dsimp only
    refine hX _ (br_t rfl (br_t rfl ?_))
    exact hY _ (br_f (by decide) ⟨rfl, q⟩)
  · subst e
    have hj8 : j < 8 := by omega
    unfold wpX_position wpX_alive wpY_position
    dsimp only
    refine hX _ (br_f (by decide) (And.intro (ba_v hj8) (br_c (fun z => br_t rfl ?_) (fun z => br_f (by decide) (And.intro (ba_v hj8) ?_)))))
    · exact hY _ (br_t rfl (And.intro (ba_v hj8) (br_t z ⟨rfl, q⟩)))
    · rw [ba_c hj8] at z ⊢
      obtain ⟨i, hi, ep, et⟩ := H.2.2.2.2.1 j hj z
      rcases G with ⟨_, _, free, _⟩ | ⟨_, hL1, _, cad, cix, _, _⟩
      · exact absurd (free j hj) z
      · have hai := (cad i (by omega)).2
        rw [et, ba_511 (by omega), nI_clamp (by omega), cix i hi]
        refine And.intro (vp_in_nI (by omega) (by decide)) ?_
        refine hY _ (br_t rfl (And.intro (ba_v hj8) ?_))
        try rw [ba_c hj8]
        exact br_f z (And.intro (ba_v hj8) ⟨ep, q⟩)

theorem i_vc_deadline {k : Nat} {u : SX} {v : SY} (I : i_Rel k u v) (hk : k + 4 ≤ 2051) (v1 : Int32) : wpX_deadline (fun r => wpY_deadline (fun r' => r' = r ∧ i_Rel (k + 4) u v) v v1) u v1 := by
  have q : i_Rel (k + 4) u v := i_up I
  generalize i_Rel (k + 4) u v = Q at q ⊢
  refine zz_el (P := fun u v => wpX_deadline (fun r => wpY_deadline (fun r' => r' = r ∧ Q) v v1) u v1) ?_ I
  intro N C L c ad f_sealed a_ops a_xs a_ys a_address a_bytes a_indexAt f_unused f_constant f_word f_target f_channel f_level f_prefix f_negate f_operate f_disableChannel f_disableTimer f_timerHead f_running f_interrupted f_regA f_regB f_regC f_savedA f_savedB f_savedC f_operand f_faults a_sizes a_locals a_states a_priorities a_pointers a_branches a_deadlines a_held a_readyLink a_timerLink a_head a_tail a_writers a_readers a_counters g_nextTicket b_pos b_ra b_rb b_rc b_chan b_held b_named b_wake b_open b_guard b_timer b_chosen b_ticket b_sent b_received b_sentFold b_receivedFold hs H G
  obtain ⟨hN2, hN, hC1, hC, hL, hc⟩ := hs
  rcases jw_ex (f_unused := f_unused) (f_constant := f_constant) (f_word := f_word) (f_target := f_target) (f_channel := f_channel) (f_level := f_level) (f_prefix := f_prefix) (f_negate := f_negate) (f_operate := f_operate) (f_disableChannel := f_disableChannel) (f_disableTimer := f_disableTimer) (f_sealed := f_sealed) (f_timerHead := f_timerHead) (f_running := f_running) (f_interrupted := f_interrupted) (f_regA := f_regA) (f_regB := f_regB) (f_regC := f_regC) (f_savedA := f_savedA) (f_savedB := f_savedB) (f_savedC := f_savedC) (f_operand := f_operand) (f_faults := f_faults) (a_ops := a_ops) (a_xs := a_xs) (a_ys := a_ys) (a_sizes := a_sizes) (a_address := a_address) (a_bytes := a_bytes) (a_indexAt := a_indexAt) (a_locals := a_locals) (a_states := a_states) (a_priorities := a_priorities) (a_pointers := a_pointers) (a_branches := a_branches) (a_deadlines := a_deadlines) (a_held := a_held) (a_readyLink := a_readyLink) (a_timerLink := a_timerLink) (a_head := a_head) (a_tail := a_tail) (a_writers := a_writers) (a_readers := a_readers) (a_counters := a_counters) (g_nextTicket := g_nextTicket) (b_pos := b_pos) (b_ra := b_ra) (b_rb := b_rb) (b_rc := b_rc) (b_chan := b_chan) (b_held := b_held) (b_named := b_named) (b_wake := b_wake) (b_open := b_open) (b_guard := b_guard) (b_timer := b_timer) (b_chosen := b_chosen) (b_ticket := b_ticket) (b_sent := b_sent) (b_received := b_received) (b_sentFold := b_sentFold) (b_receivedFold := b_receivedFold) (N := N) (C := C) (L := L) (c := c) (p := v1) hN with ⟨hX, hY⟩ | ⟨j, hj, e, hX, hY⟩
  · unfold wpX_deadline wpY_deadline
    dsimp only
    refine hX _ (br_t rfl ?_)
    exact hY _ (br_f (by decide) ⟨rfl, q⟩)
  · subst e
    have hj8 : j < 8 := by omega
    unfold wpX_deadline wpY_deadline
    dsimp only
    refine hX _ (br_f (by decide) (And.intro (ba_v hj8) ?_))
    refine hY _ (br_t rfl (And.intro (ba_v hj8) ?_))
    try rw [ba_c hj8]
    rcases H.2.2.2.2.2.1 j hj with ⟨h1, h2, h3, h4, h5⟩ | ⟨h1, h2, h3, h4, h5⟩
    · refine br_c (fun z => And.intro (ba_v hj8) ⟨(h4 z).1.symm, q⟩) (fun z => And.intro (ba_v hj8) (br_t h1 ⟨(h5 z).symm, q⟩))
    · have z : ¬ a_states j = 6 := by rcases h2 with e | e | e | e <;> (rw [e]; decide)
      exact br_f z (And.intro (ba_v hj8) (br_f (by rw [h1]; decide) (And.intro (ba_v hj8) ⟨h3.symm, q⟩)))

theorem i_vc_branch {k : Nat} {u : SX} {v : SY} (I : i_Rel k u v) (hk : k + 4 ≤ 2051) (v1 : Int32) : wpX_branch (fun r => wpY_branch (fun r' => r' = r ∧ i_Rel (k + 4) u v) v v1) u v1 := by
  have q : i_Rel (k + 4) u v := i_up I
  generalize i_Rel (k + 4) u v = Q at q ⊢
  refine zz_el (P := fun u v => wpX_branch (fun r => wpY_branch (fun r' => r' = r ∧ Q) v v1) u v1) ?_ I
  intro N C L c ad f_sealed a_ops a_xs a_ys a_address a_bytes a_indexAt f_unused f_constant f_word f_target f_channel f_level f_prefix f_negate f_operate f_disableChannel f_disableTimer f_timerHead f_running f_interrupted f_regA f_regB f_regC f_savedA f_savedB f_savedC f_operand f_faults a_sizes a_locals a_states a_priorities a_pointers a_branches a_deadlines a_held a_readyLink a_timerLink a_head a_tail a_writers a_readers a_counters g_nextTicket b_pos b_ra b_rb b_rc b_chan b_held b_named b_wake b_open b_guard b_timer b_chosen b_ticket b_sent b_received b_sentFold b_receivedFold hs H G
  obtain ⟨hN2, hN, hC1, hC, hL, hc⟩ := hs
  rcases jw_ex (f_unused := f_unused) (f_constant := f_constant) (f_word := f_word) (f_target := f_target) (f_channel := f_channel) (f_level := f_level) (f_prefix := f_prefix) (f_negate := f_negate) (f_operate := f_operate) (f_disableChannel := f_disableChannel) (f_disableTimer := f_disableTimer) (f_sealed := f_sealed) (f_timerHead := f_timerHead) (f_running := f_running) (f_interrupted := f_interrupted) (f_regA := f_regA) (f_regB := f_regB) (f_regC := f_regC) (f_savedA := f_savedA) (f_savedB := f_savedB) (f_savedC := f_savedC) (f_operand := f_operand) (f_faults := f_faults) (a_ops := a_ops) (a_xs := a_xs) (a_ys := a_ys) (a_sizes := a_sizes) (a_address := a_address) (a_bytes := a_bytes) (a_indexAt := a_indexAt) (a_locals := a_locals) (a_states := a_states) (a_priorities := a_priorities) (a_pointers := a_pointers) (a_branches := a_branches) (a_deadlines := a_deadlines) (a_held := a_held) (a_readyLink := a_readyLink) (a_timerLink := a_timerLink) (a_head := a_head) (a_tail := a_tail) (a_writers := a_writers) (a_readers := a_readers) (a_counters := a_counters) (g_nextTicket := g_nextTicket) (b_pos := b_pos) (b_ra := b_ra) (b_rb := b_rb) (b_rc := b_rc) (b_chan := b_chan) (b_held := b_held) (b_named := b_named) (b_wake := b_wake) (b_open := b_open) (b_guard := b_guard) (b_timer := b_timer) (b_chosen := b_chosen) (b_ticket := b_ticket) (b_sent := b_sent) (b_received := b_received) (b_sentFold := b_sentFold) (b_receivedFold := b_receivedFold) (N := N) (C := C) (L := L) (c := c) (p := v1) hN with ⟨hX, hY⟩ | ⟨j, hj, e, hX, hY⟩
  · unfold wpX_branch wpY_branch
    dsimp only
    refine hX _ (br_t rfl ?_)
    exact hY _ (br_f (by decide) ⟨rfl, q⟩)
  · subst e
    have hj8 : j < 8 := by omega
    unfold wpX_branch wpY_branch
    dsimp only
    refine hX _ (br_f (by decide) (And.intro (ba_v hj8) ?_))
    try rw [ba_c hj8]
    rcases H.2.2.2.2.2.1 j hj with ⟨h1, h2, h3, h4, h5⟩ | ⟨h1, h2, h3, h4, ⟨h5, h6⟩ | ⟨i, hi, h5, h6⟩⟩
    · rw [h2]
      refine nm_e (br_f (by decide) ?_)
      exact hY _ (br_t rfl (And.intro (ba_v hj8) (br_t h1 ⟨rfl, q⟩)))
    · rw [h6]
      refine nm_e (br_f (by decide) ?_)
      exact hY _ (br_t rfl (And.intro (ba_v hj8) (br_f (by rw [h1]; decide) (And.intro (ba_v hj8) ⟨h5, q⟩))))
    · rcases G with ⟨_, _, free, _⟩ | ⟨_, hL1, _, cad, cix, _, _⟩
      · rw [free j hj] at h2
        exact absurd h2 (by decide)
      · have hai := (cad i (by omega)).2
        rw [h6]
        refine nm_e (br_t (nI_pos' (by omega)) ?_)
        rw [ba_511 (by omega), nI_clamp (by omega), cix i hi]
        refine And.intro (vp_in_nI (by omega) (by decide)) ?_
        exact hY _ (br_t rfl (And.intro (ba_v hj8) (br_f (by rw [h1]; decide) (And.intro (ba_v hj8) ⟨h5, q⟩))))

theorem i_vc_local {k : Nat} {u : SX} {v : SY} (I : i_Rel k u v) (hk : k + 4 ≤ 2051) (v1 : Int32) (v2 : Int32) : wpX_local (fun r => wpY_local (fun r' => r' = r ∧ i_Rel (k + 4) u v) v v1 v2) u v1 v2 := by
  have q : i_Rel (k + 4) u v := i_up I
  generalize i_Rel (k + 4) u v = Q at q ⊢
  refine zz_el (P := fun u v => wpX_local (fun r => wpY_local (fun r' => r' = r ∧ Q) v v1 v2) u v1 v2) ?_ I
  intro N C L c ad f_sealed a_ops a_xs a_ys a_address a_bytes a_indexAt f_unused f_constant f_word f_target f_channel f_level f_prefix f_negate f_operate f_disableChannel f_disableTimer f_timerHead f_running f_interrupted f_regA f_regB f_regC f_savedA f_savedB f_savedC f_operand f_faults a_sizes a_locals a_states a_priorities a_pointers a_branches a_deadlines a_held a_readyLink a_timerLink a_head a_tail a_writers a_readers a_counters g_nextTicket b_pos b_ra b_rb b_rc b_chan b_held b_named b_wake b_open b_guard b_timer b_chosen b_ticket b_sent b_received b_sentFold b_receivedFold hs H G
  obtain ⟨hN2, hN, hC1, hC, hL, hc⟩ := hs
  rcases jw_ex (f_unused := f_unused) (f_constant := f_constant) (f_word := f_word) (f_target := f_target) (f_channel := f_channel) (f_level := f_level) (f_prefix := f_prefix) (f_negate := f_negate) (f_operate := f_operate) (f_disableChannel := f_disableChannel) (f_disableTimer := f_disableTimer) (f_sealed := f_sealed) (f_timerHead := f_timerHead) (f_running := f_running) (f_interrupted := f_interrupted) (f_regA := f_regA) (f_regB := f_regB) (f_regC := f_regC) (f_savedA := f_savedA) (f_savedB := f_savedB) (f_savedC := f_savedC) (f_operand := f_operand) (f_faults := f_faults) (a_ops := a_ops) (a_xs := a_xs) (a_ys := a_ys) (a_sizes := a_sizes) (a_address := a_address) (a_bytes := a_bytes) (a_indexAt := a_indexAt) (a_locals := a_locals) (a_states := a_states) (a_priorities := a_priorities) (a_pointers := a_pointers) (a_branches := a_branches) (a_deadlines := a_deadlines) (a_held := a_held) (a_readyLink := a_readyLink) (a_timerLink := a_timerLink) (a_head := a_head) (a_tail := a_tail) (a_writers := a_writers) (a_readers := a_readers) (a_counters := a_counters) (g_nextTicket := g_nextTicket) (b_pos := b_pos) (b_ra := b_ra) (b_rb := b_rb) (b_rc := b_rc) (b_chan := b_chan) (b_held := b_held) (b_named := b_named) (b_wake := b_wake) (b_open := b_open) (b_guard := b_guard) (b_timer := b_timer) (b_chosen := b_chosen) (b_ticket := b_ticket) (b_sent := b_sent) (b_received := b_received) (b_sentFold := b_sentFold) (b_receivedFold := b_receivedFold) (N := N) (C := C) (L := L) (c := c) (p := v1) hN with ⟨hX, hY⟩ | ⟨j, hj, e, hX, hY⟩
  · unfold wpX_local wpY_local
    dsimp only
    refine hX _ (br_t rfl ?_)
    exact hY _ (br_f (by decide) ⟨rfl, q⟩)
  · subst e
    have hj8 : j < 8 := by omega
    unfold wpX_local wpY_local
    dsimp only
    refine hX _ (br_f (by decide) (br_c (fun a => ?_) (fun a => br_c (fun b => ?_) (fun b => ?_))))
    · exact hY _ (br_t rfl (br_t a ⟨rfl, q⟩))
    · obtain ⟨m, hm, e⟩ := nI_of2 (M := 7) (n := 7) (by decide) a b
      subst e
      have h64 : vp_in (nI j * 8 + nI m) 64 := by
        rw [ba_m8, nI_add]
        exact ba_v64 (by omega)
      refine And.intro h64 ?_
      exact hY _ (br_t rfl (br_f a (br_t b (And.intro h64 ⟨rfl, q⟩))))
    · exact hY _ (br_t rfl (br_f a (br_f b ⟨rfl, q⟩)))

theorem i_vc_register {k : Nat} {u : SX} {v : SY} (I : i_Rel k u v) (hk : k + 4 ≤ 2051) (v1 : Int32) (v2 : Int32) : wpX_register (fun r => wpY_register (fun r' => r' = r ∧ i_Rel (k + 4) u v) v v1 v2) u v1 v2 := by
  have q : i_Rel (k + 4) u v := i_up I
  generalize i_Rel (k + 4) u v = Q at q ⊢
  refine zz_el (P := fun u v => wpX_register (fun r => wpY_register (fun r' => r' = r ∧ Q) v v1 v2) u v1 v2) ?_ I
  intro N C L c ad f_sealed a_ops a_xs a_ys a_address a_bytes a_indexAt f_unused f_constant f_word f_target f_channel f_level f_prefix f_negate f_operate f_disableChannel f_disableTimer f_timerHead f_running f_interrupted f_regA f_regB f_regC f_savedA f_savedB f_savedC f_operand f_faults a_sizes a_locals a_states a_priorities a_pointers a_branches a_deadlines a_held a_readyLink a_timerLink a_head a_tail a_writers a_readers a_counters g_nextTicket b_pos b_ra b_rb b_rc b_chan b_held b_named b_wake b_open b_guard b_timer b_chosen b_ticket b_sent b_received b_sentFold b_receivedFold hs H G
  obtain ⟨hN2, hN, hC1, hC, hL, hc⟩ := hs
  rcases jw_ex (f_unused := f_unused) (f_constant := f_constant) (f_word := f_word) (f_target := f_target) (f_channel := f_channel) (f_level := f_level) (f_prefix := f_prefix) (f_negate := f_negate) (f_operate := f_operate) (f_disableChannel := f_disableChannel) (f_disableTimer := f_disableTimer) (f_sealed := f_sealed) (f_timerHead := f_timerHead) (f_running := f_running) (f_interrupted := f_interrupted) (f_regA := f_regA) (f_regB := f_regB) (f_regC := f_regC) (f_savedA := f_savedA) (f_savedB := f_savedB) (f_savedC := f_savedC) (f_operand := f_operand) (f_faults := f_faults) (a_ops := a_ops) (a_xs := a_xs) (a_ys := a_ys) (a_sizes := a_sizes) (a_address := a_address) (a_bytes := a_bytes) (a_indexAt := a_indexAt) (a_locals := a_locals) (a_states := a_states) (a_priorities := a_priorities) (a_pointers := a_pointers) (a_branches := a_branches) (a_deadlines := a_deadlines) (a_held := a_held) (a_readyLink := a_readyLink) (a_timerLink := a_timerLink) (a_head := a_head) (a_tail := a_tail) (a_writers := a_writers) (a_readers := a_readers) (a_counters := a_counters) (g_nextTicket := g_nextTicket) (b_pos := b_pos) (b_ra := b_ra) (b_rb := b_rb) (b_rc := b_rc) (b_chan := b_chan) (b_held := b_held) (b_named := b_named) (b_wake := b_wake) (b_open := b_open) (b_guard := b_guard) (b_timer := b_timer) (b_chosen := b_chosen) (b_ticket := b_ticket) (b_sent := b_sent) (b_received := b_received) (b_sentFold := b_sentFold) (b_receivedFold := b_receivedFold) (N := N) (C := C) (L := L) (c := c) (p := v1) hN with ⟨hX, hY⟩ | ⟨j, hj, e, hX, hY⟩
  · unfold wpX_register wpY_register
    dsimp only
    refine hX _ (br_t rfl ?_)
    exact hY _ (br_f (by decide) ⟨rfl, q⟩)
  · subst e
    have hj8 : j < 8 := by omega
    unfold wpX_register wpY_register wY_register_41
    dsimp only
    refine hX _ (br_f (by decide) (br_c (fun a => ?_) (fun a => br_c (fun b => And.intro (ba_v hj8) ?_) (fun b => ?_))))
    · exact hY _ (br_t rfl (br_t a ⟨rfl, q⟩))
    · rw [ba_c hj8]
      by_cases z1 : a_states j = 1
      · obtain ⟨r1, r2, r3⟩ := H.1.2.2.1 j hj z1
        refine br_t z1 (br_c (fun c0 => ?_) (fun c0 => br_c (fun c1 => ?_) (fun c1 => ?_)))
        · refine hY _ (br_t rfl (br_f a (br_t b (And.intro (ba_v hj8) ?_))))
          try rw [ba_c hj8]
          exact br_t z1 (br_t c0 ⟨ba_v hj8, r1, q⟩)
        · refine hY _ (br_t rfl (br_f a (br_t b (And.intro (ba_v hj8) ?_))))
          try rw [ba_c hj8]
          exact br_t z1 (br_f c0 (br_t c1 ⟨ba_v hj8, r2, q⟩))
        · refine hY _ (br_t rfl (br_f a (br_t b (And.intro (ba_v hj8) ?_))))
          try rw [ba_c hj8]
          exact br_t z1 (br_f c0 (br_f c1 ⟨ba_v hj8, r3, q⟩))
      · refine br_f z1 (And.intro (ba_v hj8) ?_)
        by_cases z2 : a_states j = 2
        · obtain ⟨r1, r2, r3⟩ := H.1.2.2.2.1 j hj z2
          refine br_t z2 (br_c (fun c0 => ?_) (fun c0 => br_c (fun c1 => ?_) (fun c1 => ?_)))
          · refine hY _ (br_t rfl (br_f a (br_t b (And.intro (ba_v hj8) ?_))))
            try rw [ba_c hj8]
            exact br_f z1 (And.intro (ba_v hj8) (br_t z2 (br_t c0 ⟨ba_v hj8, r1, q⟩)))
          · refine hY _ (br_t rfl (br_f a (br_t b (And.intro (ba_v hj8) ?_))))
            try rw [ba_c hj8]
            exact br_f z1 (And.intro (ba_v hj8) (br_t z2 (br_f c0 (br_t c1 ⟨ba_v hj8, r2, q⟩))))
          · refine hY _ (br_t rfl (br_f a (br_t b (And.intro (ba_v hj8) ?_))))
            try rw [ba_c hj8]
            exact br_f z1 (And.intro (ba_v hj8) (br_t z2 (br_f c0 (br_f c1 ⟨ba_v hj8, r3, q⟩))))
        · refine br_f z2 ?_
          refine hY _ (br_t rfl (br_f a (br_t b (And.intro (ba_v hj8) ?_))))
          try rw [ba_c hj8]
          exact br_f z1 (And.intro (ba_v hj8) (br_f z2 ⟨rfl, q⟩))
    · exact hY _ (br_t rfl (br_f a (br_f b ⟨rfl, q⟩)))

theorem i_vc_status {k : Nat} {u : SX} {v : SY} (I : i_Rel k u v) (hk : k + 4 ≤ 2051) (v1 : Int32) : wpX_status (fun r => wpY_status (fun r' => r' = r ∧ i_Rel (k + 4) u v) v v1) u v1 := by
  have q : i_Rel (k + 4) u v := i_up I
  generalize i_Rel (k + 4) u v = Q at q ⊢
  refine zz_el (P := fun u v => wpX_status (fun r => wpY_status (fun r' => r' = r ∧ Q) v v1) u v1) ?_ I
  intro N C L c ad f_sealed a_ops a_xs a_ys a_address a_bytes a_indexAt f_unused f_constant f_word f_target f_channel f_level f_prefix f_negate f_operate f_disableChannel f_disableTimer f_timerHead f_running f_interrupted f_regA f_regB f_regC f_savedA f_savedB f_savedC f_operand f_faults a_sizes a_locals a_states a_priorities a_pointers a_branches a_deadlines a_held a_readyLink a_timerLink a_head a_tail a_writers a_readers a_counters g_nextTicket b_pos b_ra b_rb b_rc b_chan b_held b_named b_wake b_open b_guard b_timer b_chosen b_ticket b_sent b_received b_sentFold b_receivedFold hs H G
  obtain ⟨hN2, hN, hC1, hC, hL, hc⟩ := hs
  exact br_c (fun a => br_t a ⟨rfl, q⟩) (fun a => br_c (fun b => br_f a (br_t b ⟨rfl, q⟩)) (fun b => br_f a (br_f b ⟨rfl, q⟩)))
end
section
/-! channels' words and the ready queues' places, read -/
section
variable {f_unused f_constant f_word f_target f_channel f_level f_prefix f_negate f_operate f_disableChannel f_disableTimer f_processCount f_channelCount f_length f_sealed f_timerHead f_running f_interrupted f_regA f_regB f_regC f_savedA f_savedB f_savedC f_operand f_clock f_faults : Int32} {a_ops a_xs a_ys a_sizes a_address a_bytes a_indexAt a_locals a_states a_priorities a_pointers a_branches a_deadlines a_held a_readyLink a_timerLink a_head a_tail a_writers a_readers a_counters : Nat → Int32}
theorem xw_rdA {post : Int32 → Prop} : ∀ (m t : Nat) (h : Int32) (l : List Nat), t + m < 2 ^ 31 → ch_n a_readyLink h l → (∀ p, p ∈ l → p < 8) → post (gt_n l m) → wX_readyAt_35 post (nI (t + m)) f_unused f_constant f_word f_target f_channel f_level f_prefix f_negate f_operate f_disableChannel f_disableTimer f_processCount f_channelCount f_length f_sealed f_timerHead f_running f_interrupted f_regA f_regB f_regC f_savedA f_savedB f_savedC f_operand f_clock f_faults a_ops a_xs a_ys a_sizes a_address a_bytes a_indexAt a_locals a_states a_priorities a_pointers a_branches a_deadlines a_held a_readyLink a_timerLink a_head a_tail a_writers a_readers a_counters (m + 1) h (nI t) := by
  intro m
  induction m with
  | zero =>
    intro t h l ht hc hl K
    rw [wX_readyAt_35]
    refine br_t (Int32.le_refl _) ?_
    rw [ch_gt hc] at K
    exact K
  | succ m ih =>
    intro t h l ht hc hl K
    have h8 : ¬ nI (t + (m + 1)) ≤ nI t := nI_ge (by omega) (by omega)
    rw [wX_readyAt_35]
    refine br_f h8 ?_
    cases l with
    | nil =>
      have e : h = -1 := hc
      subst e
      exact br_t (by decide) K
    | cons a l =>
      have e : h = nI a := hc.1
      subst e
      have ha := hl a (List.mem_cons_self ..)
      refine br_f (ba_p ha) (And.intro (ba_v ha) ?_)
      rw [ba_c ha]
      refine nm_e (nm_r (nI_1 t) ?_)
      have h2 := ih (t + 1) (a_readyLink a) l (by omega) hc.2 (fun p hp => hl p (List.mem_cons_of_mem _ hp)) K
      rw [show t + 1 + m = t + (m + 1) from by omega] at h2
      exact h2
end
theorem i_vc_traffic {k : Nat} {u : SX} {v : SY} (I : i_Rel k u v) (hk : k + 4 ≤ 2051) (v1 : Int32) (v2 : Int32) : wpX_traffic (fun r => wpY_traffic (fun r' => r' = r ∧ i_Rel (k + 4) u v) v v1 v2) u v1 v2 := by
  have q : i_Rel (k + 4) u v := i_up I
  generalize i_Rel (k + 4) u v = Q at q ⊢
  refine zz_el (P := fun u v => wpX_traffic (fun r => wpY_traffic (fun r' => r' = r ∧ Q) v v1 v2) u v1 v2) ?_ I
  intro N C L c ad f_sealed a_ops a_xs a_ys a_address a_bytes a_indexAt f_unused f_constant f_word f_target f_channel f_level f_prefix f_negate f_operate f_disableChannel f_disableTimer f_timerHead f_running f_interrupted f_regA f_regB f_regC f_savedA f_savedB f_savedC f_operand f_faults a_sizes a_locals a_states a_priorities a_pointers a_branches a_deadlines a_held a_readyLink a_timerLink a_head a_tail a_writers a_readers a_counters g_nextTicket b_pos b_ra b_rb b_rc b_chan b_held b_named b_wake b_open b_guard b_timer b_chosen b_ticket b_sent b_received b_sentFold b_receivedFold hs H G
  obtain ⟨hN2, hN, hC1, hC, hL, hc⟩ := hs
  refine br_c (fun a => br_t a ⟨rfl, q⟩) (fun a => br_c (fun b => br_f a (br_t b ⟨rfl, q⟩)) (fun b => br_c (fun d => br_f a (br_f b (br_t d ⟨rfl, q⟩))) (fun d => br_c (fun e => ?_) (fun e => br_f a (br_f b (br_f d (br_f e ⟨rfl, q⟩)))))))
  obtain ⟨c0, hc0, e0⟩ : ∃ c0, c0 < C ∧ v1 = nI c0 := by
    rcases pk_ix v1 (n := C) (by omega) with h | h | h
    · exact absurd h a
    · exact absurd h b
    · exact h
  subst e0
  obtain ⟨m, hm, em⟩ := nI_of2 (M := 6) (n := 6) (by decide) d e
  subst em
  have h8 : c0 < 8 := by omega
  have h := H.2.2.2.2.2.2.2.1 c0 hc0
  have CW := (H.2.2.2.1 c0 hc0).1
  have CR := (H.2.2.2.1 c0 hc0).2
  have hm7 : m = 0 ∨ m = 1 ∨ m = 2 ∨ m = 3 ∨ m = 4 ∨ m = 5 ∨ m = 6 := by omega
  have ix : ∀ m, m < 4 → vp_in (nI c0 * 4 + nI m) 32 ∧ (nI c0 * 4 + nI m).toNatClampNeg = c0 * 4 + m := fun m hm => by
    rw [ba_m4, nI_add]
    exact ⟨ba_32 (by omega), ba_c32 (by omega)⟩
  rcases hm7 with rfl | rfl | rfl | rfl | rfl | rfl | rfl
  · refine br_f (by decide) (And.intro (ix 0 (by decide)).1 (br_f a (br_f b (br_f d (br_t e (br_t (by decide) (And.intro (ba_v h8) ⟨?_, q⟩)))))))
    rw [(ix 0 (by decide)).2, ba_c h8]
    exact (h.1).symm
  · refine br_f (by decide) (And.intro (ix 1 (by decide)).1 (br_f a (br_f b (br_f d (br_t e (br_f (by decide) <| br_t (by decide) (And.intro (ba_v h8) ⟨?_, q⟩)))))))
    rw [(ix 1 (by decide)).2, ba_c h8]
    exact (h.2.1).symm
  · refine br_f (by decide) (And.intro (ix 2 (by decide)).1 (br_f a (br_f b (br_f d (br_t e (br_f (by decide) <| br_f (by decide) <| br_t (by decide) (And.intro (ba_v h8) ⟨?_, q⟩)))))))
    rw [(ix 2 (by decide)).2, ba_c h8]
    exact (h.2.2.1).symm
  · refine br_f (by decide) (And.intro (ix 3 (by decide)).1 (br_f a (br_f b (br_f d (br_t e (br_f (by decide) <| br_f (by decide) <| br_f (by decide) <| br_t (by decide) (And.intro (ba_v h8) ⟨?_, q⟩)))))))
    rw [(ix 3 (by decide)).2, ba_c h8]
    exact (h.2.2.2).symm
  · refine br_t (by decide) (br_f (by decide) (And.intro (ba_v h8) ?_))
    rw [ba_c h8]
    refine nm_e (br_f (by decide) ?_)
    rcases CW with ⟨ew, none⟩ | ⟨w, hw, ew, Pw, uw⟩
    · rw [ew]
      refine br_f (by decide) (br_f a (br_f b (br_f d (br_t e (br_f (by decide) <| br_f (by decide) <| br_f (by decide) <| br_f (by decide) <| br_f (by decide) <|  ?_)))))
      exact yw_writer hN (Or.inl ⟨rfl, none⟩) (br_f (by decide) (br_f (by decide) ⟨rfl, q⟩))
    · have hw8 : w < 8 := by omega
      rw [ew]
      refine br_t (ba_p' hw8) (And.intro (ba_v hw8) (br_f a (br_f b (br_f d (br_t e (br_f (by decide) <| br_f (by decide) <| br_f (by decide) <| br_f (by decide) <| br_f (by decide) <|  ?_))))))
      refine yw_writer hN (ow_one hw Pw uw) (br_f (by decide) (br_t (ba_p' hw8) (And.intro (ba_v hw8) ⟨?_, q⟩)))
      rw [ba_c hw8]
      exact ((H.2.2.2.2.2.2.1 w hw).1 Pw.1).1.symm
  · refine br_t (by decide) (br_f (by decide) (And.intro (ba_v h8) ?_))
    rw [ba_c h8]
    refine nm_e (br_t (by decide) (br_f a (br_f b (br_f d (br_t e (br_f (by decide) <| br_f (by decide) <| br_f (by decide) <| br_f (by decide) <| br_f (by decide) <|  ?_))))))
    exact yw_writer hN CW (br_t (by decide) ⟨rfl, q⟩)
  · refine br_t (by decide) (br_t (by decide) (And.intro (ba_v h8) ?_))
    rw [ba_c h8]
    refine br_f a (br_f b (br_f d (br_t e (br_f (by decide) <| br_f (by decide) <| br_f (by decide) <| br_f (by decide) <|  br_t (by decide) ?_))))
    exact yw_reader hN h8 CR ⟨rfl, q⟩

theorem i_vc_readyAt {k : Nat} {u : SX} {v : SY} (I : i_Rel k u v) (hk : k + 4 ≤ 2051) (v1 : Int32) (v2 : Int32) : wpX_readyAt (fun r => wpY_readyAt (fun r' => r' = r ∧ i_Rel (k + 4) u v) v v1 v2) u v1 v2 := by
  have q : i_Rel (k + 4) u v := i_up I
  generalize i_Rel (k + 4) u v = Q at q ⊢
  refine zz_el (P := fun u v => wpX_readyAt (fun r => wpY_readyAt (fun r' => r' = r ∧ Q) v v1 v2) u v1 v2) ?_ I
  intro N C L c ad f_sealed a_ops a_xs a_ys a_address a_bytes a_indexAt f_unused f_constant f_word f_target f_channel f_level f_prefix f_negate f_operate f_disableChannel f_disableTimer f_timerHead f_running f_interrupted f_regA f_regB f_regC f_savedA f_savedB f_savedC f_operand f_faults a_sizes a_locals a_states a_priorities a_pointers a_branches a_deadlines a_held a_readyLink a_timerLink a_head a_tail a_writers a_readers a_counters g_nextTicket b_pos b_ra b_rb b_rc b_chan b_held b_named b_wake b_open b_guard b_timer b_chosen b_ticket b_sent b_received b_sentFold b_receivedFold hs H G
  obtain ⟨hN2, hN, hC1, hC, hL, hc⟩ := hs
  obtain ⟨tk, n, en, hn, T1, T2, T3⟩ := H.2.1
  have hT : ∀ p, b_ticket p = lN (tk p) ∧ tk p < 2 ^ 31 := fun p => ⟨(T1 p).1, by have := (T1 p).2; omega⟩
  have yes : ∀ kk, kk < 2 → v1 = nI kk → wX_readyAt_11 (fun r => wpY_readyAt (fun r' => r' = r ∧ Q) (nI L, nI N, nI C, nI c, f_faults, f_sealed, g_nextTicket, a_ops, a_xs, a_ys, a_states, a_priorities, b_pos, b_ra, b_rb, b_rc, a_locals, b_chan, b_held, b_named, b_wake, b_open, b_guard, b_timer, b_chosen, b_ticket, b_sent, b_received, b_sentFold, b_receivedFold) v1 v2) v1 v2 f_unused f_constant f_word f_target f_channel f_level f_prefix f_negate f_operate f_disableChannel f_disableTimer (nI N) (nI C) (nI L) f_sealed f_timerHead f_running f_interrupted f_regA f_regB f_regC f_savedA f_savedB f_savedC f_operand (nI c) f_faults a_ops a_xs a_ys a_sizes a_address a_bytes a_indexAt a_locals a_states a_priorities a_pointers a_branches a_deadlines a_held a_readyLink a_timerLink a_head a_tail a_writers a_readers a_counters := fun kk hkk ek => by
    obtain ⟨l, QQ⟩ := T3 kk hkk
    have hl : ∀ p, p ∈ l → p < N := fun p hp => ((QQ.1 p).mp hp).1
    have len : l.length ≤ N := cn_len (pw_nodup QQ.2.1) hl
    refine br_c (fun a => ?_) (fun a => ?_)
    · refine yw_rdy hN hT (ow_none (fun p hp z => ?_)) ⟨rfl, q⟩
      have := rq_le (st := a_states) (pr := a_priorities) (tk := tk) (k := v1) (p := p) (n := N)
      rw [← z.2.2] at a
      exact nI_pos (by omega) a
    · obtain ⟨m, hm, em⟩ := nI_of a
      subst em ek
      have OW := rq_ow hN hm QQ
      refine br_c (fun b => And.intro (vp_in_nI hkk (by decide)) ?_) (fun b => ?_)
      · rw [ba_c (show kk < 8 by omega)]
        refine nm_e ⟨m + 1, ?_⟩
        have K : wpY_readyAt (fun r' => r' = gt_n l m ∧ Q) (nI L, nI N, nI C, nI c, f_faults, f_sealed, g_nextTicket, a_ops, a_xs, a_ys, a_states, a_priorities, b_pos, b_ra, b_rb, b_rc, a_locals, b_chan, b_held, b_named, b_wake, b_open, b_guard, b_timer, b_chosen, b_ticket, b_sent, b_received, b_sentFold, b_receivedFold) (nI kk) (nI m) := yw_rdy hN hT OW ⟨rfl, q⟩
        have h := xw_rdA (f_unused := f_unused) (f_constant := f_constant) (f_word := f_word) (f_target := f_target) (f_channel := f_channel) (f_level := f_level) (f_prefix := f_prefix) (f_negate := f_negate) (f_operate := f_operate) (f_disableChannel := f_disableChannel) (f_disableTimer := f_disableTimer) (f_processCount := nI N) (f_channelCount := nI C) (f_length := nI L) (f_sealed := f_sealed) (f_timerHead := f_timerHead) (f_running := f_running) (f_interrupted := f_interrupted) (f_regA := f_regA) (f_regB := f_regB) (f_regC := f_regC) (f_savedA := f_savedA) (f_savedB := f_savedB) (f_savedC := f_savedC) (f_operand := f_operand) (f_clock := nI c) (f_faults := f_faults) (a_ops := a_ops) (a_xs := a_xs) (a_ys := a_ys) (a_sizes := a_sizes) (a_address := a_address) (a_bytes := a_bytes) (a_indexAt := a_indexAt) (a_locals := a_locals) (a_states := a_states) (a_priorities := a_priorities) (a_pointers := a_pointers) (a_branches := a_branches) (a_deadlines := a_deadlines) (a_held := a_held) (a_readyLink := a_readyLink) (a_timerLink := a_timerLink) (a_head := a_head) (a_tail := a_tail) (a_writers := a_writers) (a_readers := a_readers) (a_counters := a_counters) (post := fun r => wpY_readyAt (fun r' => r' = r ∧ Q) (nI L, nI N, nI C, nI c, f_faults, f_sealed, g_nextTicket, a_ops, a_xs, a_ys, a_states, a_priorities, b_pos, b_ra, b_rb, b_rc, a_locals, b_chan, b_held, b_named, b_wake, b_open, b_guard, b_timer, b_chosen, b_ticket, b_sent, b_received, b_sentFold, b_receivedFold) (nI kk) (nI m)) m 0 (a_head kk) l (by omega) QQ.2.2.1 (fun p hp => by have := hl p hp; omega) K
        rw [Nat.zero_add] at h
        exact h
      · rw [nI_ltI hm (by omega)] at b
        rw [gt_end (by omega)] at OW
        exact yw_rdy hN hT OW ⟨rfl, q⟩
  refine br_c (fun a => yes 0 (by decide) a) (fun a => br_c (fun b => yes 1 (by decide) b) (fun b => ?_))
  refine yw_rdy hN hT (ow_none (fun p hp z => ?_)) ⟨rfl, q⟩
  rcases H.2.2.2.2.2.2.2.2 p with e | e
  · exact a (by rw [← z.2.1, e])
  · exact b (by rw [← z.2.1, e])
end
section
/-! instructions emitted -/
/-- an operand is accepted -/
def ft_k (C : Nat) : Nat → Int32 → Prop
  | 0, _ => True
  | 1, v => ¬ v < -32768 ∧ ¬ 32767 < v
  | 2, v => ¬ v < 0 ∧ ¬ 8 ≤ v
  | 3, v => ¬ v < 0 ∧ ¬ 64 ≤ v
  | 4, v => ¬ v < 0 ∧ ¬ nI C ≤ v
  | _, v => ¬ v < 0 ∧ ¬ 2 ≤ v
def ft_hi (C : Nat) : Nat → Int32
  | 0 => -1
  | 1 => 32767
  | 2 => 7
  | 3 => 63
  | 4 => nI C - 1
  | _ => 1
def ft_lo : Nat → Int32
  | 1 => -32768
  | _ => 0
def ft_v : Nat → Int32 → Int32
  | 0, _ => 0
  | _, v => v
theorem ft_pred (x : Int32) {m : Nat} (hm : m + 1 < 2 ^ 31) : x ≤ nI m ↔ ¬ nI (m + 1) ≤ x := by
  rw [Int32.le_iff_toInt_le, Int32.le_iff_toInt_le, nI_toInt hm, nI_toInt (by omega)]
  omega
theorem ft_kd {C : Nat} (hC : C ≤ 8) : ∀ (k : Nat) (v : Int32), ft_k C k v → kd_v C 64 k (ft_v k v)
  | 0, _, _ => trivial
  | 1, v, h => by
    have h1 := h.1
    have h2 := h.2
    rw [Int32.lt_iff_toInt_lt, show (-32768 : Int32).toInt = -32768 from by decide] at h1
    rw [Int32.lt_iff_toInt_lt, show (32767 : Int32).toInt = 32767 from by decide] at h2
    exact ⟨by show -32768 ≤ v.toInt; omega, by show v.toInt ≤ 32767; omega⟩
  | 2, v, h => by
    obtain ⟨j, hj, e⟩ := nI_of h.1
    subst e
    have h2 := h.2
    exact ⟨j, Nat.lt_of_not_le (fun z => h2 (nI_le (a := 8) z hj)), rfl⟩
  | 3, v, h => by
    obtain ⟨j, hj, e⟩ := nI_of h.1
    subst e
    have h2 := h.2
    exact ⟨j, Nat.lt_of_not_le (fun z => h2 (nI_le (a := 64) z hj)), rfl⟩
  | 4, v, h => by
    obtain ⟨j, hj, e⟩ := nI_of h.1
    subst e
    have h2 := h.2
    exact ⟨j, Nat.lt_of_not_le (fun z => h2 (nI_le (a := C) z hj)), rfl⟩
  | n + 5, v, h => by
    obtain ⟨j, hj, e⟩ := nI_of h.1
    subst e
    have h2 := h.2
    exact ⟨j, Nat.lt_of_not_le (fun z => h2 (nI_le (a := 2) z hj)), rfl⟩
section
variable {C : Nat}
variable {f_unused f_constant f_word f_target f_channel f_level f_prefix f_negate f_operate f_disableChannel f_disableTimer f_processCount f_channelCount f_length f_sealed f_timerHead f_running f_interrupted f_regA f_regB f_regC f_savedA f_savedB f_savedC f_operand f_clock f_faults : Int32} {a_ops a_xs a_ys a_sizes a_address a_bytes a_indexAt a_locals a_states a_priorities a_pointers a_branches a_deadlines a_held a_readyLink a_timerLink a_head a_tail a_writers a_readers a_counters : Nat → Int32}
theorem xw_ft {post : Int32 → Prop} {v : Int32} : ∀ k, k < 6 → (ft_k C k v → post 1) → (¬ ft_k C k v → post 0) → wpX_fits post (f_unused, f_constant, f_word, f_target, f_channel, f_level, f_prefix, f_negate, f_operate, f_disableChannel, f_disableTimer, f_processCount, nI C, f_length, f_sealed, f_timerHead, f_running, f_interrupted, f_regA, f_regB, f_regC, f_savedA, f_savedB, f_savedC, f_operand, f_clock, f_faults, a_ops, a_xs, a_ys, a_sizes, a_address, a_bytes, a_indexAt, a_locals, a_states, a_priorities, a_pointers, a_branches, a_deadlines, a_held, a_readyLink, a_timerLink, a_head, a_tail, a_writers, a_readers, a_counters) (nI k) v
  | 0, _, K1, _ => br_t (by decide) (K1 trivial)
  | 1, _, K1, K0 => br_f (by decide) (br_t (by decide) (br_c (fun a => K0 (fun z => z.1 a)) (fun a => br_c (fun b => K0 (fun z => z.2 b)) (fun b => K1 ⟨a, b⟩))))
  | 2, _, K1, K0 => br_f (by decide) <| br_f (by decide) <| br_t (by decide) (br_c (fun a => K0 (fun z => z.1 a)) (fun a => br_c (fun b => K0 (fun z => z.2 b)) (fun b => K1 ⟨a, b⟩)))
  | 3, _, K1, K0 => br_f (by decide) <| br_f (by decide) <| br_f (by decide) <| br_t (by decide) (br_c (fun a => K0 (fun z => z.1 a)) (fun a => br_c (fun b => K0 (fun z => z.2 b)) (fun b => K1 ⟨a, b⟩)))
  | 4, _, K1, K0 => br_f (by decide) <| br_f (by decide) <| br_f (by decide) <| br_f (by decide) <| br_t (by decide) (br_c (fun a => K0 (fun z => z.1 a)) (fun a => br_c (fun b => K0 (fun z => z.2 b)) (fun b => K1 ⟨a, b⟩)))
  | 5, _, K1, K0 => br_f (by decide) <| br_f (by decide) <| br_f (by decide) <| br_f (by decide) <| br_f (by decide) <| (br_c (fun a => K0 (fun z => z.1 a)) (fun a => br_c (fun b => K0 (fun z => z.2 b)) (fun b => K1 ⟨a, b⟩)))
  | n + 6, h, _, _ => absurd h (by omega)
end
section
variable {C : Nat}
variable {g_length g_procs g_chans g_clock g_faults g_sealed : Int32} {g_nextTicket : Int64} {b_ops b_xs b_ys b_st b_prio b_pos b_ra b_rb b_rc b_words b_chan b_held b_named b_wake b_open b_guard b_timer b_chosen b_sent b_received b_sentFold b_receivedFold : Nat → Int32} {b_ticket : Nat → Int64}
theorem yw_154 {post : Int32 → SY → Prop} {o x y hy : Int32} (hC1 : 1 ≤ C) (hC : C ≤ 8) : ∀ k, k < 5 → (ft_k C k x → wY_emit_174 post o x y (ft_hi C k) hy g_length g_procs g_chans g_clock g_faults g_sealed g_nextTicket b_ops b_xs b_ys b_st b_prio b_pos b_ra b_rb b_rc b_words b_chan b_held b_named b_wake b_open b_guard b_timer b_chosen b_ticket b_sent b_received b_sentFold b_receivedFold) → (¬ ft_k C k x → post (-2) (g_length, g_procs, g_chans, g_clock, g_faults, g_sealed, g_nextTicket, b_ops, b_xs, b_ys, b_st, b_prio, b_pos, b_ra, b_rb, b_rc, b_words, b_chan, b_held, b_named, b_wake, b_open, b_guard, b_timer, b_chosen, b_ticket, b_sent, b_received, b_sentFold, b_receivedFold)) → wY_emit_154 post o x y (ft_lo k) (ft_hi C k) hy g_length g_procs g_chans g_clock g_faults g_sealed g_nextTicket b_ops b_xs b_ys b_st b_prio b_pos b_ra b_rb b_rc b_words b_chan b_held b_named b_wake b_open b_guard b_timer b_chosen b_ticket b_sent b_received b_sentFold b_receivedFold
  | 0, _, K1, _ => br_t (show (-1 : Int32) < 0 from by decide) (K1 trivial)
  | 1, _, K1, K0 => br_f (show ¬ (32767 : Int32) < 0 from by decide) (br_c (fun a => K0 (fun z => z.1 a)) (fun a => br_c (fun b => K1 ⟨a, Int32.not_lt.mpr b⟩) (fun b => K0 (fun z => b (Int32.not_lt.mp z.2)))))
  | 2, _, K1, K0 => br_f (show ¬ (7 : Int32) < 0 from by decide) (br_c (fun a => K0 (fun z => z.1 a)) (fun a => br_c (fun b => K1 ⟨a, (ft_pred x (m := 7) (by decide)).mp b⟩) (fun b => K0 (fun z => b ((ft_pred x (m := 7) (by decide)).mpr z.2)))))
  | 3, _, K1, K0 => br_f (show ¬ (63 : Int32) < 0 from by decide) (br_c (fun a => K0 (fun z => z.1 a)) (fun a => br_c (fun b => K1 ⟨a, (ft_pred x (m := 63) (by decide)).mp b⟩) (fun b => K0 (fun z => b ((ft_pred x (m := 63) (by decide)).mpr z.2)))))
  | 4, _, K1, K0 => by
    have e : nI C - 1 = nI (C - 1) := by
      obtain ⟨m, rfl⟩ : ∃ m, C = m + 1 := ⟨C - 1, by omega⟩
      exact nI_pred m
    have P := ft_pred x (m := C - 1) (by omega)
    rw [show C - 1 + 1 = C from by omega, ← e] at P
    refine br_f (by show ¬ nI C - 1 < 0; rw [e]; exact nI_pos (by omega)) (br_c (fun a => K0 (fun z => z.1 a)) (fun a => br_c (fun b => K1 ⟨a, P.mp b⟩) (fun b => K0 (fun z => b (P.mpr z.2)))))
  | n + 5, h, _, _ => absurd h (by omega)
theorem yw_174 {post : Int32 → SY → Prop} {o x y hx : Int32} : ∀ k, (k = 0 ∨ k = 2 ∨ k = 3 ∨ k = 5) → (ft_k C k y → wY_emit_192 post o x y hx (ft_hi C k) g_length g_procs g_chans g_clock g_faults g_sealed g_nextTicket b_ops b_xs b_ys b_st b_prio b_pos b_ra b_rb b_rc b_words b_chan b_held b_named b_wake b_open b_guard b_timer b_chosen b_ticket b_sent b_received b_sentFold b_receivedFold) → (¬ ft_k C k y → post (-2) (g_length, g_procs, g_chans, g_clock, g_faults, g_sealed, g_nextTicket, b_ops, b_xs, b_ys, b_st, b_prio, b_pos, b_ra, b_rb, b_rc, b_words, b_chan, b_held, b_named, b_wake, b_open, b_guard, b_timer, b_chosen, b_ticket, b_sent, b_received, b_sentFold, b_receivedFold)) → wY_emit_174 post o x y hx (ft_hi C k) g_length g_procs g_chans g_clock g_faults g_sealed g_nextTicket b_ops b_xs b_ys b_st b_prio b_pos b_ra b_rb b_rc b_words b_chan b_held b_named b_wake b_open b_guard b_timer b_chosen b_ticket b_sent b_received b_sentFold b_receivedFold := by
  intro k hk K1 K0
  rcases hk with rfl | rfl | rfl | rfl
  · exact br_t (show (-1 : Int32) < 0 from by decide) (K1 trivial)
  · exact br_f (show ¬ (7 : Int32) < 0 from by decide) (br_c (fun a => K0 (fun z => z.1 a)) (fun a => br_c (fun b => K1 ⟨a, (ft_pred y (m := 7) (by decide)).mp b⟩) (fun b => K0 (fun z => b ((ft_pred y (m := 7) (by decide)).mpr z.2)))))
  · exact br_f (show ¬ (63 : Int32) < 0 from by decide) (br_c (fun a => K0 (fun z => z.1 a)) (fun a => br_c (fun b => K1 ⟨a, (ft_pred y (m := 63) (by decide)).mp b⟩) (fun b => K0 (fun z => b ((ft_pred y (m := 63) (by decide)).mpr z.2)))))
  · exact br_f (show ¬ (1 : Int32) < 0 from by decide) (br_c (fun a => K0 (fun z => z.1 a)) (fun a => br_c (fun b => K1 ⟨a, (ft_pred y (m := 1) (by decide)).mp b⟩) (fun b => K0 (fun z => b ((ft_pred y (m := 1) (by decide)).mpr z.2)))))
theorem ft_neg {C : Nat} (hC1 : 1 ≤ C) (hC : C ≤ 8) : ∀ k, k < 6 → (k = 0 ∧ ft_hi C k < 0) ∨ (k ≠ 0 ∧ ¬ ft_hi C k < 0)
  | 0, _ => Or.inl ⟨rfl, by show (-1 : Int32) < 0; decide⟩
  | 1, _ => Or.inr ⟨by decide, by show ¬ (32767 : Int32) < 0; decide⟩
  | 2, _ => Or.inr ⟨by decide, by show ¬ (7 : Int32) < 0; decide⟩
  | 3, _ => Or.inr ⟨by decide, by show ¬ (63 : Int32) < 0; decide⟩
  | 4, _ => Or.inr ⟨by decide, by
    have e : nI C - 1 = nI (C - 1) := by
      obtain ⟨m, rfl⟩ : ∃ m, C = m + 1 := ⟨C - 1, by omega⟩
      exact nI_pred m
    show ¬ nI C - 1 < 0
    rw [e]
    exact nI_pos (by omega)⟩
  | 5, _ => Or.inr ⟨by decide, by show ¬ (1 : Int32) < 0; decide⟩
  | n + 6, h => absurd h (by omega)
theorem ft_vn {k : Nat} {v : Int32} (h : k ≠ 0) : ft_v k v = v := by
  cases k with
  | zero => exact absurd rfl h
  | succ n => rfl
theorem yw_192 {post : Int32 → SY → Prop} {o x y : Int32} {L kx ky : Nat} (hC1 : 1 ≤ C) (hC : C ≤ 8) (hkx : kx < 6) (hky : ky < 6) (hL : L < 64) (K : post (nI (L + 1) - 1) (nI (L + 1), g_procs, g_chans, g_clock, g_faults, g_sealed, g_nextTicket, upd b_ops L o, upd b_xs L (ft_v kx x), upd b_ys L (ft_v ky y), b_st, b_prio, b_pos, b_ra, b_rb, b_rc, b_words, b_chan, b_held, b_named, b_wake, b_open, b_guard, b_timer, b_chosen, b_ticket, b_sent, b_received, b_sentFold, b_receivedFold)) : wY_emit_192 post o x y (ft_hi C kx) (ft_hi C ky) (nI L) g_procs g_chans g_clock g_faults g_sealed g_nextTicket b_ops b_xs b_ys b_st b_prio b_pos b_ra b_rb b_rc b_words b_chan b_held b_named b_wake b_open b_guard b_timer b_chosen b_ticket b_sent b_received b_sentFold b_receivedFold := by
  have c1 : nI L < 64 := nI_lt (b := 64) hL (by decide)
  have two : ∀ xx : Int32, xx = ft_v kx x → wY_emit_232 post y (ft_hi C ky) xx (nI L) (nI L) g_procs g_chans g_clock g_faults g_sealed g_nextTicket (upd b_ops L o) b_xs b_ys b_st b_prio b_pos b_ra b_rb b_rc b_words b_chan b_held b_named b_wake b_open b_guard b_timer b_chosen b_ticket b_sent b_received b_sentFold b_receivedFold := fun xx ex => by
    subst ex
    rcases ft_neg hC1 hC ky hky with ⟨e, z⟩ | ⟨e, z⟩
    · subst e
      simp only [wY_emit_232, wY_emit_251, ba_v64 hL, ba_c64 hL, z, nI_1, forall_eq, true_implies, false_implies, not_true_eq_false, not_false_eq_true, and_true, true_and, implies_true]
      exact K
    · rw [ft_vn e] at K
      simp only [wY_emit_232, wY_emit_251, ba_v64 hL, ba_c64 hL, z, nI_1, forall_eq, true_implies, false_implies, not_true_eq_false, not_false_eq_true, and_true, true_and, implies_true]
      exact K
  unfold wY_emit_192
  refine br_t c1 (And.intro (ba_v64 hL) ?_)
  rw [ba_c64 hL]
  refine nm_e ?_
  rcases ft_neg hC1 hC kx hkx with ⟨e, z⟩ | ⟨e, z⟩
  · subst e
    exact br_t z (two 0 rfl)
  · exact br_f z (two x (ft_vn e).symm)
theorem yw_em {post : Int32 → SY → Prop} {x y : Int32} : ∀ j, j < 21 → wY_emit_154 post (nI j) x y (ft_lo (kd_x j)) (ft_hi C (kd_x j)) (ft_hi C (kd_y j)) g_length g_procs (nI C) g_clock g_faults 0 g_nextTicket b_ops b_xs b_ys b_st b_prio b_pos b_ra b_rb b_rc b_words b_chan b_held b_named b_wake b_open b_guard b_timer b_chosen b_ticket b_sent b_received b_sentFold b_receivedFold → wpY_emit post (g_length, g_procs, nI C, g_clock, g_faults, 0, g_nextTicket, b_ops, b_xs, b_ys, b_st, b_prio, b_pos, b_ra, b_rb, b_rc, b_words, b_chan, b_held, b_named, b_wake, b_open, b_guard, b_timer, b_chosen, b_ticket, b_sent, b_received, b_sentFold, b_receivedFold) (nI j) x y
  | 0, _, K => br_t rfl <| br_f (by decide) <| br_t (by decide) <| br_t (by decide) <| br_f (by decide) <| br_f (by decide) <| br_f (by decide) <| br_f (by decide) <| br_f (by decide) <| br_f (by decide) <| br_f (by decide) <| br_f (by decide) <| br_f (by decide) <| br_f (by decide) <| br_f (by decide) <| br_f (by decide) <| br_f (by decide) <| K
  | 1, _, K => br_t rfl <| br_f (by decide) <| br_t (by decide) <| br_f (by decide) <| br_f (by decide) <| br_t (by decide) <| br_f (by decide) <| br_f (by decide) <| br_f (by decide) <| br_f (by decide) <| br_f (by decide) <| br_f (by decide) <| br_f (by decide) <| br_f (by decide) <| br_f (by decide) <| br_f (by decide) <| br_f (by decide) <| K
  | 2, _, K => br_t rfl <| br_f (by decide) <| br_t (by decide) <| br_f (by decide) <| br_f (by decide) <| br_f (by decide) <| br_t (by decide) <| br_f (by decide) <| br_f (by decide) <| br_f (by decide) <| br_f (by decide) <| br_f (by decide) <| br_f (by decide) <| br_f (by decide) <| br_f (by decide) <| br_f (by decide) <| br_f (by decide) <| br_f (by decide) <| K
  | 3, _, K => br_t rfl <| br_f (by decide) <| br_t (by decide) <| br_f (by decide) <| br_t (by decide) <| br_f (by decide) <| br_f (by decide) <| br_f (by decide) <| br_f (by decide) <| br_f (by decide) <| br_f (by decide) <| br_f (by decide) <| br_f (by decide) <| br_f (by decide) <| br_f (by decide) <| br_f (by decide) <| br_f (by decide) <| br_f (by decide) <| K
  | 4, _, K => br_t rfl <| br_f (by decide) <| br_t (by decide) <| br_f (by decide) <| br_f (by decide) <| br_f (by decide) <| br_f (by decide) <| br_f (by decide) <| br_f (by decide) <| br_f (by decide) <| br_f (by decide) <| br_f (by decide) <| br_f (by decide) <| br_f (by decide) <| br_f (by decide) <| br_f (by decide) <| br_f (by decide) <| br_f (by decide) <| K
  | 5, _, K => br_t rfl <| br_f (by decide) <| br_t (by decide) <| br_f (by decide) <| br_f (by decide) <| br_f (by decide) <| br_f (by decide) <| br_f (by decide) <| br_f (by decide) <| br_f (by decide) <| br_f (by decide) <| br_f (by decide) <| br_f (by decide) <| br_f (by decide) <| br_f (by decide) <| br_f (by decide) <| br_f (by decide) <| br_f (by decide) <| K
  | 6, _, K => br_t rfl <| br_f (by decide) <| br_t (by decide) <| br_f (by decide) <| br_f (by decide) <| br_f (by decide) <| br_f (by decide) <| br_t (by decide) <| br_f (by decide) <| br_f (by decide) <| br_f (by decide) <| br_f (by decide) <| br_f (by decide) <| br_f (by decide) <| br_f (by decide) <| K
  | 7, _, K => br_t rfl <| br_f (by decide) <| br_t (by decide) <| br_f (by decide) <| br_f (by decide) <| br_f (by decide) <| br_f (by decide) <| br_f (by decide) <| br_t (by decide) <| br_f (by decide) <| br_f (by decide) <| br_f (by decide) <| br_f (by decide) <| br_f (by decide) <| br_f (by decide) <| br_f (by decide) <| K
  | 8, _, K => br_t rfl <| br_f (by decide) <| br_t (by decide) <| br_f (by decide) <| br_f (by decide) <| br_f (by decide) <| br_f (by decide) <| br_f (by decide) <| br_f (by decide) <| br_t (by decide) <| br_f (by decide) <| br_f (by decide) <| br_f (by decide) <| br_f (by decide) <| br_t (by decide) <| br_f (by decide) <| br_f (by decide) <| K
  | 9, _, K => br_t rfl <| br_f (by decide) <| br_t (by decide) <| br_f (by decide) <| br_f (by decide) <| br_f (by decide) <| br_f (by decide) <| br_f (by decide) <| br_f (by decide) <| br_f (by decide) <| br_f (by decide) <| br_f (by decide) <| br_f (by decide) <| br_f (by decide) <| br_f (by decide) <| br_f (by decide) <| br_f (by decide) <| br_f (by decide) <| K
  | 10, _, K => br_t rfl <| br_f (by decide) <| br_t (by decide) <| br_f (by decide) <| br_f (by decide) <| br_f (by decide) <| br_f (by decide) <| br_f (by decide) <| br_f (by decide) <| br_f (by decide) <| br_f (by decide) <| br_t (by decide) <| nm_e <| br_f (by decide) <| br_f (by decide) <| br_f (by decide) <| K
  | 11, _, K => br_t rfl <| br_f (by decide) <| br_t (by decide) <| br_f (by decide) <| br_f (by decide) <| br_f (by decide) <| br_f (by decide) <| br_f (by decide) <| br_f (by decide) <| br_f (by decide) <| br_f (by decide) <| br_f (by decide) <| br_t (by decide) <| nm_e <| br_f (by decide) <| br_t (by decide) <| br_f (by decide) <| K
  | 12, _, K => br_t rfl <| br_f (by decide) <| br_t (by decide) <| br_f (by decide) <| br_f (by decide) <| br_f (by decide) <| br_f (by decide) <| br_f (by decide) <| br_f (by decide) <| br_f (by decide) <| br_f (by decide) <| br_f (by decide) <| br_f (by decide) <| br_f (by decide) <| br_f (by decide) <| br_f (by decide) <| br_f (by decide) <| br_f (by decide) <| K
  | 13, _, K => br_t rfl <| br_f (by decide) <| br_t (by decide) <| br_f (by decide) <| br_f (by decide) <| br_f (by decide) <| br_f (by decide) <| br_f (by decide) <| br_f (by decide) <| br_f (by decide) <| br_f (by decide) <| br_f (by decide) <| br_f (by decide) <| br_f (by decide) <| br_f (by decide) <| br_f (by decide) <| br_f (by decide) <| br_f (by decide) <| K
  | 14, _, K => br_t rfl <| br_f (by decide) <| br_t (by decide) <| br_f (by decide) <| br_f (by decide) <| br_f (by decide) <| br_f (by decide) <| br_f (by decide) <| br_f (by decide) <| br_f (by decide) <| br_f (by decide) <| br_f (by decide) <| br_f (by decide) <| br_f (by decide) <| br_f (by decide) <| br_f (by decide) <| br_f (by decide) <| br_f (by decide) <| K
  | 15, _, K => br_t rfl <| br_f (by decide) <| br_t (by decide) <| br_f (by decide) <| br_f (by decide) <| br_f (by decide) <| br_f (by decide) <| br_f (by decide) <| br_f (by decide) <| br_f (by decide) <| br_f (by decide) <| br_f (by decide) <| br_f (by decide) <| br_t (by decide) <| nm_e <| br_f (by decide) <| br_f (by decide) <| br_f (by decide) <| K
  | 16, _, K => br_t rfl <| br_f (by decide) <| br_t (by decide) <| br_f (by decide) <| br_f (by decide) <| br_f (by decide) <| br_f (by decide) <| br_f (by decide) <| br_f (by decide) <| br_f (by decide) <| br_f (by decide) <| br_f (by decide) <| br_f (by decide) <| br_f (by decide) <| br_f (by decide) <| br_f (by decide) <| br_f (by decide) <| br_f (by decide) <| K
  | 17, _, K => br_t rfl <| br_f (by decide) <| br_t (by decide) <| br_f (by decide) <| br_f (by decide) <| br_f (by decide) <| br_f (by decide) <| br_f (by decide) <| br_f (by decide) <| br_f (by decide) <| br_f (by decide) <| br_f (by decide) <| br_f (by decide) <| br_f (by decide) <| br_f (by decide) <| br_f (by decide) <| br_f (by decide) <| br_f (by decide) <| K
  | 18, _, K => br_t rfl <| br_f (by decide) <| br_t (by decide) <| br_f (by decide) <| br_f (by decide) <| br_f (by decide) <| br_f (by decide) <| br_f (by decide) <| br_f (by decide) <| br_f (by decide) <| br_f (by decide) <| br_f (by decide) <| br_f (by decide) <| br_f (by decide) <| br_t (by decide) <| nm_e <| br_f (by decide) <| br_f (by decide) <| br_t (by decide) <| K
  | 19, _, K => br_t rfl <| br_f (by decide) <| br_t (by decide) <| br_f (by decide) <| br_f (by decide) <| br_f (by decide) <| br_f (by decide) <| br_f (by decide) <| br_f (by decide) <| br_f (by decide) <| br_t (by decide) <| br_f (by decide) <| br_f (by decide) <| br_f (by decide) <| br_f (by decide) <| br_f (by decide) <| br_f (by decide) <| br_f (by decide) <| K
  | 20, _, K => br_t rfl <| br_f (by decide) <| br_t (by decide) <| br_f (by decide) <| br_f (by decide) <| br_f (by decide) <| br_f (by decide) <| br_f (by decide) <| br_f (by decide) <| br_f (by decide) <| br_f (by decide) <| br_f (by decide) <| br_f (by decide) <| br_f (by decide) <| br_f (by decide) <| br_f (by decide) <| br_f (by decide) <| br_f (by decide) <| K
  | n + 21, h, _ => absurd h (by omega)
end
end
section
/-! emit, launch, run -/
theorem kd_y4 : ∀ j, j < 21 → (kd_y j = 0 ∨ kd_y j = 2 ∨ kd_y j = 3 ∨ kd_y j = 5) := by decide
section
variable {N C L B c : Nat} {ad : Nat → Nat}
variable {f_unused f_constant f_word f_target f_channel f_level f_prefix f_negate f_operate f_disableChannel f_disableTimer f_processCount f_channelCount f_length f_sealed f_timerHead f_running f_interrupted f_regA f_regB f_regC f_savedA f_savedB f_savedC f_operand f_clock f_faults : Int32} {a_ops a_xs a_ys a_sizes a_address a_bytes a_indexAt a_locals a_states a_priorities a_pointers a_branches a_deadlines a_held a_readyLink a_timerLink a_head a_tail a_writers a_readers a_counters : Nat → Int32}
variable {g_length g_procs g_chans g_clock g_faults g_sealed : Int32} {g_nextTicket : Int64} {b_ops b_xs b_ys b_st b_prio b_pos b_ra b_rb b_rc b_words b_chan b_held b_named b_wake b_open b_guard b_timer b_chosen b_sent b_received b_sentFold b_receivedFold : Nat → Int32} {b_ticket : Nat → Int64}
theorem dy_free {L' : Nat} {ad' : Nat → Nat} (free : ∀ p, p < N → a_states p = 0) (H : rl_dy N C L B c ad f_running f_interrupted f_regA f_regB f_regC f_savedA f_savedB f_savedC f_timerHead a_states a_priorities a_pointers a_branches a_deadlines a_held a_readyLink a_timerLink a_head a_tail a_writers a_readers a_counters g_nextTicket b_pos b_ra b_rb b_rc b_chan b_held b_named b_wake b_open b_guard b_timer b_chosen b_ticket b_sent b_received b_sentFold b_receivedFold) : rl_dy N C L' B c ad' f_running f_interrupted f_regA f_regB f_regC f_savedA f_savedB f_savedC f_timerHead a_states a_priorities a_pointers a_branches a_deadlines a_held a_readyLink a_timerLink a_head a_tail a_writers a_readers a_counters g_nextTicket b_pos b_ra b_rb b_rc b_chan b_held b_named b_wake b_open b_guard b_timer b_chosen b_ticket b_sent b_received b_sentFold b_receivedFold := by
  obtain ⟨H1, H2, H3, H4, H5, H6, H7, H8, H9⟩ := H
  refine ⟨H1, H2, H3, H4, fun p hp z => absurd (free p hp) z, fun p hp => ?_, H7, H8, H9⟩
  rcases H6 p hp with h | ⟨_, h, _⟩
  · exact Or.inl h
  · rw [free p hp] at h
    exact absurd h (by decide)
theorem rn_Xo {post : Int32 → SX → Prop} {s x3 x4 : Int32} {n : Nat} (h : rn_X post s n x3 x4 (f_unused, f_constant, f_word, f_target, f_channel, f_level, f_prefix, f_negate, f_operate, f_disableChannel, f_disableTimer, f_processCount, f_channelCount, f_length, f_sealed, f_timerHead, f_running, f_interrupted, f_regA, f_regB, f_regC, f_savedA, f_savedB, f_savedC, f_operand, f_clock, f_faults, a_ops, a_xs, a_ys, a_sizes, a_address, a_bytes, a_indexAt, a_locals, a_states, a_priorities, a_pointers, a_branches, a_deadlines, a_held, a_readyLink, a_timerLink, a_head, a_tail, a_writers, a_readers, a_counters)) : wX_run_24 post s n x3 x4 f_unused f_constant f_word f_target f_channel f_level f_prefix f_negate f_operate f_disableChannel f_disableTimer f_processCount f_channelCount f_length f_sealed f_timerHead f_running f_interrupted f_regA f_regB f_regC f_savedA f_savedB f_savedC f_operand f_clock f_faults a_ops a_xs a_ys a_sizes a_address a_bytes a_indexAt a_locals a_states a_priorities a_pointers a_branches a_deadlines a_held a_readyLink a_timerLink a_head a_tail a_writers a_readers a_counters := h
theorem rn_Yo {post : Int32 → SY → Prop} {s x3 x4 : Int32} {n : Nat} (h : rn_Y post s n x3 x4 (g_length, g_procs, g_chans, g_clock, g_faults, g_sealed, g_nextTicket, b_ops, b_xs, b_ys, b_st, b_prio, b_pos, b_ra, b_rb, b_rc, b_words, b_chan, b_held, b_named, b_wake, b_open, b_guard, b_timer, b_chosen, b_ticket, b_sent, b_received, b_sentFold, b_receivedFold)) : wY_run_24 post s n x3 x4 g_length g_procs g_chans g_clock g_faults g_sealed g_nextTicket b_ops b_xs b_ys b_st b_prio b_pos b_ra b_rb b_rc b_words b_chan b_held b_named b_wake b_open b_guard b_timer b_chosen b_ticket b_sent b_received b_sentFold b_receivedFold := h
theorem xw_100 {post : Int32 → SX → Prop} {x y : Int32} {kx ky : Nat} (hkx : kx < 6) (hky : ky < 6) (hL : L < 64) (K : post (nI (L + 1) - 1) (f_unused, f_constant, f_word, f_target, f_channel, f_level, f_prefix, f_negate, f_operate, f_disableChannel, f_disableTimer, f_processCount, f_channelCount, nI (L + 1), f_sealed, f_timerHead, f_running, f_interrupted, f_regA, f_regB, f_regC, f_savedA, f_savedB, f_savedC, f_operand, f_clock, f_faults, a_ops, upd a_xs L (ft_v kx x), upd a_ys L (ft_v ky y), a_sizes, a_address, a_bytes, a_indexAt, a_locals, a_states, a_priorities, a_pointers, a_branches, a_deadlines, a_held, a_readyLink, a_timerLink, a_head, a_tail, a_writers, a_readers, a_counters)) : (nI kx = 0 → wX_emit_100 post y (nI ky) 0 (nI L) f_unused f_constant f_word f_target f_channel f_level f_prefix f_negate f_operate f_disableChannel f_disableTimer f_processCount f_channelCount (nI L) f_sealed f_timerHead f_running f_interrupted f_regA f_regB f_regC f_savedA f_savedB f_savedC f_operand f_clock f_faults a_ops a_xs a_ys a_sizes a_address a_bytes a_indexAt a_locals a_states a_priorities a_pointers a_branches a_deadlines a_held a_readyLink a_timerLink a_head a_tail a_writers a_readers a_counters) ∧ (¬ nI kx = 0 → wX_emit_100 post y (nI ky) x (nI L) f_unused f_constant f_word f_target f_channel f_level f_prefix f_negate f_operate f_disableChannel f_disableTimer f_processCount f_channelCount (nI L) f_sealed f_timerHead f_running f_interrupted f_regA f_regB f_regC f_savedA f_savedB f_savedC f_operand f_clock f_faults a_ops a_xs a_ys a_sizes a_address a_bytes a_indexAt a_locals a_states a_priorities a_pointers a_branches a_deadlines a_held a_readyLink a_timerLink a_head a_tail a_writers a_readers a_counters) := by
  have two : ∀ xx : Int32, xx = ft_v kx x → wX_emit_100 post y (nI ky) xx (nI L) f_unused f_constant f_word f_target f_channel f_level f_prefix f_negate f_operate f_disableChannel f_disableTimer f_processCount f_channelCount (nI L) f_sealed f_timerHead f_running f_interrupted f_regA f_regB f_regC f_savedA f_savedB f_savedC f_operand f_clock f_faults a_ops a_xs a_ys a_sizes a_address a_bytes a_indexAt a_locals a_states a_priorities a_pointers a_branches a_deadlines a_held a_readyLink a_timerLink a_head a_tail a_writers a_readers a_counters := fun xx ex => by
    subst ex
    by_cases e : ky = 0
    · subst e
      have z : nI 0 = 0 := by decide
      simp only [wX_emit_100, wX_emit_119, ba_v64 hL, ba_c64 hL, z, nI_1, forall_eq, true_implies, false_implies, not_true_eq_false, not_false_eq_true, and_true, true_and, implies_true]
      exact K
    · rw [ft_vn e] at K
      have z : ¬ nI ky = 0 := nI_ne0 (by omega) (by omega)
      simp only [wX_emit_100, wX_emit_119, ba_v64 hL, ba_c64 hL, z, nI_1, forall_eq, true_implies, false_implies, not_true_eq_false, not_false_eq_true, and_true, true_and, implies_true]
      exact K
  by_cases e : kx = 0
  · subst e
    exact br_t (by decide) (two 0 rfl)
  · exact br_f (nI_ne0 (by omega) (by omega)) (two x (ft_vn e).symm)
end
theorem i_vc_emit {k : Nat} {u : SX} {v : SY} (I : i_Rel k u v) (hk : k + 4 ≤ 2051) (v1 : Int32) (v2 : Int32) (v3 : Int32) : wpX_emit (fun r u' => wpY_emit (fun r' v' => r' = r ∧ i_Rel (k + 4) u' v') v v1 v2 v3) u v1 v2 v3 := by
  refine zz_el (P := fun u v => wpX_emit (fun r u' => wpY_emit (fun r' v' => r' = r ∧ i_Rel (k + 4) u' v') v v1 v2 v3) u v1 v2 v3) ?_ I
  intro N C L c ad f_sealed a_ops a_xs a_ys a_address a_bytes a_indexAt f_unused f_constant f_word f_target f_channel f_level f_prefix f_negate f_operate f_disableChannel f_disableTimer f_timerHead f_running f_interrupted f_regA f_regB f_regC f_savedA f_savedB f_savedC f_operand f_faults a_sizes a_locals a_states a_priorities a_pointers a_branches a_deadlines a_held a_readyLink a_timerLink a_head a_tail a_writers a_readers a_counters g_nextTicket b_pos b_ra b_rb b_rc b_chan b_held b_named b_wake b_open b_guard b_timer b_chosen b_ticket b_sent b_received b_sentFold b_receivedFold hs H G
  have q : i_Rel (k + 4) (f_unused, f_constant, f_word, f_target, f_channel, f_level, f_prefix, f_negate, f_operate, f_disableChannel, f_disableTimer, nI N, nI C, nI L, f_sealed, f_timerHead, f_running, f_interrupted, f_regA, f_regB, f_regC, f_savedA, f_savedB, f_savedC, f_operand, nI c, f_faults, a_ops, a_xs, a_ys, a_sizes, a_address, a_bytes, a_indexAt, a_locals, a_states, a_priorities, a_pointers, a_branches, a_deadlines, a_held, a_readyLink, a_timerLink, a_head, a_tail, a_writers, a_readers, a_counters) (nI L, nI N, nI C, nI c, f_faults, f_sealed, g_nextTicket, a_ops, a_xs, a_ys, a_states, a_priorities, b_pos, b_ra, b_rb, b_rc, a_locals, b_chan, b_held, b_named, b_wake, b_open, b_guard, b_timer, b_chosen, b_ticket, b_sent, b_received, b_sentFold, b_receivedFold) := i_up (zz_in hs H G)
  obtain ⟨hN2, hN, hC1, hC, hL, hc⟩ := hs
  rcases G with ⟨es, ea, free, pv⟩ | ⟨es, cd⟩
  · subst es
    by_cases a : v1 < 0
    · exact br_t rfl (br_t a (br_t rfl (br_t a ⟨rfl, q⟩)))
    · by_cases b : v1 ≤ 20
      · obtain ⟨j, hj, e⟩ := nI_of2 (M := 20) (n := 20) (by decide) a b
        subst e
        have hj21 : j < 21 := by omega
        have hkx := kd_xle j hj21
        have hky := kd_yle j hj21
        refine br_t rfl (br_f a (br_t b (xw_kx j hj21 (xw_ky j hj21 (xw_ft _ (by omega) (fun fx => br_f (by decide) (xw_ft _ hky (fun fy => br_f (by decide) ?_) (fun fy => br_t rfl ?_))) (fun fx => br_t rfl ?_))))))
        · by_cases fl : L < 64
          · refine br_t (nI_lt (b := 64) fl (by decide)) (And.intro (ba_v64 fl) ?_)
            rw [ba_c64 fl]
            refine nm_e (xw_100 (by omega) hky fl ?_)
            refine yw_em j hj21 (yw_154 hC1 hC _ hkx (fun _ => yw_174 _ (kd_y4 j hj21) (fun _ => yw_192 hC1 hC (by omega) hky fl ?_) (fun z => absurd fy z)) (fun z => absurd fx z))
            refine ⟨rfl, zz_in (L := L + 1) (ad := ad) ⟨hN2, hN, hC1, hC, by omega, hc⟩ (dy_mono (by omega) (dy_free free H)) (Or.inl ⟨rfl, ea, free, fun i hi => ?_⟩)⟩
            by_cases e : i = L
            · subst e
              rw [pk_us, pk_us, pk_us]
              exact ⟨j, hj21, rfl, ft_kd hC _ _ fx, ft_kd hC _ _ fy⟩
            · rw [pk_un e, pk_un e, pk_un e]
              exact pv i (by omega)
          · have z : ¬ nI L < 64 := nI_nlt (b := 64) (by omega) (by omega)
            refine br_f z ?_
            refine yw_em j hj21 (yw_154 hC1 hC _ hkx (fun _ => yw_174 _ (kd_y4 j hj21) (fun _ => br_f z ⟨rfl, q⟩) (fun z => absurd fy z)) (fun z => absurd fx z))
        · exact yw_em j hj21 (yw_154 hC1 hC _ hkx (fun _ => yw_174 _ (kd_y4 j hj21) (fun z => absurd z fy) (fun _ => ⟨rfl, q⟩)) (fun z => absurd fx z))
        · exact yw_em j hj21 (yw_154 hC1 hC _ hkx (fun z => absurd z fx) (fun _ => ⟨rfl, q⟩))
      · exact br_t rfl (br_f a (br_f b (br_t rfl (br_f a (br_f b ⟨rfl, q⟩)))))
  · subst es
    exact br_f (by decide) (br_f (by decide) ⟨rfl, q⟩)
theorem i_vc_launch {k : Nat} {u : SX} {v : SY} (I : i_Rel k u v) (hk : k + 4 ≤ 2051) (v1 : Int32) (v2 : Int32) (v3 : Int32) : wpX_launch (fun r u' => wpY_launch (fun r' v' => r' = r ∧ i_Rel (k + 4) u' v') v v1 v2 v3) u v1 v2 v3 := by
  refine zz_el (P := fun u v => wpX_launch (fun r u' => wpY_launch (fun r' v' => r' = r ∧ i_Rel (k + 4) u' v') v v1 v2 v3) u v1 v2 v3) ?_ I
  intro N C L c ad f_sealed a_ops a_xs a_ys a_address a_bytes a_indexAt f_unused f_constant f_word f_target f_channel f_level f_prefix f_negate f_operate f_disableChannel f_disableTimer f_timerHead f_running f_interrupted f_regA f_regB f_regC f_savedA f_savedB f_savedC f_operand f_faults a_sizes a_locals a_states a_priorities a_pointers a_branches a_deadlines a_held a_readyLink a_timerLink a_head a_tail a_writers a_readers a_counters g_nextTicket b_pos b_ra b_rb b_rc b_chan b_held b_named b_wake b_open b_guard b_timer b_chosen b_ticket b_sent b_received b_sentFold b_receivedFold hs H G
  have q : i_Rel (k + 4) (f_unused, f_constant, f_word, f_target, f_channel, f_level, f_prefix, f_negate, f_operate, f_disableChannel, f_disableTimer, nI N, nI C, nI L, f_sealed, f_timerHead, f_running, f_interrupted, f_regA, f_regB, f_regC, f_savedA, f_savedB, f_savedC, f_operand, nI c, f_faults, a_ops, a_xs, a_ys, a_sizes, a_address, a_bytes, a_indexAt, a_locals, a_states, a_priorities, a_pointers, a_branches, a_deadlines, a_held, a_readyLink, a_timerLink, a_head, a_tail, a_writers, a_readers, a_counters) (nI L, nI N, nI C, nI c, f_faults, f_sealed, g_nextTicket, a_ops, a_xs, a_ys, a_states, a_priorities, b_pos, b_ra, b_rb, b_rc, a_locals, b_chan, b_held, b_named, b_wake, b_open, b_guard, b_timer, b_chosen, b_ticket, b_sent, b_received, b_sentFold, b_receivedFold) := i_up (zz_in hs H G)
  obtain ⟨hN2, hN, hC1, hC, hL, hc⟩ := hs
  rcases G with ⟨es, ea, free, pv⟩ | ⟨es, cd⟩
  · subst es
    exact br_t rfl (br_t rfl ⟨rfl, q⟩)
  · subst es
    rcases pk_ix v1 (n := L) (by omega) with a | a | ⟨i, hi, e⟩
    · exact br_f (by decide) (br_t a (br_f (by decide) (br_t a ⟨rfl, q⟩)))
    · by_cases b : v1 < 0
      · exact br_f (by decide) (br_t b (br_f (by decide) (br_t b ⟨rfl, q⟩)))
      · exact br_f (by decide) (br_f b (br_f (Int32.not_lt.mpr a) (br_f (by decide) (br_f b (br_t a ⟨rfl, q⟩)))))
    · subst e
      have a0 : ¬ nI i < 0 := nI_pos (by omega)
      have a1 : nI i < nI L := nI_lt hi (by omega)
      have a2 : ¬ nI L ≤ nI i := nI_ge hi (by omega)
      have go : ∀ m, m < 2 → v2 = nI m → wX_launch_36 (fun r u' => wpY_launch (fun r' v' => r' = r ∧ i_Rel (k + 4) u' v') (nI L, nI N, nI C, nI c, f_faults, 1, g_nextTicket, a_ops, a_xs, a_ys, a_states, a_priorities, b_pos, b_ra, b_rb, b_rc, a_locals, b_chan, b_held, b_named, b_wake, b_open, b_guard, b_timer, b_chosen, b_ticket, b_sent, b_received, b_sentFold, b_receivedFold) (nI i) v2 v3) (nI i) v2 v3 f_unused f_constant f_word f_target f_channel f_level f_prefix f_negate f_operate f_disableChannel f_disableTimer (nI N) (nI C) (nI L) 1 f_timerHead f_running f_interrupted f_regA f_regB f_regC f_savedA f_savedB f_savedC f_operand (nI c) f_faults a_ops a_xs a_ys a_sizes a_address a_bytes a_indexAt a_locals a_states a_priorities a_pointers a_branches a_deadlines a_held a_readyLink a_timerLink a_head a_tail a_writers a_readers a_counters := fun m hm em => by
        subst em
        have b0 : ¬ nI m < 0 := nI_pos (by omega)
        have b1 : nI m ≤ 1 := nI_le (b := 1) (by omega) (by decide)
        obtain ⟨p, hp0, hX, hY⟩ := jw_free (f_unused := f_unused) (f_constant := f_constant) (f_word := f_word) (f_target := f_target) (f_channel := f_channel) (f_level := f_level) (f_prefix := f_prefix) (f_negate := f_negate) (f_operate := f_operate) (f_disableChannel := f_disableChannel) (f_disableTimer := f_disableTimer) (f_channelCount := nI C) (f_length := nI L) (f_sealed := 1) (f_timerHead := f_timerHead) (f_running := f_running) (f_interrupted := f_interrupted) (f_regA := f_regA) (f_regB := f_regB) (f_regC := f_regC) (f_savedA := f_savedA) (f_savedB := f_savedB) (f_savedC := f_savedC) (f_operand := f_operand) (f_clock := nI c) (f_faults := f_faults) (a_ops := a_ops) (a_xs := a_xs) (a_ys := a_ys) (a_sizes := a_sizes) (a_address := a_address) (a_bytes := a_bytes) (a_indexAt := a_indexAt) (a_locals := a_locals) (a_states := a_states) (a_priorities := a_priorities) (a_pointers := a_pointers) (a_branches := a_branches) (a_deadlines := a_deadlines) (a_held := a_held) (a_readyLink := a_readyLink) (a_timerLink := a_timerLink) (a_head := a_head) (a_tail := a_tail) (a_writers := a_writers) (a_readers := a_readers) (a_counters := a_counters) (g_length := nI L) (g_chans := nI C) (g_clock := nI c) (g_faults := f_faults) (g_sealed := 1) (g_nextTicket := g_nextTicket) (b_ops := a_ops) (b_xs := a_xs) (b_ys := a_ys) (b_prio := a_priorities) (b_pos := b_pos) (b_ra := b_ra) (b_rb := b_rb) (b_rc := b_rc) (b_words := a_locals) (b_chan := b_chan) (b_held := b_held) (b_named := b_named) (b_wake := b_wake) (b_open := b_open) (b_guard := b_guard) (b_timer := b_timer) (b_chosen := b_chosen) (b_ticket := b_ticket) (b_sent := b_sent) (b_received := b_received) (b_sentFold := b_sentFold) (b_receivedFold := b_receivedFold) (N := N) hN
        rcases hp0 with ⟨rfl, none⟩ | ⟨p, hp, rfl, g0⟩
        · unfold wX_launch_36
          refine hX _ (br_f (by decide) ?_)
          refine br_f (by decide) (br_f a0 (br_f a2 (br_f b0 (br_t b1 ?_))))
          unfold wpY_start
          refine hY _ (br_f (by decide) ?_)
          exact br_f (by decide) ⟨rfl, q⟩
        · have hp8 : p < 8 := by omega
          have cad := (cd.2.2.1 i (by omega)).1
          obtain ⟨hd, tl, lk, Q, W⟩ := xw_start (f_unused := f_unused) (f_constant := f_constant) (f_word := f_word) (f_target := f_target) (f_channel := f_channel) (f_level := f_level) (f_prefix := f_prefix) (f_negate := f_negate) (f_operate := f_operate) (f_disableChannel := f_disableChannel) (f_disableTimer := f_disableTimer) (f_processCount := nI N) (f_channelCount := nI C) (f_length := nI L) (f_sealed := 1) (f_timerHead := f_timerHead) (f_running := f_running) (f_interrupted := f_interrupted) (f_regA := f_regA) (f_regB := f_regB) (f_regC := f_regC) (f_savedA := f_savedA) (f_savedB := f_savedB) (f_savedC := f_savedC) (f_operand := f_operand) (f_clock := nI c) (f_faults := f_faults) (a_ops := a_ops) (a_xs := a_xs) (a_ys := a_ys) (a_sizes := a_sizes) (a_address := a_address) (a_bytes := a_bytes) (a_indexAt := a_indexAt) (a_locals := a_locals) (a_states := a_states) (a_priorities := a_priorities) (a_pointers := a_pointers) (a_branches := a_branches) (a_deadlines := a_deadlines) (a_held := a_held) (a_readyLink := a_readyLink) (a_timerLink := a_timerLink) (a_head := a_head) (a_tail := a_tail) (a_writers := a_writers) (a_readers := a_readers) (a_counters := a_counters) (k := m) (q := p) (x2 := nI (ad i)) (x4 := v3) hN hm hp g0 H.2.1
          have D1 := dy_start hN hC hp g0 hm hi H Q
          unfold wX_launch_36
          refine hX _ (br_t (ba_p' hp8) (And.intro (vp_in_nI (show i < 65 by omega) (by decide)) ?_))
          rw [nI_clamp (show i < 2 ^ 31 by omega), cad]
          refine W _ ?_
          refine br_f (by decide) (br_f a0 (br_f a2 (br_f b0 (br_t b1 ?_))))
          refine yw_start hp8 hY ?_
          refine br_t (ba_p' hp8) ⟨rfl, ?_⟩
          exact zz_in ⟨hN2, hN, hC1, hC, hL, hc⟩ (dy_mono (by omega) D1) (Or.inr ⟨rfl, cd⟩)
      refine br_f (by decide) (br_f a0 (br_t a1 (br_c (fun b => go 0 (by decide) b) (fun b => br_c (fun d => go 1 (by decide) d) (fun d => ?_)))))
      refine br_f (by decide) (br_f a0 (br_f a2 (br_c (fun _ => ⟨rfl, q⟩) (fun e => br_f (fun f => ?_) ⟨rfl, q⟩))))
      obtain ⟨m, hm, em⟩ := nI_of2 (M := 1) (n := 1) (by decide) e f
      have hm2 : m = 0 ∨ m = 1 := by omega
      rcases hm2 with z | z
      · exact b (by rw [em, z]; decide)
      · exact d (by rw [em, z]; decide)
theorem i_vc_run {k : Nat} {u : SX} {v : SY} (I : i_Rel k u v) (hk : k + 4 ≤ 2051) (v1 : Int32) : wpX_run (fun r u' => wpY_run (fun r' v' => r' = r ∧ i_Rel (k + 4) u' v') v v1) u v1 := by
  refine zz_el (P := fun u v => wpX_run (fun r u' => wpY_run (fun r' v' => r' = r ∧ i_Rel (k + 4) u' v') v v1) u v1) ?_ I
  intro N C L c ad f_sealed a_ops a_xs a_ys a_address a_bytes a_indexAt f_unused f_constant f_word f_target f_channel f_level f_prefix f_negate f_operate f_disableChannel f_disableTimer f_timerHead f_running f_interrupted f_regA f_regB f_regC f_savedA f_savedB f_savedC f_operand f_faults a_sizes a_locals a_states a_priorities a_pointers a_branches a_deadlines a_held a_readyLink a_timerLink a_head a_tail a_writers a_readers a_counters g_nextTicket b_pos b_ra b_rb b_rc b_chan b_held b_named b_wake b_open b_guard b_timer b_chosen b_ticket b_sent b_received b_sentFold b_receivedFold hs H G
  have q : i_Rel (k + 4) (f_unused, f_constant, f_word, f_target, f_channel, f_level, f_prefix, f_negate, f_operate, f_disableChannel, f_disableTimer, nI N, nI C, nI L, f_sealed, f_timerHead, f_running, f_interrupted, f_regA, f_regB, f_regC, f_savedA, f_savedB, f_savedC, f_operand, nI c, f_faults, a_ops, a_xs, a_ys, a_sizes, a_address, a_bytes, a_indexAt, a_locals, a_states, a_priorities, a_pointers, a_branches, a_deadlines, a_held, a_readyLink, a_timerLink, a_head, a_tail, a_writers, a_readers, a_counters) (nI L, nI N, nI C, nI c, f_faults, f_sealed, g_nextTicket, a_ops, a_xs, a_ys, a_states, a_priorities, b_pos, b_ra, b_rb, b_rc, a_locals, b_chan, b_held, b_named, b_wake, b_open, b_guard, b_timer, b_chosen, b_ticket, b_sent, b_received, b_sentFold, b_receivedFold) := i_up (zz_in hs H G)
  obtain ⟨hN2, hN, hC1, hC, hL, hc⟩ := hs
  rcases G with ⟨es, ea, free, pv⟩ | ⟨es, cd⟩
  · subst es
    exact br_t rfl (br_t rfl ⟨rfl, q⟩)
  · subst es
    obtain ⟨S, hS0, hS, cX, cY⟩ := jw_clamp (f_unused := f_unused) (f_constant := f_constant) (f_word := f_word) (f_target := f_target) (f_channel := f_channel) (f_level := f_level) (f_prefix := f_prefix) (f_negate := f_negate) (f_operate := f_operate) (f_disableChannel := f_disableChannel) (f_disableTimer := f_disableTimer) (f_processCount := nI N) (f_channelCount := nI C) (f_length := nI L) (f_sealed := 1) (f_timerHead := f_timerHead) (f_running := f_running) (f_interrupted := f_interrupted) (f_regA := f_regA) (f_regB := f_regB) (f_regC := f_regC) (f_savedA := f_savedA) (f_savedB := f_savedB) (f_savedC := f_savedC) (f_operand := f_operand) (f_clock := nI c) (f_faults := f_faults) (a_ops := a_ops) (a_xs := a_xs) (a_ys := a_ys) (a_sizes := a_sizes) (a_address := a_address) (a_bytes := a_bytes) (a_indexAt := a_indexAt) (a_locals := a_locals) (a_states := a_states) (a_priorities := a_priorities) (a_pointers := a_pointers) (a_branches := a_branches) (a_deadlines := a_deadlines) (a_held := a_held) (a_readyLink := a_readyLink) (a_timerLink := a_timerLink) (a_head := a_head) (a_tail := a_tail) (a_writers := a_writers) (a_readers := a_readers) (a_counters := a_counters) (g_length := nI L) (g_procs := nI N) (g_chans := nI C) (g_clock := nI c) (g_faults := f_faults) (g_sealed := 1) (g_nextTicket := g_nextTicket) (b_ops := a_ops) (b_xs := a_xs) (b_ys := a_ys) (b_st := a_states) (b_prio := a_priorities) (b_pos := b_pos) (b_ra := b_ra) (b_rb := b_rb) (b_rc := b_rc) (b_words := a_locals) (b_chan := b_chan) (b_held := b_held) (b_named := b_named) (b_wake := b_wake) (b_open := b_open) (b_guard := b_guard) (b_timer := b_timer) (b_chosen := b_chosen) (b_ticket := b_ticket) (b_sent := b_sent) (b_received := b_received) (b_sentFold := b_sentFold) (b_receivedFold := b_receivedFold) v1 0 200 (by decide) (by decide)
    obtain ⟨c', u', v', x3', hc', R', hX, hY⟩ := jw_run hN hC hS cd S 0 (by omega) (k * 1000) c _ _ 0 hc (by omega) (rl_in (f_unused := f_unused) (f_constant := f_constant) (f_word := f_word) (f_target := f_target) (f_channel := f_channel) (f_level := f_level) (f_prefix := f_prefix) (f_negate := f_negate) (f_operate := f_operate) (f_disableChannel := f_disableChannel) (f_disableTimer := f_disableTimer) (f_sealed := 1) (f_timerHead := f_timerHead) (f_running := f_running) (f_interrupted := f_interrupted) (f_regA := f_regA) (f_regB := f_regB) (f_regC := f_regC) (f_savedA := f_savedA) (f_savedB := f_savedB) (f_savedC := f_savedC) (f_operand := f_operand) (f_faults := f_faults) (a_ops := a_ops) (a_xs := a_xs) (a_ys := a_ys) (a_sizes := a_sizes) (a_address := a_address) (a_bytes := a_bytes) (a_indexAt := a_indexAt) (a_locals := a_locals) (a_states := a_states) (a_priorities := a_priorities) (a_pointers := a_pointers) (a_branches := a_branches) (a_deadlines := a_deadlines) (a_held := a_held) (a_readyLink := a_readyLink) (a_timerLink := a_timerLink) (a_head := a_head) (a_tail := a_tail) (a_writers := a_writers) (a_readers := a_readers) (a_counters := a_counters) (g_nextTicket := g_nextTicket) (b_pos := b_pos) (b_ra := b_ra) (b_rb := b_rb) (b_rc := b_rc) (b_chan := b_chan) (b_held := b_held) (b_named := b_named) (b_wake := b_wake) (b_open := b_open) (b_guard := b_guard) (b_timer := b_timer) (b_chosen := b_chosen) (b_ticket := b_ticket) (b_sent := b_sent) (b_received := b_received) (b_sentFold := b_sentFold) (b_receivedFold := b_receivedFold) H)
    refine br_f (by decide) (cX _ ⟨S + 1, rn_Xo (hX _ ?_)⟩)
    refine br_f (by decide) (cY _ ⟨S + 1, rn_Yo (hY _ ⟨rfl, ?_⟩)⟩)
    exact ⟨N, C, L, c', ad, 1, a_ops, a_xs, a_ys, a_address, a_bytes, a_indexAt, ⟨hN2, hN, hC1, hC, hL, hc'⟩, rl_mono (by omega) R', Or.inr ⟨rfl, cd⟩⟩
end
section
/-! seal -/
theorem kd_x3 : ∀ j, j < 21 → kd_x j = 3 → (j = 6 ∨ j = 7 ∨ j = 8 ∨ j = 19) ∧ kd_y j ≠ 3 := by decide
theorem kd_n3 : ∀ j, j < 21 → kd_x j ≠ 3 → ¬ nI j = 6 ∧ ¬ nI j = 7 ∧ ¬ nI j = 8 ∧ ¬ nI j = 19 := by decide
theorem kd_y3 : ∀ j, j < 21 → kd_y j = 3 → j = 18 := by decide
theorem kd_m3 : ∀ j, j < 21 → kd_y j ≠ 3 → ¬ nI j = 18 := by decide
theorem kd_up {C L : Nat} : ∀ (k : Nat) (v : Int32), kd_v C 64 k v → (k = 3 → ∃ n, n < L ∧ v = nI n) → kd_v C L k v
  | 0, _, _, _ => trivial
  | 1, _, h, _ => h
  | 2, _, h, _ => h
  | 3, _, _, h => h rfl
  | 4, _, h, _ => h
  | n + 5, _, h, _ => h
theorem kd_eq3 {k : Nat} (h : k < 6) : nI k = 3 ↔ k = 3 := nI_eq (b := 3) (by omega) (by decide)
section
variable {C L : Nat}
variable {f_unused f_constant f_word f_target f_channel f_level f_prefix f_negate f_operate f_disableChannel f_disableTimer f_processCount f_channelCount f_length f_sealed f_timerHead f_running f_interrupted f_regA f_regB f_regC f_savedA f_savedB f_savedC f_operand f_clock f_faults : Int32} {a_ops a_xs a_ys a_sizes a_address a_bytes a_indexAt a_locals a_states a_priorities a_pointers a_branches a_deadlines a_held a_readyLink a_timerLink a_head a_tail a_writers a_readers a_counters : Nat → Int32}
variable {g_length g_procs g_chans g_clock g_faults g_sealed : Int32} {g_nextTicket : Int64} {b_ops b_xs b_ys b_st b_prio b_pos b_ra b_rb b_rc b_words b_chan b_held b_named b_wake b_open b_guard b_timer b_chosen b_sent b_received b_sentFold b_receivedFold : Nat → Int32} {b_ticket : Nat → Int64}
/-- the check of all targets -/
theorem jw_comp (hL : L ≤ 64) (PV : ∀ i, i < L → kd_p C 64 (a_ops i) (a_xs i) (a_ys i)) : ∀ d i, i + d = L → (∀ n, n < i → kd_p C L (a_ops n) (a_xs n) (a_ys n)) →
    ((∀ n, n < L → kd_p C L (a_ops n) (a_xs n) (a_ys n)) ∧ (∀ post : Int32 → Prop, post 1 → wX_complete_37 post f_unused f_constant f_word f_target f_channel f_level f_prefix f_negate f_operate f_disableChannel f_disableTimer f_processCount f_channelCount (nI L) f_sealed f_timerHead f_running f_interrupted f_regA f_regB f_regC f_savedA f_savedB f_savedC f_operand f_clock f_faults a_ops a_xs a_ys a_sizes a_address a_bytes a_indexAt a_locals a_states a_priorities a_pointers a_branches a_deadlines a_held a_readyLink a_timerLink a_head a_tail a_writers a_readers a_counters (d + 1) (nI i)) ∧ (∀ post : Int32 → SY → Prop, post 0 (nI L, g_procs, g_chans, g_clock, g_faults, 1, g_nextTicket, a_ops, a_xs, a_ys, b_st, b_prio, b_pos, b_ra, b_rb, b_rc, b_words, b_chan, b_held, b_named, b_wake, b_open, b_guard, b_timer, b_chosen, b_ticket, b_sent, b_received, b_sentFold, b_receivedFold) → wY_seal_57 post (nI L) g_procs g_chans g_clock g_faults g_sealed g_nextTicket a_ops a_xs a_ys b_st b_prio b_pos b_ra b_rb b_rc b_words b_chan b_held b_named b_wake b_open b_guard b_timer b_chosen b_ticket b_sent b_received b_sentFold b_receivedFold (d + 1) (nI i)))
    ∨ ((∀ post : Int32 → Prop, post 0 → wX_complete_37 post f_unused f_constant f_word f_target f_channel f_level f_prefix f_negate f_operate f_disableChannel f_disableTimer f_processCount f_channelCount (nI L) f_sealed f_timerHead f_running f_interrupted f_regA f_regB f_regC f_savedA f_savedB f_savedC f_operand f_clock f_faults a_ops a_xs a_ys a_sizes a_address a_bytes a_indexAt a_locals a_states a_priorities a_pointers a_branches a_deadlines a_held a_readyLink a_timerLink a_head a_tail a_writers a_readers a_counters (d + 1) (nI i)) ∧ (∀ post : Int32 → SY → Prop, post (-2) (nI L, g_procs, g_chans, g_clock, g_faults, g_sealed, g_nextTicket, a_ops, a_xs, a_ys, b_st, b_prio, b_pos, b_ra, b_rb, b_rc, b_words, b_chan, b_held, b_named, b_wake, b_open, b_guard, b_timer, b_chosen, b_ticket, b_sent, b_received, b_sentFold, b_receivedFold) → wY_seal_57 post (nI L) g_procs g_chans g_clock g_faults g_sealed g_nextTicket a_ops a_xs a_ys b_st b_prio b_pos b_ra b_rb b_rc b_words b_chan b_held b_named b_wake b_open b_guard b_timer b_chosen b_ticket b_sent b_received b_sentFold b_receivedFold (d + 1) (nI i))) := by
  intro d
  induction d with
  | zero =>
    intro i hi hl
    have e : i = L := by omega
    subst e
    refine Or.inl ⟨hl, fun post K => ?_, fun post K => ?_⟩
    · rw [wX_complete_37]
      exact br_t (Int32.le_refl _) K
    · rw [wY_seal_57]
      exact br_t (Int32.le_refl _) K
  | succ d ih =>
    intro i hi hl
    have hiL : i < L := by omega
    have hi64 : i < 64 := by omega
    have h8 : ¬ nI L ≤ nI i := nI_ge (by omega) (by omega)
    obtain ⟨j, hj, eo, hx, hy⟩ := PV i hiL
    have hkx := kd_xle j hj
    have hky := kd_yle j hj
    -- the rest of a step that passes
    have next : kd_v C L (kd_x j) (a_xs i) → kd_v C L (kd_y j) (a_ys i) → (∀ post : Int32 → Prop, wX_complete_37 post f_unused f_constant f_word f_target f_channel f_level f_prefix f_negate f_operate f_disableChannel f_disableTimer f_processCount f_channelCount (nI L) f_sealed f_timerHead f_running f_interrupted f_regA f_regB f_regC f_savedA f_savedB f_savedC f_operand f_clock f_faults a_ops a_xs a_ys a_sizes a_address a_bytes a_indexAt a_locals a_states a_priorities a_pointers a_branches a_deadlines a_held a_readyLink a_timerLink a_head a_tail a_writers a_readers a_counters (d + 1) (nI (i + 1)) → wX_complete_37 post f_unused f_constant f_word f_target f_channel f_level f_prefix f_negate f_operate f_disableChannel f_disableTimer f_processCount f_channelCount (nI L) f_sealed f_timerHead f_running f_interrupted f_regA f_regB f_regC f_savedA f_savedB f_savedC f_operand f_clock f_faults a_ops a_xs a_ys a_sizes a_address a_bytes a_indexAt a_locals a_states a_priorities a_pointers a_branches a_deadlines a_held a_readyLink a_timerLink a_head a_tail a_writers a_readers a_counters (d + 1 + 1) (nI i)) → (∀ post : Int32 → SY → Prop, wY_seal_57 post (nI L) g_procs g_chans g_clock g_faults g_sealed g_nextTicket a_ops a_xs a_ys b_st b_prio b_pos b_ra b_rb b_rc b_words b_chan b_held b_named b_wake b_open b_guard b_timer b_chosen b_ticket b_sent b_received b_sentFold b_receivedFold (d + 1) (nI (i + 1)) → wY_seal_57 post (nI L) g_procs g_chans g_clock g_faults g_sealed g_nextTicket a_ops a_xs a_ys b_st b_prio b_pos b_ra b_rb b_rc b_words b_chan b_held b_named b_wake b_open b_guard b_timer b_chosen b_ticket b_sent b_received b_sentFold b_receivedFold (d + 1 + 1) (nI i)) →
      ((∀ n, n < L → kd_p C L (a_ops n) (a_xs n) (a_ys n)) ∧ (∀ post : Int32 → Prop, post 1 → wX_complete_37 post f_unused f_constant f_word f_target f_channel f_level f_prefix f_negate f_operate f_disableChannel f_disableTimer f_processCount f_channelCount (nI L) f_sealed f_timerHead f_running f_interrupted f_regA f_regB f_regC f_savedA f_savedB f_savedC f_operand f_clock f_faults a_ops a_xs a_ys a_sizes a_address a_bytes a_indexAt a_locals a_states a_priorities a_pointers a_branches a_deadlines a_held a_readyLink a_timerLink a_head a_tail a_writers a_readers a_counters (d + 1 + 1) (nI i)) ∧ (∀ post : Int32 → SY → Prop, post 0 (nI L, g_procs, g_chans, g_clock, g_faults, 1, g_nextTicket, a_ops, a_xs, a_ys, b_st, b_prio, b_pos, b_ra, b_rb, b_rc, b_words, b_chan, b_held, b_named, b_wake, b_open, b_guard, b_timer, b_chosen, b_ticket, b_sent, b_received, b_sentFold, b_receivedFold) → wY_seal_57 post (nI L) g_procs g_chans g_clock g_faults g_sealed g_nextTicket a_ops a_xs a_ys b_st b_prio b_pos b_ra b_rb b_rc b_words b_chan b_held b_named b_wake b_open b_guard b_timer b_chosen b_ticket b_sent b_received b_sentFold b_receivedFold (d + 1 + 1) (nI i)))
      ∨ ((∀ post : Int32 → Prop, post 0 → wX_complete_37 post f_unused f_constant f_word f_target f_channel f_level f_prefix f_negate f_operate f_disableChannel f_disableTimer f_processCount f_channelCount (nI L) f_sealed f_timerHead f_running f_interrupted f_regA f_regB f_regC f_savedA f_savedB f_savedC f_operand f_clock f_faults a_ops a_xs a_ys a_sizes a_address a_bytes a_indexAt a_locals a_states a_priorities a_pointers a_branches a_deadlines a_held a_readyLink a_timerLink a_head a_tail a_writers a_readers a_counters (d + 1 + 1) (nI i)) ∧ (∀ post : Int32 → SY → Prop, post (-2) (nI L, g_procs, g_chans, g_clock, g_faults, g_sealed, g_nextTicket, a_ops, a_xs, a_ys, b_st, b_prio, b_pos, b_ra, b_rb, b_rc, b_words, b_chan, b_held, b_named, b_wake, b_open, b_guard, b_timer, b_chosen, b_ticket, b_sent, b_received, b_sentFold, b_receivedFold) → wY_seal_57 post (nI L) g_procs g_chans g_clock g_faults g_sealed g_nextTicket a_ops a_xs a_ys b_st b_prio b_pos b_ra b_rb b_rc b_words b_chan b_held b_named b_wake b_open b_guard b_timer b_chosen b_ticket b_sent b_received b_sentFold b_receivedFold (d + 1 + 1) (nI i))) := fun kx ky sX sY => by
      rcases ih (i + 1) (by omega) (fun n hn => by
        by_cases e : n = i
        · rw [e]
          exact ⟨j, hj, eo, kx, ky⟩
        · exact hl n (by omega)) with ⟨h1, h2, h3⟩ | ⟨h2, h3⟩
      · exact Or.inl ⟨h1, fun post K => sX post (h2 post K), fun post K => sY post (h3 post K)⟩
      · exact Or.inr ⟨fun post K => sX post (h2 post K), fun post K => sY post (h3 post K)⟩
    by_cases zx : kd_x j = 3
    · obtain ⟨ops4, ny⟩ := kd_x3 j hj zx
      have kx := hx
      rw [zx] at kx
      obtain ⟨t, ht, et⟩ := kx
      have c3 : nI (kd_x j) = 3 := (kd_eq3 (by omega)).mpr zx
      have d3 : ¬ nI (kd_y j) = 3 := fun z => ny ((kd_eq3 hky).mp z)
      have n18 : ¬ nI j = 18 := kd_m3 j hj ny
      have toY : ∀ post : Int32 → SY → Prop, wY_seal_96 post (wY_seal_57 post (nI L) g_procs g_chans g_clock g_faults g_sealed g_nextTicket a_ops a_xs a_ys b_st b_prio b_pos b_ra b_rb b_rc b_words b_chan b_held b_named b_wake b_open b_guard b_timer b_chosen b_ticket b_sent b_received b_sentFold b_receivedFold (d + 1)) (nI i) (nI j) (nI L) g_procs g_chans g_clock g_faults g_sealed g_nextTicket a_ops a_xs a_ys b_st b_prio b_pos b_ra b_rb b_rc b_words b_chan b_held b_named b_wake b_open b_guard b_timer b_chosen b_ticket b_sent b_received b_sentFold b_receivedFold → wY_seal_57 post (nI L) g_procs g_chans g_clock g_faults g_sealed g_nextTicket a_ops a_xs a_ys b_st b_prio b_pos b_ra b_rb b_rc b_words b_chan b_held b_named b_wake b_open b_guard b_timer b_chosen b_ticket b_sent b_received b_sentFold b_receivedFold (d + 1 + 1) (nI i) := fun post K => by
        rw [wY_seal_57]
        refine br_f h8 (And.intro (ba_v64 hi64) ?_)
        rw [ba_c64 hi64, eo]
        refine nm_e ?_
        rcases ops4 with rfl | rfl | rfl | rfl
        · exact br_t (by decide) K
        · exact br_f (by decide) (br_t (by decide) K)
        · exact br_f (by decide) (br_f (by decide) (br_t (by decide) K))
        · exact br_f (by decide) (br_f (by decide) (br_f (by decide) (br_t (by decide) K)))
      by_cases lt : t < L
      · have c4 : nI t < nI L := nI_lt lt (by omega)
        refine next (kd_up _ _ hx (fun _ => ⟨t, lt, et⟩)) (kd_up _ _ hy (fun z => absurd z ny)) (fun post K => ?_) (fun post K => toY post ?_)
        · rw [wX_complete_37]
          refine br_f h8 (And.intro (ba_v64 hi64) ?_)
          rw [ba_c64 hi64, eo, et]
          refine xw_kx j hj (br_t c3 (And.intro (ba_v64 hi64) (br_t c4 ?_)))
          unfold wX_complete_74
          refine And.intro (ba_v64 hi64) ?_
          rw [ba_c64 hi64, eo]
          exact xw_ky j hj (br_f d3 (nm_r (nI_1 i) K))
        · unfold wY_seal_96
          refine And.intro (ba_v64 hi64) ?_
          rw [ba_c64 hi64, et]
          exact br_t c4 (br_f n18 (nm_r (nI_1 i) K))
      · have c4 : ¬ nI t < nI L := nI_nlt (by omega) (by omega)
        refine Or.inr ⟨fun post K => ?_, fun post K => toY post ?_⟩
        · rw [wX_complete_37]
          refine br_f h8 (And.intro (ba_v64 hi64) ?_)
          rw [ba_c64 hi64, eo, et]
          exact xw_kx j hj (br_t c3 (And.intro (ba_v64 hi64) (br_f c4 K)))
        · unfold wY_seal_96
          refine And.intro (ba_v64 hi64) ?_
          rw [ba_c64 hi64, et]
          exact br_f c4 K
    · have c3 : ¬ nI (kd_x j) = 3 := fun z => zx ((kd_eq3 (by omega)).mp z)
      obtain ⟨n6, n7, n8, n19⟩ := kd_n3 j hj zx
      have toY : ∀ post : Int32 → SY → Prop, wY_seal_112 post (wY_seal_57 post (nI L) g_procs g_chans g_clock g_faults g_sealed g_nextTicket a_ops a_xs a_ys b_st b_prio b_pos b_ra b_rb b_rc b_words b_chan b_held b_named b_wake b_open b_guard b_timer b_chosen b_ticket b_sent b_received b_sentFold b_receivedFold (d + 1)) (nI i) (nI j) (nI L) g_procs g_chans g_clock g_faults g_sealed g_nextTicket a_ops a_xs a_ys b_st b_prio b_pos b_ra b_rb b_rc b_words b_chan b_held b_named b_wake b_open b_guard b_timer b_chosen b_ticket b_sent b_received b_sentFold b_receivedFold → wY_seal_57 post (nI L) g_procs g_chans g_clock g_faults g_sealed g_nextTicket a_ops a_xs a_ys b_st b_prio b_pos b_ra b_rb b_rc b_words b_chan b_held b_named b_wake b_open b_guard b_timer b_chosen b_ticket b_sent b_received b_sentFold b_receivedFold (d + 1 + 1) (nI i) := fun post K => by
        rw [wY_seal_57]
        refine br_f h8 (And.intro (ba_v64 hi64) ?_)
        rw [ba_c64 hi64, eo]
        exact nm_e (br_f n6 (br_f n7 (br_f n8 (br_f n19 K))))
      have toX : ∀ post : Int32 → Prop, wX_complete_74 post (wX_complete_37 post f_unused f_constant f_word f_target f_channel f_level f_prefix f_negate f_operate f_disableChannel f_disableTimer f_processCount f_channelCount (nI L) f_sealed f_timerHead f_running f_interrupted f_regA f_regB f_regC f_savedA f_savedB f_savedC f_operand f_clock f_faults a_ops a_xs a_ys a_sizes a_address a_bytes a_indexAt a_locals a_states a_priorities a_pointers a_branches a_deadlines a_held a_readyLink a_timerLink a_head a_tail a_writers a_readers a_counters (d + 1)) (nI i) f_unused f_constant f_word f_target f_channel f_level f_prefix f_negate f_operate f_disableChannel f_disableTimer f_processCount f_channelCount (nI L) f_sealed f_timerHead f_running f_interrupted f_regA f_regB f_regC f_savedA f_savedB f_savedC f_operand f_clock f_faults a_ops a_xs a_ys a_sizes a_address a_bytes a_indexAt a_locals a_states a_priorities a_pointers a_branches a_deadlines a_held a_readyLink a_timerLink a_head a_tail a_writers a_readers a_counters → wX_complete_37 post f_unused f_constant f_word f_target f_channel f_level f_prefix f_negate f_operate f_disableChannel f_disableTimer f_processCount f_channelCount (nI L) f_sealed f_timerHead f_running f_interrupted f_regA f_regB f_regC f_savedA f_savedB f_savedC f_operand f_clock f_faults a_ops a_xs a_ys a_sizes a_address a_bytes a_indexAt a_locals a_states a_priorities a_pointers a_branches a_deadlines a_held a_readyLink a_timerLink a_head a_tail a_writers a_readers a_counters (d + 1 + 1) (nI i) := fun post K => by
        rw [wX_complete_37]
        refine br_f h8 (And.intro (ba_v64 hi64) ?_)
        rw [ba_c64 hi64, eo]
        exact xw_kx j hj (br_f c3 K)
      by_cases zy : kd_y j = 3
      · have e18 := kd_y3 j hj zy
        have ky := hy
        rw [zy] at ky
        obtain ⟨t, ht, et⟩ := ky
        have d3 : nI (kd_y j) = 3 := (kd_eq3 hky).mpr zy
        have f18 : nI j = 18 := by rw [e18]; decide
        by_cases lt : t < L
        · have c4 : nI t < nI L := nI_lt lt (by omega)
          refine next (kd_up _ _ hx (fun z => absurd z zx)) (kd_up _ _ hy (fun _ => ⟨t, lt, et⟩)) (fun post K => toX post ?_) (fun post K => toY post ?_)
          · unfold wX_complete_74
            refine And.intro (ba_v64 hi64) ?_
            rw [ba_c64 hi64, eo, et]
            exact xw_ky j hj (br_t d3 (And.intro (ba_v64 hi64) (br_t c4 (nm_r (nI_1 i) K))))
          · unfold wY_seal_112
            rw [ba_c64 hi64, et]
            exact br_t f18 (And.intro (ba_v64 hi64) (br_t c4 (nm_r (nI_1 i) K)))
        · have c4 : ¬ nI t < nI L := nI_nlt (by omega) (by omega)
          refine Or.inr ⟨fun post K => toX post ?_, fun post K => toY post ?_⟩
          · unfold wX_complete_74
            refine And.intro (ba_v64 hi64) ?_
            rw [ba_c64 hi64, eo, et]
            exact xw_ky j hj (br_t d3 (And.intro (ba_v64 hi64) (br_f c4 K)))
          · unfold wY_seal_112
            rw [ba_c64 hi64, et]
            exact br_t f18 (And.intro (ba_v64 hi64) (br_f c4 K))
      · have d3 : ¬ nI (kd_y j) = 3 := fun z => zy ((kd_eq3 hky).mp z)
        have n18 := kd_m3 j hj zy
        refine next (kd_up _ _ hx (fun z => absurd z zx)) (kd_up _ _ hy (fun z => absurd z zy)) (fun post K => toX post ?_) (fun post K => toY post ?_)
        · unfold wX_complete_74
          refine And.intro (ba_v64 hi64) ?_
          rw [ba_c64 hi64, eo]
          exact xw_ky j hj (br_f d3 (nm_r (nI_1 i) K))
        · exact br_f n18 (nm_r (nI_1 i) K)
end
theorem i_vc_seal {k : Nat} {u : SX} {v : SY} (I : i_Rel k u v) (hk : k + 4 ≤ 2051) : wpX_seal (fun r u' => wpY_seal (fun r' v' => r' = r ∧ i_Rel (k + 4) u' v') v) u := by
  refine zz_el (P := fun u v => wpX_seal (fun r u' => wpY_seal (fun r' v' => r' = r ∧ i_Rel (k + 4) u' v') v) u) ?_ I
  intro N C L c ad f_sealed a_ops a_xs a_ys a_address a_bytes a_indexAt f_unused f_constant f_word f_target f_channel f_level f_prefix f_negate f_operate f_disableChannel f_disableTimer f_timerHead f_running f_interrupted f_regA f_regB f_regC f_savedA f_savedB f_savedC f_operand f_faults a_sizes a_locals a_states a_priorities a_pointers a_branches a_deadlines a_held a_readyLink a_timerLink a_head a_tail a_writers a_readers a_counters g_nextTicket b_pos b_ra b_rb b_rc b_chan b_held b_named b_wake b_open b_guard b_timer b_chosen b_ticket b_sent b_received b_sentFold b_receivedFold hs H G
  have q : i_Rel (k + 4) (f_unused, f_constant, f_word, f_target, f_channel, f_level, f_prefix, f_negate, f_operate, f_disableChannel, f_disableTimer, nI N, nI C, nI L, f_sealed, f_timerHead, f_running, f_interrupted, f_regA, f_regB, f_regC, f_savedA, f_savedB, f_savedC, f_operand, nI c, f_faults, a_ops, a_xs, a_ys, a_sizes, a_address, a_bytes, a_indexAt, a_locals, a_states, a_priorities, a_pointers, a_branches, a_deadlines, a_held, a_readyLink, a_timerLink, a_head, a_tail, a_writers, a_readers, a_counters) (nI L, nI N, nI C, nI c, f_faults, f_sealed, g_nextTicket, a_ops, a_xs, a_ys, a_states, a_priorities, b_pos, b_ra, b_rb, b_rc, a_locals, b_chan, b_held, b_named, b_wake, b_open, b_guard, b_timer, b_chosen, b_ticket, b_sent, b_received, b_sentFold, b_receivedFold) := i_up (zz_in hs H G)
  obtain ⟨hN2, hN, hC1, hC, hL, hc⟩ := hs
  rcases G with ⟨es, ea, free, pv⟩ | ⟨es, cd⟩
  · subst es
    by_cases l0 : L = 0
    · subst l0
      exact br_t rfl (br_t (by decide) (br_t rfl (br_t rfl (br_t (by decide) ⟨rfl, q⟩))))
    · have z0 : ¬ nI L = 0 := nI_ne0 (by omega) (by omega)
      have e1 : nI L - 1 = nI (L - 1) := by
        obtain ⟨m, rfl⟩ : ∃ m, L = m + 1 := ⟨L - 1, by omega⟩
        exact nI_pred m
      have h64 : L - 1 < 64 := by omega
      -- both find the end in order
      have go : (a_ops (L - 1) = 6 ∨ a_ops (L - 1) = 9) → ((∀ n, n < L → kd_p C L (a_ops n) (a_xs n) (a_ys n)) ∧ (∀ post : Int32 → Prop, post 1 → wpX_complete post (f_unused, f_constant, f_word, f_target, f_channel, f_level, f_prefix, f_negate, f_operate, f_disableChannel, f_disableTimer, nI N, nI C, nI L, 0, f_timerHead, f_running, f_interrupted, f_regA, f_regB, f_regC, f_savedA, f_savedB, f_savedC, f_operand, nI c, f_faults, a_ops, a_xs, a_ys, a_sizes, a_address, a_bytes, a_indexAt, a_locals, a_states, a_priorities, a_pointers, a_branches, a_deadlines, a_held, a_readyLink, a_timerLink, a_head, a_tail, a_writers, a_readers, a_counters)) ∧ (∀ post : Int32 → SY → Prop, post 0 (nI L, nI N, nI C, nI c, f_faults, 1, g_nextTicket, a_ops, a_xs, a_ys, a_states, a_priorities, b_pos, b_ra, b_rb, b_rc, a_locals, b_chan, b_held, b_named, b_wake, b_open, b_guard, b_timer, b_chosen, b_ticket, b_sent, b_received, b_sentFold, b_receivedFold) → wpY_seal post (nI L, nI N, nI C, nI c, f_faults, 0, g_nextTicket, a_ops, a_xs, a_ys, a_states, a_priorities, b_pos, b_ra, b_rb, b_rc, a_locals, b_chan, b_held, b_named, b_wake, b_open, b_guard, b_timer, b_chosen, b_ticket, b_sent, b_received, b_sentFold, b_receivedFold))) ∨ ((∀ post : Int32 → Prop, post 0 → wpX_complete post (f_unused, f_constant, f_word, f_target, f_channel, f_level, f_prefix, f_negate, f_operate, f_disableChannel, f_disableTimer, nI N, nI C, nI L, 0, f_timerHead, f_running, f_interrupted, f_regA, f_regB, f_regC, f_savedA, f_savedB, f_savedC, f_operand, nI c, f_faults, a_ops, a_xs, a_ys, a_sizes, a_address, a_bytes, a_indexAt, a_locals, a_states, a_priorities, a_pointers, a_branches, a_deadlines, a_held, a_readyLink, a_timerLink, a_head, a_tail, a_writers, a_readers, a_counters)) ∧ (∀ post : Int32 → SY → Prop, post (-2) (nI L, nI N, nI C, nI c, f_faults, 0, g_nextTicket, a_ops, a_xs, a_ys, a_states, a_priorities, b_pos, b_ra, b_rb, b_rc, a_locals, b_chan, b_held, b_named, b_wake, b_open, b_guard, b_timer, b_chosen, b_ticket, b_sent, b_received, b_sentFold, b_receivedFold) → wpY_seal post (nI L, nI N, nI C, nI c, f_faults, 0, g_nextTicket, a_ops, a_xs, a_ys, a_states, a_priorities, b_pos, b_ra, b_rb, b_rc, a_locals, b_chan, b_held, b_named, b_wake, b_open, b_guard, b_timer, b_chosen, b_ticket, b_sent, b_received, b_sentFold, b_receivedFold))) := fun hl => by
        have toX : ∀ post : Int32 → Prop, wX_complete_37 post f_unused f_constant f_word f_target f_channel f_level f_prefix f_negate f_operate f_disableChannel f_disableTimer (nI N) (nI C) (nI L) 0 f_timerHead f_running f_interrupted f_regA f_regB f_regC f_savedA f_savedB f_savedC f_operand (nI c) f_faults a_ops a_xs a_ys a_sizes a_address a_bytes a_indexAt a_locals a_states a_priorities a_pointers a_branches a_deadlines a_held a_readyLink a_timerLink a_head a_tail a_writers a_readers a_counters (L + 1) (nI 0) → wpX_complete post (f_unused, f_constant, f_word, f_target, f_channel, f_level, f_prefix, f_negate, f_operate, f_disableChannel, f_disableTimer, nI N, nI C, nI L, 0, f_timerHead, f_running, f_interrupted, f_regA, f_regB, f_regC, f_savedA, f_savedB, f_savedC, f_operand, nI c, f_faults, a_ops, a_xs, a_ys, a_sizes, a_address, a_bytes, a_indexAt, a_locals, a_states, a_priorities, a_pointers, a_branches, a_deadlines, a_held, a_readyLink, a_timerLink, a_head, a_tail, a_writers, a_readers, a_counters) := fun post K => by
          refine br_f z0 ?_
          rw [e1, ba_c64 h64]
          refine And.intro (ba_v64 h64) (nm_e ?_)
          rcases hl with z | z
          · exact br_t z ⟨L + 1, K⟩
          · exact br_f (by rw [z]; decide) (br_t z ⟨L + 1, K⟩)
        have toY : ∀ post : Int32 → SY → Prop, wY_seal_57 post (nI L) (nI N) (nI C) (nI c) f_faults 0 g_nextTicket a_ops a_xs a_ys a_states a_priorities b_pos b_ra b_rb b_rc a_locals b_chan b_held b_named b_wake b_open b_guard b_timer b_chosen b_ticket b_sent b_received b_sentFold b_receivedFold (L + 1) (nI 0) → wpY_seal post (nI L, nI N, nI C, nI c, f_faults, 0, g_nextTicket, a_ops, a_xs, a_ys, a_states, a_priorities, b_pos, b_ra, b_rb, b_rc, a_locals, b_chan, b_held, b_named, b_wake, b_open, b_guard, b_timer, b_chosen, b_ticket, b_sent, b_received, b_sentFold, b_receivedFold) := fun post K => by
          refine br_t rfl (br_f z0 ?_)
          rw [e1, ba_c64 h64]
          refine And.intro (ba_v64 h64) ?_
          rcases hl with z | z
          · exact br_t z ⟨L + 1, K⟩
          · exact br_f (by rw [z]; decide) (And.intro (ba_v64 h64) (br_t z ⟨L + 1, K⟩))
        rcases jw_comp (f_unused := f_unused) (f_constant := f_constant) (f_word := f_word) (f_target := f_target) (f_channel := f_channel) (f_level := f_level) (f_prefix := f_prefix) (f_negate := f_negate) (f_operate := f_operate) (f_disableChannel := f_disableChannel) (f_disableTimer := f_disableTimer) (f_processCount := nI N) (f_channelCount := nI C) (f_sealed := 0) (f_timerHead := f_timerHead) (f_running := f_running) (f_interrupted := f_interrupted) (f_regA := f_regA) (f_regB := f_regB) (f_regC := f_regC) (f_savedA := f_savedA) (f_savedB := f_savedB) (f_savedC := f_savedC) (f_operand := f_operand) (f_clock := nI c) (f_faults := f_faults) (a_ops := a_ops) (a_xs := a_xs) (a_ys := a_ys) (a_sizes := a_sizes) (a_address := a_address) (a_bytes := a_bytes) (a_indexAt := a_indexAt) (a_locals := a_locals) (a_states := a_states) (a_priorities := a_priorities) (a_pointers := a_pointers) (a_branches := a_branches) (a_deadlines := a_deadlines) (a_held := a_held) (a_readyLink := a_readyLink) (a_timerLink := a_timerLink) (a_head := a_head) (a_tail := a_tail) (a_writers := a_writers) (a_readers := a_readers) (a_counters := a_counters) (g_procs := nI N) (g_chans := nI C) (g_clock := nI c) (g_faults := f_faults) (g_sealed := 0) (g_nextTicket := g_nextTicket) (b_st := a_states) (b_prio := a_priorities) (b_pos := b_pos) (b_ra := b_ra) (b_rb := b_rb) (b_rc := b_rc) (b_words := a_locals) (b_chan := b_chan) (b_held := b_held) (b_named := b_named) (b_wake := b_wake) (b_open := b_open) (b_guard := b_guard) (b_timer := b_timer) (b_chosen := b_chosen) (b_ticket := b_ticket) (b_sent := b_sent) (b_received := b_received) (b_sentFold := b_sentFold) (b_receivedFold := b_receivedFold) hL pv L 0 (by omega) (fun n hn => absurd hn (by omega)) with ⟨P, hX, hY⟩ | ⟨hX, hY⟩
        · exact Or.inl ⟨P, fun post K => toX _ (hX _ K), fun post K => toY _ (hY _ K)⟩
        · exact Or.inr ⟨fun post K => toX _ (hX _ K), fun post K => toY _ (hY _ K)⟩
      have done : (a_ops (L - 1) = 6 ∨ a_ops (L - 1) = 9) → wpX_seal (fun r u' => wpY_seal (fun r' v' => r' = r ∧ i_Rel (k + 4) u' v') (nI L, nI N, nI C, nI c, f_faults, 0, g_nextTicket, a_ops, a_xs, a_ys, a_states, a_priorities, b_pos, b_ra, b_rb, b_rc, a_locals, b_chan, b_held, b_named, b_wake, b_open, b_guard, b_timer, b_chosen, b_ticket, b_sent, b_received, b_sentFold, b_receivedFold)) (f_unused, f_constant, f_word, f_target, f_channel, f_level, f_prefix, f_negate, f_operate, f_disableChannel, f_disableTimer, nI N, nI C, nI L, 0, f_timerHead, f_running, f_interrupted, f_regA, f_regB, f_regC, f_savedA, f_savedB, f_savedC, f_operand, nI c, f_faults, a_ops, a_xs, a_ys, a_sizes, a_address, a_bytes, a_indexAt, a_locals, a_states, a_priorities, a_pointers, a_branches, a_deadlines, a_held, a_readyLink, a_timerLink, a_head, a_tail, a_writers, a_readers, a_counters) := fun hl => by
        rcases go hl with ⟨P, hX, hY⟩ | ⟨hX, hY⟩
        · refine br_t rfl (hX _ (br_f (by decide) ?_))
          obtain ⟨S, sz, adr, l1, l2, l3, W⟩ := xl_layout (f_unused := f_unused) (f_constant := f_constant) (f_word := f_word) (f_target := f_target) (f_channel := f_channel) (f_level := f_level) (f_prefix := f_prefix) (f_negate := f_negate) (f_operate := f_operate) (f_disableChannel := f_disableChannel) (f_disableTimer := f_disableTimer) (f_processCount := nI N) (f_channelCount := nI C) (f_sealed := 0) (f_timerHead := f_timerHead) (f_running := f_running) (f_interrupted := f_interrupted) (f_regA := f_regA) (f_regB := f_regB) (f_regC := f_regC) (f_savedA := f_savedA) (f_savedB := f_savedB) (f_savedC := f_savedC) (f_operand := f_operand) (f_clock := nI c) (f_faults := f_faults) (a_ops := a_ops) (a_xs := a_xs) (a_ys := a_ys) (a_sizes := a_sizes) (a_address := a_address) (a_bytes := a_bytes) (a_indexAt := a_indexAt) (a_locals := a_locals) (a_states := a_states) (a_priorities := a_priorities) (a_pointers := a_pointers) (a_branches := a_branches) (a_deadlines := a_deadlines) (a_held := a_held) (a_readyLink := a_readyLink) (a_timerLink := a_timerLink) (a_head := a_head) (a_tail := a_tail) (a_writers := a_writers) (a_readers := a_readers) (a_counters := a_counters) hC hL (by omega) ea P
          refine W _ ?_
          obtain ⟨b, ix, en, V⟩ := xe_26 (f_unused := f_unused) (f_constant := f_constant) (f_word := f_word) (f_target := f_target) (f_channel := f_channel) (f_level := f_level) (f_prefix := f_prefix) (f_negate := f_negate) (f_operate := f_operate) (f_disableChannel := f_disableChannel) (f_disableTimer := f_disableTimer) (f_processCount := nI N) (f_channelCount := nI C) (f_sealed := 0) (f_timerHead := f_timerHead) (f_running := f_running) (f_interrupted := f_interrupted) (f_regA := f_regA) (f_regB := f_regB) (f_regC := f_regC) (f_savedA := f_savedA) (f_savedB := f_savedB) (f_savedC := f_savedC) (f_operand := f_operand) (f_clock := nI c) (f_faults := f_faults) (a_ops := a_ops) (a_xs := a_xs) (a_ys := a_ys) (a_sizes := sz) (a_address := adr) (a_locals := a_locals) (a_states := a_states) (a_priorities := a_priorities) (a_pointers := a_pointers) (a_branches := a_branches) (a_deadlines := a_deadlines) (a_held := a_held) (a_readyLink := a_readyLink) (a_timerLink := a_timerLink) (a_head := a_head) (a_tail := a_tail) (a_writers := a_writers) (a_readers := a_readers) (a_counters := a_counters) hL l1 l2 P L 0 (by omega) a_bytes a_indexAt (fun n hn => absurd hn (by omega))
          refine ⟨L + 1, V _ ?_⟩
          refine hY _ ⟨rfl, ?_⟩
          exact zz_in ⟨hN2, hN, hC1, hC, hL, hc⟩ (dy_mono (by omega) (dy_free free H)) (Or.inr ⟨rfl, cd_all hC hL (by omega) l1 l2 l3 P hl en⟩)
        · exact br_t rfl (hX _ (br_t rfl (hY _ ⟨rfl, q⟩)))
      by_cases z6 : a_ops (L - 1) = 6
      · exact done (Or.inl z6)
      · by_cases z9 : a_ops (L - 1) = 9
        · exact done (Or.inr z9)
        · refine br_t rfl (br_f z0 ?_)
          rw [e1, ba_c64 h64]
          refine And.intro (ba_v64 h64) (nm_e (br_f z6 (br_f z9 (br_t rfl ?_))))
          refine br_t rfl (br_f z0 ?_)
          rw [e1, ba_c64 h64]
          exact And.intro (ba_v64 h64) (br_f z6 (And.intro (ba_v64 h64) (br_f z9 ⟨rfl, q⟩)))
  · subst es
    exact br_f (by decide) (br_f (by decide) ⟨rfl, q⟩)
end
section
/-! the constructors -/
theorem cl_m (p : Int32) (lo hi : Nat) (h : lo ≤ hi) (hh : hi < 2 ^ 31) : ∃ m, lo ≤ m ∧ m ≤ hi ∧ (∀ (u : SX) (post : Int32 → Prop), post (nI m) → wpX_clamp post u p (nI lo) (nI hi)) ∧ (∀ (v : SY) (post : Int32 → Prop), post (nI m) → wpY_clamp post v p (nI lo) (nI hi)) := by
  by_cases z : nI lo ≤ p
  · by_cases z2 : p ≤ nI hi
    · have z0 : ¬ p < 0 := fun q => by
        have h1 := nI_pos' (show lo < 2 ^ 31 by omega)
        exact Int32.lt_irrefl (Int32.lt_of_le_of_lt (Int32.le_trans h1 z) q)
      obtain ⟨j, hj, e⟩ := nI_of z0
      subst e
      rw [nI_leI (by omega) hj] at z
      rw [nI_leI hj hh] at z2
      refine ⟨j, z, z2, fun u post K => ?_, fun v post K => ?_⟩
      · obtain ⟨f_unused, f_constant, f_word, f_target, f_channel, f_level, f_prefix, f_negate, f_operate, f_disableChannel, f_disableTimer, f_processCount, f_channelCount, f_length, f_sealed, f_timerHead, f_running, f_interrupted, f_regA, f_regB, f_regC, f_savedA, f_savedB, f_savedC, f_operand, f_clock, f_faults, a_ops, a_xs, a_ys, a_sizes, a_address, a_bytes, a_indexAt, a_locals, a_states, a_priorities, a_pointers, a_branches, a_deadlines, a_held, a_readyLink, a_timerLink, a_head, a_tail, a_writers, a_readers, a_counters⟩ := u
        exact br_t (nI_le z hj) (br_t (nI_le z2 hh) K)
      · obtain ⟨g_length, g_procs, g_chans, g_clock, g_faults, g_sealed, g_nextTicket, b_ops, b_xs, b_ys, b_st, b_prio, b_pos, b_ra, b_rb, b_rc, b_words, b_chan, b_held, b_named, b_wake, b_open, b_guard, b_timer, b_chosen, b_ticket, b_sent, b_received, b_sentFold, b_receivedFold⟩ := v
        exact br_t (nI_le z hj) (br_t (nI_le z2 hh) K)
    · refine ⟨hi, h, Nat.le_refl _, fun u post K => ?_, fun v post K => ?_⟩
      · obtain ⟨f_unused, f_constant, f_word, f_target, f_channel, f_level, f_prefix, f_negate, f_operate, f_disableChannel, f_disableTimer, f_processCount, f_channelCount, f_length, f_sealed, f_timerHead, f_running, f_interrupted, f_regA, f_regB, f_regC, f_savedA, f_savedB, f_savedC, f_operand, f_clock, f_faults, a_ops, a_xs, a_ys, a_sizes, a_address, a_bytes, a_indexAt, a_locals, a_states, a_priorities, a_pointers, a_branches, a_deadlines, a_held, a_readyLink, a_timerLink, a_head, a_tail, a_writers, a_readers, a_counters⟩ := u
        exact br_t z (br_f z2 K)
      · obtain ⟨g_length, g_procs, g_chans, g_clock, g_faults, g_sealed, g_nextTicket, b_ops, b_xs, b_ys, b_st, b_prio, b_pos, b_ra, b_rb, b_rc, b_words, b_chan, b_held, b_named, b_wake, b_open, b_guard, b_timer, b_chosen, b_ticket, b_sent, b_received, b_sentFold, b_receivedFold⟩ := v
        exact br_t z (br_f z2 K)
  · refine ⟨lo, Nat.le_refl _, h, fun u post K => ?_, fun v post K => ?_⟩
    · obtain ⟨f_unused, f_constant, f_word, f_target, f_channel, f_level, f_prefix, f_negate, f_operate, f_disableChannel, f_disableTimer, f_processCount, f_channelCount, f_length, f_sealed, f_timerHead, f_running, f_interrupted, f_regA, f_regB, f_regC, f_savedA, f_savedB, f_savedC, f_operand, f_clock, f_faults, a_ops, a_xs, a_ys, a_sizes, a_address, a_bytes, a_indexAt, a_locals, a_states, a_priorities, a_pointers, a_branches, a_deadlines, a_held, a_readyLink, a_timerLink, a_head, a_tail, a_writers, a_readers, a_counters⟩ := u
      exact br_f z K
    · obtain ⟨g_length, g_procs, g_chans, g_clock, g_faults, g_sealed, g_nextTicket, b_ops, b_xs, b_ys, b_st, b_prio, b_pos, b_ra, b_rb, b_rc, b_words, b_chan, b_held, b_named, b_wake, b_open, b_guard, b_timer, b_chosen, b_ticket, b_sent, b_received, b_sentFold, b_receivedFold⟩ := v
      exact br_f z K
/-- the first k cells hold x -/
def fl_f (k : Nat) (x : Int32) (f : Nat → Int32) : Nat → Int32 := fun j => if j < k then x else f j
theorem fl_0 {x : Int32} {f : Nat → Int32} : fl_f 0 x f = f := by
  funext j
  exact if_neg (by omega)
theorem fl_s {k : Nat} {x : Int32} {f : Nat → Int32} : upd (fl_f k x f) k x = fl_f (k + 1) x f := by
  funext j
  unfold upd fl_f
  by_cases h : j = k
  · rw [if_pos h, if_pos (by omega)]
  · by_cases h2 : j < k
    · rw [if_neg h, if_pos h2, if_pos (by omega)]
    · rw [if_neg h, if_neg h2, if_neg (by omega)]
theorem fl_at {k j : Nat} {x : Int32} {f : Nat → Int32} (h : j < k) : fl_f k x f j = x := if_pos h
section
variable {f_unused f_constant f_word f_target f_channel f_level f_prefix f_negate f_operate f_disableChannel f_disableTimer f_processCount f_channelCount f_length f_sealed f_timerHead f_running f_interrupted f_regA f_regB f_regC f_savedA f_savedB f_savedC f_operand f_clock f_faults : Int32} {a_ops a_xs a_ys a_sizes a_address a_bytes a_indexAt a_locals a_states a_priorities a_pointers a_branches a_deadlines a_held a_readyLink a_timerLink a_head a_tail a_writers a_readers a_counters : Nat → Int32}
theorem xn_299 {post : SX → Prop} (K : post (f_unused, f_constant, f_word, f_target, f_channel, f_level, f_prefix, f_negate, f_operate, f_disableChannel, f_disableTimer, f_processCount, f_channelCount, f_length, f_sealed, f_timerHead, f_running, f_interrupted, f_regA, f_regB, f_regC, f_savedA, f_savedB, f_savedC, f_operand, f_clock, f_faults, a_ops, a_xs, a_ys, a_sizes, a_address, a_bytes, a_indexAt, a_locals, a_states, a_priorities, a_pointers, fl_f 8 (-2) a_branches, fl_f 8 (-1) a_deadlines, a_held, a_readyLink, a_timerLink, a_head, a_tail, fl_f 8 (-1) a_writers, fl_f 8 (-1) a_readers, a_counters)) : ∃ n, wX_init_299 post f_unused f_constant f_word f_target f_channel f_level f_prefix f_negate f_operate f_disableChannel f_disableTimer f_processCount f_channelCount f_length f_sealed f_timerHead f_running f_interrupted f_regA f_regB f_regC f_savedA f_savedB f_savedC f_operand f_clock f_faults n 0 a_ops a_xs a_ys a_sizes a_address a_bytes a_indexAt a_locals a_states a_priorities a_pointers a_branches a_deadlines a_held a_readyLink a_timerLink a_head a_tail a_writers a_readers a_counters := by
  have loop : ∀ d i, i + d = 8 → wX_init_299 post f_unused f_constant f_word f_target f_channel f_level f_prefix f_negate f_operate f_disableChannel f_disableTimer f_processCount f_channelCount f_length f_sealed f_timerHead f_running f_interrupted f_regA f_regB f_regC f_savedA f_savedB f_savedC f_operand f_clock f_faults (d + 1) (nI i) a_ops a_xs a_ys a_sizes a_address a_bytes a_indexAt a_locals a_states a_priorities a_pointers (fl_f i (-2) a_branches) (fl_f i (-1) a_deadlines) a_held a_readyLink a_timerLink a_head a_tail (fl_f i (-1) a_writers) (fl_f i (-1) a_readers) a_counters := by
    intro d
    induction d with
    | zero =>
      intro i hi
      have e : i = 8 := by omega
      subst e
      rw [wX_init_299]
      exact br_t (by decide) K
    | succ d ih =>
      intro i hi
      have h8 : ¬ (8 : Int32) ≤ nI i := ba_8 (by omega)
      have h := ih (i + 1) (by omega)
      rw [wX_init_299]
      simp only [h8, ba_v (show i < 8 by omega), ba_c (show i < 8 by omega), fl_s, nI_1, forall_eq, true_implies, false_implies, not_true_eq_false, not_false_eq_true, and_true, true_and, implies_true]
      exact h
  have h := loop 8 0 rfl
  rw [fl_0, fl_0, fl_0, fl_0] at h
  exact ⟨9, h⟩
end
theorem i_vc0 (k0 : Int32) (k1 : Int32) (k2 : Int32) : wpX_init (fun u => wpY_init (fun v => i_Rel 3 u v) k0 k1 k2) k0 k1 k2 := by
  obtain ⟨N, hN2, hN, X1, Y1⟩ := cl_m k0 2 8 (by decide) (by decide)
  obtain ⟨C, hC1, hC, X2, Y2⟩ := cl_m k1 1 8 (by decide) (by decide)
  obtain ⟨c, _, hc, X3, Y3⟩ := cl_m k2 0 255 (by decide) (by decide)
  have z : ∀ s : Int32, s ≠ 0 → ∀ p : Nat, p < N → ¬ ((fun _ => 0 : Nat → Int32) p = s) := fun s hs p _ e => hs e.symm
  have D0 : rl_dy N C 0 (3 * 1000) c (fun _ => 0) (-1) (-1) 0 0 0 0 0 0 (-1) (fun _ => 0) (fun _ => 0) (fun _ => 0) (fl_f 8 (-2) (fun _ => 0)) (fl_f 8 (-1) (fun _ => 0)) (fun _ => 0) (fun _ => 0) (fun _ => 0) (upd (upd (fun _ => 0) 0 (-1)) 1 (-1)) (fun _ => 0) (fl_f 8 (-1) (fun _ => 0)) (fl_f 8 (-1) (fun _ => 0)) (fun _ => 0) 0 (fun _ => 0) (fun _ => 0) (fun _ => 0) (fun _ => 0) (fun _ => 0) (fun _ => 0) (fun _ => 0) (fun _ => 0) (fun _ => 0) (fun _ => 0) (fun _ => 0) (fun _ => 0) (fun _ => 0) (fun _ => 0) (fun _ => 0) (fun _ => 0) (fun _ => 0) := by
    have n1 : ¬ (0 : Int32) = 1 := by decide
    have n2 : ¬ (0 : Int32) = 2 := by decide
    have n3 : ¬ (0 : Int32) = 3 := by decide
    have n4 : ¬ (0 : Int32) = 4 := by decide
    have n5 : ¬ (0 : Int32) = 5 := by decide
    have n6 : ¬ (0 : Int32) = 6 := by decide
    have n7 : ¬ (0 : Int32) = 7 := by decide
    refine ⟨⟨ow_none (z 1 (by decide)), ow_none (z 2 (by decide)), fun p _ e => (n1 e).elim, fun p _ e => (n2 e).elim, fun p _ _ _ => ⟨rfl, rfl, rfl⟩, fun p q _ _ e => (n1 e).elim⟩, ?_, ?_, ?_, fun p _ e => absurd rfl e, ?_, fun p _ => ⟨fun e => (n4 e).elim, fun e => (n5 e).elim⟩, fun c _ => ⟨rfl, rfl, rfl, rfl⟩, fun p => Or.inl rfl⟩
    · refine ⟨fun _ => 0, 0, rfl, by omega, fun p => ⟨rfl, Nat.le_refl _⟩, fun p _ e => (n3 e).elim, fun k hk => ⟨[], fun p => ⟨fun e => absurd e List.not_mem_nil, fun e => (n3 e.2.1).elim⟩, List.Pairwise.nil, ?_, fun m p e => absurd e (by simp)⟩⟩
      show upd (upd (fun _ => 0) 0 (-1)) 1 (-1) k = -1
      have hk2 : k = 0 ∨ k = 1 := by omega
      rcases hk2 with rfl | rfl
      · rw [pk_un (by decide), pk_us]
      · rw [pk_us]
    · refine ⟨[], fun p => ⟨fun e => absurd e List.not_mem_nil, fun e => ?_⟩, List.Pairwise.nil, fun p e => absurd e List.not_mem_nil, rfl⟩
      rcases e.2 with e | e
      · exact (n6 e).elim
      · exact (n7 e.1).elim
    · intro c hc
      rw [fl_at (by omega)]
      exact ⟨ow_none (fun p _ e => n4 e.1), ow_none (fun p _ e => e.elim (fun e => n5 e.1) (fun e => e.1 rfl))⟩
    · intro p hp
      rw [fl_at (by omega), fl_at (by omega)]
      exact Or.inl ⟨rfl, rfl, n7, fun e => (n6 e).elim, fun _ => rfl⟩
  unfold wpX_init
  refine X1 _ _ (X2 _ _ (X3 _ _ (nm_e (nm_e (xn_299 ?_)))))
  unfold wpY_init
  refine Y1 _ _ (Y2 _ _ (Y3 _ _ ?_))
  exact zz_in (L := 0) (ad := fun _ => 0) ⟨hN2, hN, hC1, hC, by omega, by omega⟩ D0 (Or.inl ⟨rfl, rfl, fun p _ => rfl, fun i hi => absurd hi (by omega)⟩)
end
