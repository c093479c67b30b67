section
/-! pure rows to paste: stores, nI and lN arithmetic, masks, shifts, narrowing, branches by naturals (pk_le, pk_lt, pk_eq), loops (lp1 .. lp16: the measure of the state; rp1 ..: recursion), negatives. Take what you need -/
theorem pk_us {f : Nat → Int32} {k : Nat} {x : Int32} : upd f k x k = x := if_pos rfl
theorem pk_un {f : Nat → Int32} {k j : Nat} {x : Int32} (h : j ≠ k) : upd f k x j = f j := if_neg h
theorem pk_uLs {f : Nat → Int64} {k : Nat} {x : Int64} : vp_updL f k x k = x := if_pos rfl
theorem pk_uLn {f : Nat → Int64} {k j : Nat} {x : Int64} (h : j ≠ k) : vp_updL f k x j = f j := if_neg h
theorem pk_sub {a b : Nat} (h : b ≤ a) : nI a - nI b = nI (a - b) := by
  obtain ⟨c, rfl⟩ : ∃ c, a = c + b := ⟨a - b, by omega⟩
  rw [← nI_add, Int32.add_sub_cancel, Nat.add_sub_cancel]
theorem pk_m1 (n : Nat) : nI (n + 1) + (-1) = nI n := by
  rw [← nI_1, Int32.add_assoc, show (1 : Int32) + (-1) = 0 from rfl, Int32.add_zero]
theorem pk_mul (a b : Nat) : nI a * nI b = nI (a * b) := (Int32.ofNat_mul a b).symm
theorem pk_div {a d : Nat} (ha : a < 2 ^ 31) (h0 : 0 < d) (hd : d < 2 ^ 31) : nI a / nI d = nI (a / d) := by
  apply Int32.toInt_inj.mp
  rw [lg_idiv_nonneg (by rw [nI_toInt ha]; omega) (by rw [nI_toInt hd]; omega), nI_toInt ha, nI_toInt hd, nI_toInt (Nat.lt_of_le_of_lt (Nat.div_le_self a d) ha)]
  first | rfl | exact (Int.natCast_ediv _ _).symm
theorem pk_rem {a d : Nat} (ha : a < 2 ^ 31) (h0 : 0 < d) (hd : d < 2 ^ 31) : nI a - nI a / nI d * nI d = nI (a % d) := by
  rw [pk_div ha h0 hd, pk_mul, pk_sub (Nat.div_mul_le_self a d)]
  exact congrArg nI (by have := Nat.div_add_mod' a d; omega)
theorem pk_sub_toInt {a b : Nat} (ha : a < 2 ^ 30) (hb : b < 2 ^ 30) : (nI a - nI b).toInt = (a : Int) - b := by
  rw [Int32.toInt_sub, nI_toInt (by omega), nI_toInt (by omega)]
  exact Int.bmod_eq_of_le (by omega) (by omega)
theorem pk_sneg {a b : Nat} (hb : b < 2 ^ 30) (h : a < b) : nI a - nI b < 0 := by
  rw [Int32.lt_iff_toInt_lt, pk_sub_toInt (by omega) hb, show (0 : Int32).toInt = 0 from by decide]
  omega
theorem pk_ix (x : Int32) {n : Nat} (hn : n < 2 ^ 31) : x < 0 ∨ nI n ≤ x ∨ ∃ j : Nat, j < n ∧ x = nI j := by
  by_cases h : x < 0
  · exact Or.inl h
  · obtain ⟨j, hj, rfl⟩ := nI_of h
    by_cases h2 : j < n
    · exact Or.inr (Or.inr ⟨j, h2, rfl⟩)
    · exact Or.inr (Or.inl (nI_le (by omega) hj))
theorem pk_le {x y : Int32} {A B : Prop} (a b : Nat) (f : a ≤ b → A) (g : b < a → B) (hx : x = nI a := by rfl) (hy : y = nI b := by rfl) (ha : a < 2 ^ 31 := by omega) (hb : b < 2 ^ 31 := by omega) : (x ≤ y → A) ∧ (¬ x ≤ y → B) := by
  subst hx hy
  rw [nI_leI ha hb]
  exact ⟨f, fun z => g (by omega)⟩
theorem pk_lt {x y : Int32} {A B : Prop} (a b : Nat) (f : a < b → A) (g : b ≤ a → B) (hx : x = nI a := by rfl) (hy : y = nI b := by rfl) (ha : a < 2 ^ 31 := by omega) (hb : b < 2 ^ 31 := by omega) : (x < y → A) ∧ (¬ x < y → B) := by
  subst hx hy
  rw [nI_ltI ha hb]
  exact ⟨f, fun z => g (by omega)⟩
theorem pk_eq {x y : Int32} {A B : Prop} (a b : Nat) (f : a = b → A) (g : a ≠ b → B) (hx : x = nI a := by rfl) (hy : y = nI b := by rfl) (ha : a < 2 ^ 31 := by omega) (hb : b < 2 ^ 31 := by omega) : (x = y → A) ∧ (¬ x = y → B) := by
  subst hx hy
  rw [nI_eq ha hb]
  exact ⟨f, g⟩
theorem pk_in {x : Int32} (n N : Nat) (h : n < N) (hx : x = nI n := by rfl) (hN : N < 2 ^ 31 := by omega) : vp_in x N := by
  subst hx
  exact vp_in_nI h hN
theorem pk_cl {x : Int32} (n : Nat) (hx : x = nI n := by rfl) (h : n < 2 ^ 31 := by omega) : x.toNatClampNeg = n := by
  subst hx
  exact nI_clamp h
theorem pk_tn {n : Nat} (h : n < 2 ^ 32) : (nI n).toBitVec.toNat = n := Nat.mod_eq_of_lt h
theorem pk_and (x : Int32) {m : Int32} (k : Nat) (hm : m.toBitVec.toNat = 2 ^ k - 1) : x &&& m = nI (x.toBitVec.toNat % 2 ^ k) := by
  apply Int32.toBitVec_inj.mp
  apply BitVec.eq_of_toNat_eq
  rw [Int32.toBitVec_and, BitVec.toNat_and, hm, Nat.and_two_pow_sub_one_eq_mod]
  show _ = (BitVec.ofNat 32 _).toNat
  rw [BitVec.toNat_ofNat]
  exact (Nat.mod_eq_of_lt (Nat.lt_of_le_of_lt (Nat.mod_le _ _) x.toBitVec.isLt)).symm
theorem pk_andN {n : Nat} (h : n < 2 ^ 32) {m : Int32} (k : Nat) (hm : m.toBitVec.toNat = 2 ^ k - 1) : nI n &&& m = nI (n % 2 ^ k) := by
  rw [pk_and _ k hm, pk_tn h]
theorem pk_andE (x : Int32) {m : Int32} (k : Nat) (hm : m.toBitVec.toNat = 2 ^ k - 1) : ∃ j : Nat, j < 2 ^ k ∧ x &&& m = nI j := ⟨_, Nat.mod_lt _ (Nat.two_pow_pos k), pk_and x k hm⟩
theorem pk_andIn (x : Int32) {m : Int32} (k : Nat) (hm : m.toBitVec.toNat = 2 ^ k - 1) (hk : k ≤ 30) : vp_in (x &&& m) (2 ^ k) := by
  obtain ⟨j, hj, e⟩ := pk_andE x k hm
  rw [e]
  exact vp_in_nI hj (Nat.lt_of_le_of_lt (Nat.pow_le_pow_right (by decide) hk) (by decide))
theorem pk_shl (a s : Int32) (k : Nat) (hs : (s.toBitVec.smod 32).toNat = k) : (a <<< s).toBitVec.toNat = a.toBitVec.toNat * 2 ^ k % 2 ^ 32 := by
  show (a.toBitVec <<< (s.toBitVec.smod 32).toNat).toNat = _
  rw [hs, BitVec.toNat_shiftLeft, Nat.shiftLeft_eq]
theorem pk_shlN {n : Nat} (s : Int32) (k : Nat) (hs : (s.toBitVec.smod 32).toNat = k) (h : n * 2 ^ k < 2 ^ 32) : nI n <<< s = nI (n * 2 ^ k) := by
  apply Int32.toBitVec_inj.mp
  apply BitVec.eq_of_toNat_eq
  have hn : n < 2 ^ 32 := Nat.lt_of_le_of_lt (Nat.le_mul_of_pos_right n (Nat.two_pow_pos k)) h
  rw [pk_shl _ _ k hs, pk_tn hn, pk_tn h, Nat.mod_eq_of_lt h]
theorem pk_shr (a s : Int32) (k : Nat) (hs : (s.toBitVec.smod 32).toNat = k) : (a >>> s).toInt = a.toInt >>> k := by
  show (a.toBitVec.sshiftRight (s.toBitVec.smod 32).toNat).toInt = _
  rw [hs, BitVec.toInt_sshiftRight]
  rfl
theorem pk_shrN {n : Nat} (h : n < 2 ^ 31) (s : Int32) (k : Nat) (hs : (s.toBitVec.smod 32).toNat = k) : nI n >>> s = nI (n / 2 ^ k) := by
  apply Int32.toInt_inj.mp
  have h2 : n / 2 ^ k ≤ n := Nat.div_le_self _ _
  rw [pk_shr _ _ k hs, nI_toInt h, nI_toInt (by omega), Int.shiftRight_eq_div_pow]
  rfl
theorem pk_ushr (x s : Int32) (k : Nat) (hs : ((s.toUInt32 &&& Int32.toUInt32 31).toBitVec % 32).toNat = k) : (x.toUInt32 >>> (s.toUInt32 &&& Int32.toUInt32 31)).toInt32.toBitVec.toNat = x.toBitVec.toNat / 2 ^ k := by
  have e : (x.toUInt32 >>> (s.toUInt32 &&& Int32.toUInt32 31)).toInt32.toBitVec = x.toBitVec >>> k := by
    rw [← hs]
    exact UInt32.toBitVec_shiftRight _ _
  rw [e, BitVec.toNat_ushiftRight, Nat.shiftRight_eq_div_pow]
theorem pk_ushrN {n : Nat} (hn : n < 2 ^ 32) (s : Int32) (k : Nat) (hs : ((s.toUInt32 &&& Int32.toUInt32 31).toBitVec % 32).toNat = k) : ((nI n).toUInt32 >>> (s.toUInt32 &&& Int32.toUInt32 31)).toInt32 = nI (n / 2 ^ k) := by
  apply Int32.toBitVec_inj.mp
  apply BitVec.eq_of_toNat_eq
  rw [pk_ushr _ s k hs, pk_tn hn, pk_tn (Nat.lt_of_le_of_lt (Nat.div_le_self _ _) hn)]
theorem pk_nb (z : Int32) : narrow .byte (.int z.toInt8.toInt32) = .int z.toInt8.toInt32 := congrArg Value.int (by simp)
theorem pk_ns (z : Int32) : narrow .short (.int z.toInt16.toInt32) = .int z.toInt16.toInt32 := congrArg Value.int (by simp)
theorem pk_fb (r : Int32) : fits .byte (.int r.toInt8.toInt32) = true := by
  have ⟨a, b⟩ := lg_i2b_range r
  have h1 : (-128 : Int32).toInt = -128 := by decide
  have h2 : (127 : Int32).toInt = 127 := by decide
  simp only [fits, Bool.and_eq_true, decide_eq_true_eq, Int32.le_iff_toInt_le, h1, h2]
  omega
theorem pk_fs (r : Int32) : fits .short (.int r.toInt16.toInt32) = true := by
  have ⟨a, b⟩ := lg_i2s_range r
  have h1 : (-32768 : Int32).toInt = -32768 := by decide
  have h2 : (32767 : Int32).toInt = 32767 := by decide
  simp only [fits, Bool.and_eq_true, decide_eq_true_eq, Int32.le_iff_toInt_le, h1, h2]
  omega
theorem pk_charN {q : Nat} (hq : q < 65536) : narrow .char (.int (nI q)) = .int (nI q) ∧ fits .char (.int (nI q)) = true := by
  constructor
  · have e : (nI q).toUInt32.toUInt16.toUInt32.toInt32 = nI q := by
      apply Int32.toBitVec_inj.mp
      apply BitVec.eq_of_toNat_eq
      show (nI q).toUInt32.toUInt16.toUInt32.toNat = q % 2 ^ 32
      rw [UInt16.toNat_toUInt32, UInt32.toNat_toUInt16, show (nI q).toUInt32.toNat = q % 2 ^ 32 from rfl]
      omega
    exact congrArg Value.int e
  · have a : (0 : Int32) ≤ nI q := nI_pos' (by omega)
    have b : nI q ≤ 65535 := nI_le (b := 65535) (by omega) (by decide)
    show (decide ((0 : Int32) ≤ nI q) && decide (nI q ≤ 65535)) = true
    rw [decide_eq_true a, decide_eq_true b]
    rfl
theorem pk_char (x : Int32) : (x.toUInt32 % 65536).toInt32 = nI (x.toBitVec.toNat % 65536) := by
  apply Int32.toBitVec_inj.mp
  apply BitVec.eq_of_toNat_eq
  rw [pk_tn (by omega)]
  show (x.toUInt32 % 65536).toNat = _
  rw [UInt32.toNat_mod]
  rfl
theorem pk_nc (x : Int32) : narrow .char (.int (x.toUInt32 % 65536).toInt32) = .int (x.toUInt32 % 65536).toInt32 := by
  rw [pk_char]
  exact (pk_charN (Nat.mod_lt _ (by decide))).1
theorem pk_fc (x : Int32) : fits .char (.int (x.toUInt32 % 65536).toInt32) = true := by
  rw [pk_char]
  exact (pk_charN (Nat.mod_lt _ (by decide))).2
theorem pk_vb (z : Int32) : vp_nar .byte z.toInt8.toInt32 = z.toInt8.toInt32 := by rw [vp_nar_byte]; simp
theorem pk_vs (z : Int32) : vp_nar .short z.toInt16.toInt32 = z.toInt16.toInt32 := by rw [vp_nar_short]; simp
theorem pk_vc (z : Int32) : vp_nar .char (z.toUInt32 % 65536).toInt32 = (z.toUInt32 % 65536).toInt32 := Value.int.inj (pk_nc z)
theorem pk_lT {n : Nat} (h : n < 2 ^ 63) : (lN n).toInt = (n : Int) := lg_ofNat_toInt h
theorem pk_lLT {a b : Nat} (ha : a < 2 ^ 63) (hb : b < 2 ^ 63) : lN a < lN b ↔ a < b := by
  rw [Int64.lt_iff_toInt_lt, pk_lT ha, pk_lT hb]; omega
theorem pk_lLE {a b : Nat} (ha : a < 2 ^ 63) (hb : b < 2 ^ 63) : lN a ≤ lN b ↔ a ≤ b := by
  rw [Int64.le_iff_toInt_le, pk_lT ha, pk_lT hb]; omega
theorem pk_lEQ {a b : Nat} (ha : a < 2 ^ 63) (hb : b < 2 ^ 63) : lN a = lN b ↔ a = b := by
  rw [← Int64.toInt_inj, pk_lT ha, pk_lT hb]; omega
theorem pk_lOf {x : Int64} (h : ¬ x < 0) : ∃ k : Nat, k < 2 ^ 63 ∧ x = lN k := by
  rw [Int64.lt_iff_toInt_lt] at h
  have h0 : (0 : Int64).toInt = 0 := by decide
  have hx := Int64.toInt_lt x
  refine ⟨x.toInt.toNat, by omega, Int64.toInt_inj.mp ?_⟩
  rw [pk_lT (by omega)]
  omega
theorem pk_lDiv {a b : Nat} (ha : a < 2 ^ 63) (h0 : 0 < b) (hb : b < 2 ^ 63) : lN a / lN b = lN (a / b) := by
  apply Int64.toInt_inj.mp
  rw [lg_ldiv_nonneg (by rw [pk_lT ha]; omega) (by rw [pk_lT hb]; omega), pk_lT ha, pk_lT hb, pk_lT (Nat.lt_of_le_of_lt (Nat.div_le_self a b) ha)]
  rfl
theorem pk_lRem {a b : Nat} (ha : a < 2 ^ 63) (h0 : 0 < b) (hb : b < 2 ^ 63) : lN a - lN a / lN b * lN b = lN (a % b) := by
  rw [pk_lDiv ha h0 hb, lN_mul, lN_sub (Nat.div_mul_le_self a b)]
  exact congrArg lN (by have := Nat.div_add_mod' a b; omega)
theorem pk_loop {σ : Type} (W : Nat → Nat → σ → Prop) (I : Nat → σ → Prop) (e i0 : Nat) (s : σ) (hi : i0 ≤ e) (h0 : I i0 s) (hx : ∀ n s, I e s → W (n + 1) e s)
    (hs : ∀ n i s, i < e → I i s → (∀ s', I (i + 1) s' → W n (i + 1) s') → W (n + 1) i s) : ∃ n, W n i0 s :=
  ⟨e + 1, loop_i W I e hx hs (e + 1) i0 s hi (by omega) h0⟩
theorem pk_loopD {σ : Type} (W : Nat → Nat → σ → Prop) (I : Nat → σ → Prop) (hx : ∀ n s, I 0 s → W (n + 1) 0 s)
    (hs : ∀ n i s, I (i + 1) s → (∀ s', I i s' → W n i s') → W (n + 1) (i + 1) s) : ∀ (e : Nat) (s : σ), I e s → W (e + 1) e s := by
  intro e
  induction e with
  | zero => exact fun s h => hx 0 s h
  | succ e ih => exact fun s h => hs (e + 1) e s h (fun s' h' => ih s' h')
/-! rows on bits, shifts and unsigned numbers, to paste: each family out of a closed proof of our own, whole with what it rests on; each by itself clean at Lean in its own claim (generation 39, form 5). Take a family whole -/
/-! ===== Int32 by its bits: bt x i ===== -/
def bt (x : Int32) (i : Nat) : Bool := x.toBitVec.getLsbD i
theorem b_ext {x y : Int32} (h : ∀ i, i < 32 → bt x i = bt y i) : x = y := Int32.toBitVec_inj.mp (BitVec.eq_of_getLsbD_eq (fun i hi => h i hi))
theorem b_or (x y : Int32) (i : Nat) : bt (x ||| y) i = (bt x i || bt y i) := by unfold bt; rw [Int32.toBitVec_or, BitVec.getLsbD_or]
theorem b_and (x y : Int32) (i : Nat) : bt (x &&& y) i = (bt x i && bt y i) := by unfold bt; rw [Int32.toBitVec_and, BitVec.getLsbD_and]
theorem b_xor (x y : Int32) (i : Nat) : bt (x ^^^ y) i = (bt x i ^^ bt y i) := by unfold bt; rw [Int32.toBitVec_xor, BitVec.getLsbD_xor]
theorem b_big {x : Int32} {i : Nat} (h : 32 ≤ i) : bt x i = false := BitVec.getLsbD_of_ge _ _ h
theorem b_255 (i : Nat) : bt 255 i = decide (i < 8) := by
  rcases Nat.lt_or_ge i 32 with h | h
  · exact (by decide +kernel : ∀ i, i < 32 → bt 255 i = decide (i < 8)) i h
  · rw [b_big h, decide_eq_false (by omega)]
theorem b_65535 (i : Nat) : bt 65535 i = decide (i < 16) := by
  rcases Nat.lt_or_ge i 32 with h | h
  · exact (by decide +kernel : ∀ i, i < 32 → bt 65535 i = decide (i < 16)) i h
  · rw [b_big h, decide_eq_false (by omega)]
theorem b_m1 : ∀ i, i < 32 → bt (-1) i = true := by decide +kernel
theorem b_0 (i : Nat) : bt 0 i = false := BitVec.getLsbD_zero
theorem s_l : ∀ n, n < 32 → ((nI n &&& 31).toBitVec.smod 32).toNat = n := by decide +kernel
theorem s_u : ∀ n, n < 32 → (((nI n).toUInt32 &&& Int32.toUInt32 31).toBitVec % 32).toNat = n := by decide +kernel
theorem b_shl (n : Nat) (hn : n < 32) (x : Int32) {i : Nat} (hi : i < 32) : bt (x <<< (nI n &&& 31)) i = (decide (n ≤ i) && bt x (i - n)) := by
  unfold bt
  rw [Int32.toBitVec_shiftLeft]
  show (x.toBitVec <<< ((nI n &&& 31).toBitVec.smod 32).toNat).getLsbD i = _
  rw [s_l n hn, BitVec.getLsbD_shiftLeft]
  rcases Nat.lt_or_ge i n with h | h
  · simp [h, Nat.not_le.mpr h]
  · simp [hi, h, Nat.not_lt.mpr h]
theorem b_ushr (n : Nat) (hn : n < 32) (x : Int32) (i : Nat) : bt ((x.toUInt32 >>> ((nI n).toUInt32 &&& Int32.toUInt32 31)).toInt32) i = bt x (n + i) := by
  show (x.toUInt32 >>> ((nI n).toUInt32 &&& Int32.toUInt32 31)).toBitVec.getLsbD i = x.toUInt32.toBitVec.getLsbD (n + i)
  rw [UInt32.toBitVec_shiftRight]
  show (x.toUInt32.toBitVec >>> (((nI n).toUInt32 &&& Int32.toUInt32 31).toBitVec % 32).toNat).getLsbD i = _
  rw [s_u n hn, BitVec.getLsbD_ushiftRight]
theorem b_sshr (n : Nat) (hn : n < 32) (x : Int32) {i : Nat} (hi : i < 32) : bt (x >>> (nI n &&& 31)) i = if n + i < 32 then bt x (n + i) else bt x 31 := by
  unfold bt
  rw [Int32.toBitVec_shiftRight]
  show (x.toBitVec.sshiftRight ((nI n &&& 31).toBitVec.smod 32).toNat).getLsbD i = _
  rw [s_l n hn, BitVec.getLsbD_sshiftRight, BitVec.msb_eq_getLsbD_last]
  simp [hi]
theorem b_shl8 (x : Int32) {i : Nat} (hi : i < 32) : bt (x <<< ((8 : Int32) &&& 31)) i = (decide (8 ≤ i) && bt x (i - 8)) := b_shl 8 (by omega) x hi
theorem b_shl16 (x : Int32) {i : Nat} (hi : i < 32) : bt (x <<< ((16 : Int32) &&& 31)) i = (decide (16 ≤ i) && bt x (i - 16)) := b_shl 16 (by omega) x hi
theorem b_shl24 (x : Int32) {i : Nat} (hi : i < 32) : bt (x <<< ((24 : Int32) &&& 31)) i = (decide (24 ≤ i) && bt x (i - 24)) := b_shl 24 (by omega) x hi
theorem b_sshr8 (x : Int32) {i : Nat} (hi : i < 32) : bt (x >>> ((8 : Int32) &&& 31)) i = if 8 + i < 32 then bt x (8 + i) else bt x 31 := b_sshr 8 (by omega) x hi
end
section
def th_s (f : Nat → Nat) : Nat → Nat
  | 0 => 0
  | n + 1 => th_s f n + f n
theorem th_s_congr {f g : Nat → Nat} : ∀ n, (∀ k, k < n → f k = g k) → th_s f n = th_s g n
  | 0, _ => rfl
  | n + 1, h => by
    rw [th_s, th_s, th_s_congr n (fun k hk => h k (by omega)), h n (by omega)]
theorem th_s_le {f g : Nat → Nat} : ∀ n, (∀ k, k < n → f k ≤ g k) → th_s f n ≤ th_s g n
  | 0, _ => Nat.le_refl _
  | n + 1, h => by
    have a := th_s_le n (fun k hk => h k (by omega))
    have b := h n (by omega)
    show th_s f n + f n ≤ th_s g n + g n
    omega
theorem th_s_add (f g : Nat → Nat) : ∀ n, th_s (fun k => f k + g k) n = th_s f n + th_s g n
  | 0 => rfl
  | n + 1 => by
    have a := th_s_add f g n
    show th_s (fun k => f k + g k) n + (f n + g n) = (th_s f n + f n) + (th_s g n + g n)
    omega
theorem th_s_zero {f : Nat → Nat} : ∀ n, (∀ k, k < n → f k = 0) → th_s f n = 0
  | 0, _ => rfl
  | n + 1, h => by
    rw [th_s, th_s_zero n (fun k hk => h k (by omega)), h n (by omega)]
theorem th_s_pos {f : Nat → Nat} : ∀ n, th_s f n = 0 → ∀ k, k < n → f k = 0
  | 0, _, k, hk => by omega
  | n + 1, h, k, hk => by
    have h' : th_s f n + f n = 0 := h
    rcases Nat.lt_or_ge k n with z | z
    · exact th_s_pos n (by omega) k z
    · have : k = n := by omega
      subst this
      omega
theorem th_s_pt {f g : Nat → Nat} {j : Nat} : ∀ n, j < n → (∀ k, k < n → k ≠ j → g k = f k) → th_s g n + f j = th_s f n + g j
  | 0, h, _ => by omega
  | n + 1, h, e => by
    show th_s g n + g n + f j = th_s f n + f n + g j
    rcases Nat.lt_or_ge j n with z | z
    · have a := th_s_pt n z (fun k hk hn => e k (by omega) hn)
      have b := e n (by omega) (by omega)
      omega
    · have : j = n := by omega
      subst this
      have a := th_s_congr (f := g) (g := f) j (fun k hk => e k (by omega) (by omega))
      omega
theorem th_s_mul (c : Nat) (f : Nat → Nat) : ∀ n, th_s (fun k => c * f k) n = c * th_s f n
  | 0 => rfl
  | n + 1 => by
    show th_s (fun k => c * f k) n + c * f n = c * (th_s f n + f n)
    rw [th_s_mul c f n, Nat.mul_add]
theorem th_s_const (c : Nat) : ∀ n, th_s (fun _ => c) n = n * c
  | 0 => by rw [Nat.zero_mul]; rfl
  | n + 1 => by
    show th_s (fun _ => c) n + c = (n + 1) * c
    rw [th_s_const c n, Nat.add_mul, Nat.one_mul]
theorem th_s_swap (f : Nat → Nat → Nat) (m : Nat) : ∀ n, th_s (fun i => th_s (fun j => f i j) m) n = th_s (fun j => th_s (fun i => f i j) n) m
  | 0 => (th_s_zero m (fun _ _ => rfl)).symm
  | n + 1 => by
    show th_s (fun i => th_s (fun j => f i j) m) n + th_s (fun j => f n j) m = th_s (fun j => th_s (fun i => f i j) n + f n j) m
    rw [th_s_add, th_s_swap f m n]
theorem th_s_one {j a : Nat} : ∀ n, j < n → th_s (fun k => if k = j then a else 0) n = a
  | 0, h => by omega
  | n + 1, h => by
    show th_s (fun k => if k = j then a else 0) n + (if n = j then a else 0) = a
    rcases Nat.lt_or_ge j n with z | z
    · rw [th_s_one n z, if_neg (by omega), Nat.add_zero]
    · have : j = n := by omega
      subst this
      rw [if_pos rfl, th_s_zero j (fun k hk => if_neg (by omega))]
      omega
def th_cd (v : Nat → Nat) : Nat → Nat
  | 0 => 0
  | k + 1 => th_cd v k * 16 + v k
def th_lk (t : Nat → Nat) : Nat → Nat → Nat
  | 0, _ => 0
  | k + 1, c => th_lk t k (c / 16) + (c % 16 - t k)
def th_all (p : Nat → Nat → Bool) : Nat → Nat → Bool
  | 0, _ => true
  | k + 1, c => p k (c % 16) && th_all p k (c / 16)
theorem th_dm {a b : Nat} (h : b < 16) : (a * 16 + b) / 16 = a ∧ (a * 16 + b) % 16 = b := by omega
theorem th_cd_congr {v w : Nat → Nat} : ∀ k, (∀ j, j < k → v j = w j) → th_cd v k = th_cd w k
  | 0, _ => rfl
  | k + 1, h => by
    rw [th_cd, th_cd, th_cd_congr k (fun j hj => h j (by omega)), h k (by omega)]
theorem th_lk_cd (t v : Nat → Nat) : ∀ k, (∀ j, j < k → v j < 16) → th_lk t k (th_cd v k) = th_s (fun j => v j - t j) k
  | 0, _ => rfl
  | k + 1, h => by
    have d := th_dm (a := th_cd v k) (h k (by omega))
    show th_lk t k ((th_cd v k * 16 + v k) / 16) + ((th_cd v k * 16 + v k) % 16 - t k) = th_s (fun j => v j - t j) k + (v k - t k)
    rw [d.1, d.2, th_lk_cd t v k (fun j hj => h j (by omega))]
theorem th_all_cd (p : Nat → Nat → Bool) (v : Nat → Nat) : ∀ k, (∀ j, j < k → v j < 16) → (th_all p k (th_cd v k) = true ↔ ∀ j, j < k → p j (v j) = true)
  | 0, _ => ⟨fun _ j hj => absurd hj (Nat.not_lt_zero j), fun _ => rfl⟩
  | k + 1, h => by
    have d := th_dm (a := th_cd v k) (h k (by omega))
    show (p k ((th_cd v k * 16 + v k) % 16) && th_all p k ((th_cd v k * 16 + v k) / 16)) = true ↔ _
    rw [d.1, d.2, Bool.and_eq_true, th_all_cd p v k (fun j hj => h j (by omega))]
    constructor
    · rintro ⟨a, b⟩ j hj
      rcases Nat.lt_or_ge j k with z | z
      · exact b j z
      · have : j = k := by omega
        subst this
        exact a
    · intro a
      exact ⟨a k (by omega), fun j hj => a j (by omega)⟩
theorem th_dg_cd (v : Nat → Nat) : ∀ k, (∀ j, j < k → v j < 16) → ∀ i, i < k → th_cd v k / 16 ^ i % 16 = v (k - 1 - i)
  | 0, _, i, hi => by omega
  | k + 1, h, i, hi => by
    have d := th_dm (a := th_cd v k) (h k (by omega))
    show (th_cd v k * 16 + v k) / 16 ^ i % 16 = v (k + 1 - 1 - i)
    rcases i with _ | i
    · rw [Nat.pow_zero, Nat.div_one, d.2]
      rfl
    · rw [Nat.pow_succ, Nat.mul_comm (16 ^ i) 16, ← Nat.div_div_eq_div_mul, d.1, th_dg_cd v k (fun j hj => h j (by omega)) i (by omega)]
      congr 1
      omega
def th_ok (s k c : Nat) : Bool := (Nat.beq (c / 4) 0 || Nat.ble k 4) && (Nat.ble (s % 10 / 2 + c / 4 + c / 2 % 2) 3 && Nat.ble (s % 2 + c % 2) 1)
def th_to (s c : Nat) : Nat := 50 * (c / 4) + 10 * (s / 50) + 2 * (s % 10 / 2 + c / 4 + c / 2 % 2) + (s % 2 + c % 2)
def th_nd (s c : Nat) : Nat := s / 50 + s % 50 / 10 + c / 4 + 3 * (c / 2 % 2) + 2 * (c % 2)
theorem th_ok_iff {s k c : Nat} : th_ok s k c = true ↔ (c / 4 = 0 ∨ k ≤ 4) ∧ s % 10 / 2 + c / 4 + c / 2 % 2 ≤ 3 ∧ s % 2 + c % 2 ≤ 1 := by
  unfold th_ok
  simp only [Bool.and_eq_true, Bool.or_eq_true, Nat.beq_eq, Nat.ble_eq]
theorem th_to_lt {s k c : Nat} (hs : s < 250) (hc : c < 20) (h : th_ok s k c = true) : th_to s c < 250 := by
  have h := th_ok_iff.mp h
  unfold th_to
  omega
theorem th_nd_lt {s c : Nat} (hs : s < 250) (hc : c < 20) : th_nd s c < 32 := by
  unfold th_nd
  omega
def th_step (k : Nat) (e : Nat × Nat) : List (Nat × Nat) :=
  ((List.range 20).filter (fun c => th_ok e.1 k c && Nat.ble (th_nd e.1 c) 4)).map (fun c => (th_to e.1 c, e.2 * 16 + th_nd e.1 c))
def th_P : Nat → List (Nat × Nat)
  | 0 => [(0, 0)]
  | k + 1 => (th_P k).flatMap (th_step k)
theorem th_P_mem {k s' w : Nat} : (s', w) ∈ th_P (k + 1) ↔ ∃ s c x, (s, c) ∈ th_P k ∧ x < 20 ∧ th_ok s k x = true ∧ th_nd s x ≤ 4 ∧ s' = th_to s x ∧ w = c * 16 + th_nd s x := by
  simp only [th_P, List.mem_flatMap, th_step, List.mem_map, List.mem_filter, List.mem_range, Bool.and_eq_true, Nat.ble_eq, Prod.mk.injEq]
  constructor
  · rintro ⟨⟨s, c⟩, h, x, ⟨hx, h1, h2⟩, e1, e2⟩
    exact ⟨s, c, x, h, hx, h1, h2, e1.symm, e2.symm⟩
  · rintro ⟨s, c, x, h, hx, h1, h2, e1, e2⟩
    exact ⟨(s, c), h, x, ⟨hx, h1, h2⟩, e1.symm, e2.symm⟩
theorem th_P_lt : ∀ k s w, (s, w) ∈ th_P k → s < 250
  | 0, s, w, h => by
    have h' : (s, w) = (0, 0) := List.mem_singleton.mp h
    have := congrArg Prod.fst h'
    dsimp only at this
    omega
  | k + 1, s', w, h => by
    obtain ⟨s, c, x, h, hx, h1, h2, e1, e2⟩ := th_P_mem.mp h
    rw [e1]
    exact th_to_lt (th_P_lt k s c h) hx h1
theorem th_P_lk (t : Nat → Nat) : ∀ k s w, (s, w) ∈ th_P k → th_lk t k w ≤ 4 * k
  | 0, s, w, _ => Nat.le_refl _
  | k + 1, s', w, h => by
    obtain ⟨s, c, x, h, hx, h1, h2, e1, e2⟩ := th_P_mem.mp h
    have a := th_P_lk t k s c h
    have d := th_dm (a := c) (b := th_nd s x) (by omega)
    show th_lk t k (w / 16) + (w % 16 - t k) ≤ _
    rw [e2, d.1, d.2]
    omega
def th_gv (g k : Nat) : Nat := cond (Nat.ble g 8) (cond (Nat.beq k g) 3 0) (cond (Nat.ble g (k + 9) && Nat.ble (k + 7) g) 1 0)
def th_pv (p k : Nat) : Nat := cond (Nat.beq k p) 2 0
def th_vec (p : Nat) : List Nat → Nat → Nat
  | [] => th_pv p
  | g :: st => fun k => th_vec p st k + th_gv g k
def th_lw (f : Nat → List (List Nat)) : Nat → List (List Nat)
  | 0 => []
  | r + 1 => f r ++ th_lw f r
def th_lv : Nat → List Nat → Nat → List (List Nat)
  | 0 => fun st _ => [st]
  | d + 1 => fun st r => th_lw (fun q => th_lv d ((13 - q) :: st) (q + 1)) r
theorem th_lv_0 (st : List Nat) (r : Nat) : th_lv 0 st r = [st] := rfl
theorem th_lv_z (d : Nat) (st : List Nat) : th_lv (d + 1) st 0 = [] := rfl
theorem th_lv_s (d : Nat) (st : List Nat) (r : Nat) : th_lv (d + 1) st (r + 1) = th_lv d ((13 - r) :: st) (r + 1) ++ th_lv (d + 1) st r := rfl
theorem th_gv_t {g k : Nat} (h : g ≤ 8) : th_gv g k = if k = g then 3 else 0 := by
  unfold th_gv
  rw [Nat.ble_eq_true_of_le h, cond_true]
  by_cases e : k = g
  · subst e
    rw [if_pos rfl, Nat.beq_refl, cond_true]
  · rw [if_neg e]
    cases z : Nat.beq k g
    · rfl
    · exact absurd (Nat.eq_of_beq_eq_true z) e
theorem th_gv_r {g k : Nat} (h : 9 ≤ g) : th_gv g k = if g ≤ k + 9 ∧ k + 7 ≤ g then 1 else 0 := by
  unfold th_gv
  have a : Nat.ble g 8 = false := by
    cases z : Nat.ble g 8
    · rfl
    · have := Nat.le_of_ble_eq_true z
      omega
  rw [a, cond_false]
  by_cases e : g ≤ k + 9 ∧ k + 7 ≤ g
  · rw [if_pos e, Nat.ble_eq_true_of_le e.1, Nat.ble_eq_true_of_le e.2]
    rfl
  · rw [if_neg e]
    cases z : (Nat.ble g (k + 9) && Nat.ble (k + 7) g)
    · rfl
    · rw [Bool.and_eq_true, Nat.ble_eq, Nat.ble_eq] at z
      exact absurd z e
theorem th_pv_if (p k : Nat) : th_pv p k = if k = p then 2 else 0 := by
  unfold th_pv
  by_cases e : k = p
  · subst e
    rw [if_pos rfl, Nat.beq_refl, cond_true]
  · rw [if_neg e]
    cases z : Nat.beq k p
    · rfl
    · exact absurd (Nat.eq_of_beq_eq_true z) e
theorem th_gv_le (g k : Nat) : th_gv g k ≤ 3 := by
  rcases Nat.lt_or_ge g 9 with z | z
  · rw [th_gv_t (by omega)]
    split <;> omega
  · rw [th_gv_r z]
    split <;> omega
theorem th_vec_le (p : Nat) : ∀ (st : List Nat) (k : Nat), th_vec p st k ≤ 2 + 3 * st.length
  | [], k => by
    show th_pv p k ≤ 2
    rw [th_pv_if]
    split <;> omega
  | g :: st, k => by
    have a := th_vec_le p st k
    have b := th_gv_le g k
    show th_vec p st k + th_gv g k ≤ 2 + 3 * (st.length + 1)
    omega
theorem th_gv_sum : ∀ g, g < 14 → th_s (th_gv g) 9 = 3 := by decide +kernel
theorem th_pv_sum : ∀ p, p < 9 → th_s (th_pv p) 9 = 2 := by decide +kernel
theorem th_pv9 : ∀ k, k < 9 → th_pv 9 k = 0 := by decide +kernel
theorem th_vec_sum (p : Nat) : ∀ st : List Nat, (∀ g, g ∈ st → g < 14) → th_s (th_vec p st) 9 = th_s (th_pv p) 9 + 3 * st.length
  | [], _ => rfl
  | g :: st, h => by
    show th_s (fun k => th_vec p st k + th_gv g k) 9 = th_s (th_pv p) 9 + 3 * (st.length + 1)
    rw [th_s_add, th_vec_sum p st (fun x hx => h x (List.mem_cons_of_mem _ hx)), th_gv_sum g (h g List.mem_cons_self)]
    omega
theorem th_lv_mem : ∀ d st r, r ≤ 14 → (∀ g, g ∈ st → g < 14) → ∀ s, s ∈ th_lv d st r → s.length = st.length + d ∧ (∀ g, g ∈ s → g < 14) ∧ ∀ p k, th_vec p st k ≤ th_vec p s k
  | 0, st, r, hr, h, s, hs => by
    rw [th_lv_0, List.mem_singleton] at hs
    subst hs
    exact ⟨rfl, h, fun _ _ => Nat.le_refl _⟩
  | d + 1, st, 0, hr, h, s, hs => by
    rw [th_lv_z] at hs
    exact absurd hs List.not_mem_nil
  | d + 1, st, r + 1, hr, h, s, hs => by
    rw [th_lv_s, List.mem_append] at hs
    rcases hs with hs | hs
    · have hx : ∀ g, g ∈ (13 - r) :: st → g < 14 := by
        intro g hg
        rcases List.mem_cons.mp hg with e | e
        · omega
        · exact h g e
      obtain ⟨a, b, c⟩ := th_lv_mem d _ (r + 1) hr hx s hs
      refine ⟨?_, b, fun p k => ?_⟩
      · rw [a, List.length_cons]; omega
      · have := c p k
        have e : th_vec p ((13 - r) :: st) k = th_vec p st k + th_gv (13 - r) k := rfl
        omega
    · exact th_lv_mem (d + 1) st r (by omega) h s hs
end
section
def th_mg : Nat → List Nat → List Nat → List Nat
  | 0, a, b => a ++ b
  | _ + 1, [], b => b
  | _ + 1, x :: a, [] => x :: a
  | n + 1, x :: a, y :: b => cond (Nat.ble x y) (x :: th_mg n a (y :: b)) (y :: th_mg n (x :: a) b)
theorem th_mg_perm : ∀ n a b, (th_mg n a b).Perm (a ++ b)
  | 0, a, b => List.Perm.refl _
  | _ + 1, [], b => by
    rw [th_mg]
    exact List.Perm.refl _
  | _ + 1, x :: a, [] => by
    rw [th_mg, List.append_nil]
  | n + 1, x :: a, y :: b => by
    rw [th_mg]
    cases Nat.ble x y
    · rw [cond_false]
      exact ((th_mg_perm n (x :: a) b).cons y).trans List.perm_middle.symm
    · rw [cond_true]
      exact (th_mg_perm n a (y :: b)).cons x
def th_pr : List (List Nat) → List (List Nat)
  | a :: b :: r => th_mg 10000 a b :: th_pr r
  | [a] => [a]
  | [] => []
theorem th_pr_perm : ∀ l, (th_pr l).flatten.Perm l.flatten
  | a :: b :: r => by
    rw [th_pr, List.flatten_cons, List.flatten_cons, List.flatten_cons, ← List.append_assoc]
    exact (th_mg_perm _ a b).append (th_pr_perm r)
  | [a] => List.Perm.refl _
  | [] => List.Perm.refl _
def th_it : Nat → List (List Nat) → List (List Nat)
  | 0, l => l
  | n + 1, l => th_it n (th_pr l)
theorem th_it_perm : ∀ n l, (th_it n l).flatten.Perm l.flatten
  | 0, l => List.Perm.refl _
  | n + 1, l => (th_it_perm n (th_pr l)).trans (th_pr_perm l)
def th_sort (l : List Nat) : List Nat := (th_it 13 (l.map (fun x => [x]))).flatten
theorem th_sing : ∀ l : List Nat, (l.map (fun x => [x])).flatten = l
  | [] => rfl
  | x :: l => by
    rw [List.map_cons, List.flatten_cons, th_sing l]
    rfl
theorem th_sort_perm (l : List Nat) : (th_sort l).Perm l := by
  have h := th_it_perm 13 (l.map (fun x => [x]))
  rw [th_sing] at h
  exact h
def th_eqb : List Nat → List Nat → Bool
  | [], [] => true
  | x :: a, y :: b => cond (Nat.beq x y) (th_eqb a b) false
  | [], _ :: _ => false
  | _ :: _, [] => false
theorem th_eqb_eq : ∀ a b, th_eqb a b = true → a = b
  | [], [], _ => rfl
  | x :: a, y :: b, h => by
    rw [th_eqb] at h
    cases z : Nat.beq x y
    · rw [z, cond_false] at h
      exact absurd h (by decide)
    · rw [z, cond_true] at h
      rw [Nat.eq_of_beq_eq_true z, th_eqb_eq a b h]
  | [], _ :: _, h => by
    rw [th_eqb] at h
    exact absurd h (by decide)
  | _ :: _, [], h => by
    rw [th_eqb] at h
    exact absurd h (by decide)
theorem th_perm_of {a b : List Nat} (h : th_eqb (th_sort a) (th_sort b) = true) : a.Perm b :=
  ((th_sort_perm a).symm.trans (List.Perm.of_eq (th_eqb_eq _ _ h))).trans (th_sort_perm b)
def th_inc : List Nat → Bool
  | x :: y :: r => Nat.blt x y && th_inc (y :: r)
  | [_] => true
  | [] => true
theorem th_inc_lt : ∀ (l : List Nat) (x : Nat), th_inc (x :: l) = true → ∀ y, y ∈ l → x < y
  | [], x, _, y, hy => absurd hy List.not_mem_nil
  | z :: l, x, h, y, hy => by
    rw [th_inc, Bool.and_eq_true, Nat.blt_eq] at h
    rcases List.mem_cons.mp hy with e | e
    · omega
    · have := th_inc_lt l z h.2 y e
      omega
theorem th_inc_tl {l : List Nat} {x : Nat} (h : th_inc (x :: l) = true) : th_inc l = true := by
  cases l with
  | nil => rfl
  | cons y r =>
    rw [th_inc, Bool.and_eq_true] at h
    exact h.2
theorem th_inc_nd : ∀ l : List Nat, th_inc l = true → l.Nodup
  | [], _ => List.nodup_nil
  | x :: l, h => by
    rw [List.nodup_cons]
    refine ⟨fun hm => ?_, th_inc_nd l (th_inc_tl h)⟩
    have := th_inc_lt l x h x hm
    omega
def th_dd : List Nat → List Nat
  | x :: y :: r => cond (Nat.beq x y) (th_dd (y :: r)) (x :: th_dd (y :: r))
  | [x] => [x]
  | [] => []
theorem th_dd_mem : ∀ (l : List Nat) (a : Nat), a ∈ th_dd l ↔ a ∈ l
  | x :: y :: r, a => by
    have ih := th_dd_mem (y :: r) a
    rw [th_dd]
    cases z : Nat.beq x y
    · rw [cond_false, List.mem_cons, ih, List.mem_cons (a := a) (b := x)]
    · have e := Nat.eq_of_beq_eq_true z
      rw [cond_true, ih, List.mem_cons (a := a) (b := x)]
      constructor
      · exact Or.inr
      · rintro (h | h)
        · rw [h, e]
          exact List.mem_cons_self
        · exact h
  | [x], a => Iff.rfl
  | [], a => Iff.rfl
def th_l4 (w : Nat) : Bool := th_all (fun _ d => Nat.ble d 4) 9 w
def th_LX (e : Nat) : List Nat := ((th_P 9).filter (fun q => Nat.beq q.1 e)).map (fun q => q.2)
def th_LYp (p g : Nat) : List Nat := ((th_lv g [] 14).map (fun s => th_cd (th_vec p s) 9)).filter th_l4
def th_LY1 (g : Nat) : List Nat := (List.range 9).flatMap (fun p => th_LYp p g)
def th_dr (v : Nat → Nat) : Nat → Nat → Nat → Nat → Bool
  | 0, _, _, _ => true
  | d + 1, k, a, b => Nat.ble (a + b) (v k) && ((Nat.beq ((v k - (a + b)) % 3) 0 || Nat.ble k 4) && th_dr v d (k + 1) ((v k - (a + b)) % 3) a)
def th_dv (c : Nat → Nat) (p : Nat) : Bool := Nat.ble 2 (c p) && th_dr (fun k => c k - th_pv p k) 9 0 0 0
def th_nd3 : List Nat → Bool
  | [a, b, c] => Nat.ble c 8 || !(Nat.beq c b) || !(Nat.beq c a)
  | _ => true
def th_fst (c : Nat → Nat) : Nat → Bool
  | 0 => true
  | p + 1 => !(th_dv c p) && th_fst c p
def th_cnt (p : Nat) (s : List Nat) : Bool := th_nd3 s && th_fst (th_vec p s) p
def th_Wp (p : Nat) : List Nat := ((th_lv 3 [] 14).filter (fun s => th_l4 (th_cd (th_vec p s) 9) && th_cnt p s)).map (fun s => th_cd (th_vec p s) 9)
def th_W : List Nat := (List.range 9).flatMap th_Wp
def th_fc {β : Type} (x : Nat) (f : Nat → β) : β := match x with
  | 0 => f 0
  | n + 1 => f (n + 1)
theorem th_fc_eq {β : Type} (x : Nat) (f : Nat → β) : th_fc x f = f x := by
  cases x <;> rfl
def th_sc (k s : Nat) : List (Nat × Nat) := ((List.range 20).filter (fun c => th_ok s k c && Nat.ble (th_nd s c) 4)).map (fun c => (th_to s c, th_nd s c))
def th_step2 (k : Nat) (e : Nat × Nat) : List (Nat × Nat) := th_fc e.1 (fun s => th_fc e.2 (fun w => (th_sc k s).map (fun q => (q.1, w * 16 + q.2))))
theorem th_step2_eq (k : Nat) (e : Nat × Nat) : th_step2 k e = th_step k e := by
  unfold th_step2
  rw [th_fc_eq, th_fc_eq]
  unfold th_sc th_step
  rw [List.map_map]
  rfl
def th_P2 : Nat → List (Nat × Nat)
  | 0 => [(0, 0)]
  | k + 1 => (th_P2 k).flatMap (th_step2 k)
theorem th_P2_eq : ∀ k, th_P2 k = th_P k
  | 0 => rfl
  | k + 1 => by
    rw [th_P2, th_P, th_P2_eq k, show th_step2 k = th_step k from funext (th_step2_eq k)]
def th_LX2 (e : Nat) : List Nat := ((th_P2 9).filter (fun q => Nat.beq q.1 e)).map (fun q => q.2)
theorem th_LX2_eq (e : Nat) : th_LX e = th_LX2 e := by
  unfold th_LX th_LX2
  rw [th_P2_eq]
theorem th_cd_add (v w : Nat → Nat) : ∀ k, th_cd (fun j => v j + w j) k = th_cd v k + th_cd w k
  | 0 => rfl
  | k + 1 => by
    have a := th_cd_add v w k
    show th_cd (fun j => v j + w j) k * 16 + (v k + w k) = (th_cd v k * 16 + v k) + (th_cd w k * 16 + w k)
    omega
def th_lx (f : Nat → List Nat) : Nat → List Nat
  | 0 => []
  | r + 1 => f r ++ th_lx f r
def th_lcv : Nat → Nat → Nat → List Nat
  | 0 => fun a _ => [a]
  | d + 1 => fun a r => th_fc a (fun b => th_lx (fun q => th_lcv d (b + th_cd (th_gv (13 - q)) 9) (q + 1)) r)
theorem th_lcv_d (d a r : Nat) : th_lcv (d + 1) a r = th_lx (fun q => th_lcv d (a + th_cd (th_gv (13 - q)) 9) (q + 1)) r := by
  rw [th_lcv]
  exact th_fc_eq a (fun b => th_lx (fun q => th_lcv d (b + th_cd (th_gv (13 - q)) 9) (q + 1)) r)
theorem th_lcv_eq (p : Nat) : ∀ d st r, (th_lv d st r).map (fun s => th_cd (th_vec p s) 9) = th_lcv d (th_cd (th_vec p st) 9) r
  | 0, st, r => rfl
  | d + 1, st, 0 => by
    rw [th_lcv_d]
    rfl
  | d + 1, st, r + 1 => by
    have a := th_lcv_eq p (d + 1) st r
    have b := th_lcv_eq p d ((13 - r) :: st) (r + 1)
    have c : th_cd (th_vec p ((13 - r) :: st)) 9 = th_cd (th_vec p st) 9 + th_cd (th_gv (13 - r)) 9 := th_cd_add _ _ 9
    rw [th_lv_s, List.map_append, a, b, c]
    rw [th_lcv_d, th_lcv_d]
    rfl
def th_LYp2 (p g : Nat) : List Nat := (th_lcv g (th_cd (th_pv p) 9) 14).filter th_l4
theorem th_LYp2_eq (p g : Nat) : th_LYp p g = th_LYp2 p g := by
  unfold th_LYp th_LYp2
  rw [th_lcv_eq]
  rfl
def th_LY2 (g : Nat) : List Nat := (List.range 9).flatMap (fun p => th_LYp2 p g)
theorem th_LY2_eq (g : Nat) : th_LY1 g = th_LY2 g := by
  unfold th_LY1 th_LY2
  rw [show (fun p => th_LYp p g) = (fun p => th_LYp2 p g) from funext (fun p => th_LYp2_eq p g)]
theorem th_T1_1 : th_eqb (th_sort (th_LX 1)) (th_sort (th_LY1 0)) = true := by
  rw [th_LX2_eq, th_LY2_eq]
  decide +kernel
theorem th_T1_3 : th_eqb (th_sort (th_LX 3)) (th_sort (th_LY1 1)) = true := by
  rw [th_LX2_eq, th_LY2_eq]
  decide +kernel
theorem th_T1_5 : th_eqb (th_sort (th_LX 5)) (th_sort (th_LY1 2)) = true := by
  rw [th_LX2_eq, th_LY2_eq]
  decide +kernel
theorem th_T1_7 : th_eqb (th_sort (th_LX 7)) (th_sort (th_LY1 3)) = true := by
  rw [th_LX2_eq, th_LY2_eq]
  decide +kernel
theorem th_T1_0 : th_eqb (th_sort (th_LX 0)) (th_sort (th_LYp 9 0)) = true := by
  rw [th_LX2_eq, th_LYp2_eq]
  decide +kernel
theorem th_T1_2 : th_eqb (th_sort (th_LX 2)) (th_sort (th_LYp 9 1)) = true := by
  rw [th_LX2_eq, th_LYp2_eq]
  decide +kernel
theorem th_T1_4 : th_eqb (th_sort (th_LX 4)) (th_sort (th_LYp 9 2)) = true := by
  rw [th_LX2_eq, th_LYp2_eq]
  decide +kernel
theorem th_T1_6 : th_eqb (th_sort (th_LX 6)) (th_sort (th_LYp 9 3)) = true := by
  rw [th_LX2_eq, th_LYp2_eq]
  decide +kernel
theorem th_T2_d : th_eqb (th_dd (th_sort (th_LX 7))) (th_sort th_W) = true := by
  rw [th_LX2_eq]
  decide +kernel
theorem th_T2_i : th_inc (th_sort th_W) = true := by decide +kernel
theorem th_Plen : (List.range 10).all (fun k => Nat.ble (th_P k).length 5000) = true := by
  rw [show (fun k => Nat.ble (th_P k).length 5000) = (fun k => Nat.ble (th_P2 k).length 5000) from funext (fun k => by rw [th_P2_eq])]
  decide +kernel
def th_xf (k n s : Nat) (m : Nat) : Nat → Nat
  | 0 => m
  | c + 1 => cond (th_ok s k c && Nat.beq (th_nd s c) n) (th_xf k n s m c ||| 2 ^ (th_to s c)) (th_xf k n s m c)
def th_sp (k n M : Nat) : Nat → Nat
  | 0 => 0
  | s + 1 => cond (M.testBit s) (th_xf k n s (th_sp k n M s) 20) (th_sp k n M s)
def th_st (k n M : Nat) : Nat := th_sp k n M 250
def th_Rc (k : Nat) (a b : List Nat) : Bool := a.all (fun M => (List.range 5).all (fun n => Nat.beq (th_st k n M) 0 || b.any (fun x => Nat.beq x (th_st k n M))))
def th_R0 : List Nat := [1]
def th_R1 : List Nat := [1, 4503599627370496, 20282409603651670423947251286018, 91343852333181432387730302044776695927750524932, 40564819207303358862293012054016]
def th_R2 : List Nat := [1, 4503599627370496, 20282409603651670423947251286018, 91343852333181432387730302044776695927750524932, 40564819207303358862293012054016, 4096, 18446744073709551616, 83076749736557242056487941267529728, 36893488147419119616, 2, 9007199254740992, 40564819207303340847894519349248, 182687704666362864775460679647399103371314987016, 36028797052518400, 4, 18014398509490176, 81129638414643575183936424247304, 166153499473114484149004748273483792, 162259276829213435449172048248832, 16384, 73786976294871760896, 151115727451828646871040, 147573952589676478464]
def th_R3 : List Nat := [1, 4503599627370496, 20282409603651670423947251286018, 91343852333181432387730302044776695927750524932, 40564819207303358862293012054016, 4096, 18446744073709551616, 83076749736557242056487941267529728, 36893488147419119616, 2, 9007199254740992, 40564819207303340847894519349248, 182687704666362864775460679647399103371314987016, 36028797052518400, 4, 18014398509490176, 81129638414643575183936424247304, 166153499473114484149004748273483792, 162259276829213435449172048248832, 16384, 73786976294871760896, 151115727451828646871040, 147573952589676478464, 18014398509481984, 81129638414606681695789005144072, 36028797018963984, 73786976294838206464, 32768, 8, 36028797018963968, 162259276829213363391578077396992, 32, 16, 72057594037960704, 147573952589676412960, 144115188075855936, 40564819207303340847894502572032, 182687704666362864775460604089535377456991567880, 8192, 36893488147419103232, 166153499473114484112975882535043072, 33554448, 151115799509422684766208, 162259276829213363391578010288128, 137439019040, 144115188075855872, 131072, 162259276829213435449172048216064, 16392, 73823005091857170432, 162259276829213363391578010320896, 147573952589676478496, 162259276829213363391578077429760, 144115188210073600, 144115188210073664, 65568, 128, 72057594037927936, 64]
def th_R4 : List Nat := [1, 4503599627370496, 20282409603651670423947251286018, 91343852333181432387730302044776695927750524932, 40564819207303358862293012054016, 4096, 18446744073709551616, 83076749736557242056487941267529728, 36893488147419119616, 2, 9007199254740992, 40564819207303340847894519349248, 182687704666362864775460679647399103371314987016, 36028797052518400, 4, 18014398509490176, 81129638414643575183936424247304, 166153499473114484149004748273483792, 162259276829213435449172048248832, 16384, 73786976294871760896, 151115727451828646871040, 147573952589676478464, 18014398509481984, 81129638414606681695789005144072, 36028797018963984, 73786976294838206464, 32768, 8, 36028797018963968, 162259276829213363391578077396992, 32, 16, 72057594037960704, 147573952589676412960, 144115188075855936, 40564819207303340847894502572032, 182687704666362864775460604089535377456991567880, 8192, 36893488147419103232, 166153499473114484112975882535043072, 33554448, 151115799509422684766208, 162259276829213363391578010288128, 137439019040, 144115188075855872, 131072, 162259276829213435449172048216064, 16392, 73823005091857170432, 162259276829213363391578010320896, 147573952589676478496, 162259276829213363391578077429760, 144115188210073600, 144115188210073664, 65568, 128, 72057594037927936, 64, 65536, 147573952589676412928, 134217792, 33554432, 151115727451828646838272, 137438953504, 134217728]
def th_R5 : List Nat := [1, 4503599627370496, 20282409603651670423947251286018, 91343852333181432387730302044776695927750524932, 40564819207303358862293012054016, 4096, 18446744073709551616, 83076749736557242056487941267529728, 36893488147419119616, 2, 9007199254740992, 40564819207303340847894519349248, 182687704666362864775460679647399103371314987016, 36028797052518400, 4, 18014398509490176, 81129638414643575183936424247304, 166153499473114484149004748273483792, 162259276829213435449172048248832, 16384, 73786976294871760896, 151115727451828646871040, 147573952589676478464, 18014398509481984, 81129638414606681695789005144072, 36028797018963984, 73786976294838206464, 32768, 8, 36028797018963968, 162259276829213363391578077396992, 32, 16, 72057594037960704, 147573952589676412960, 144115188075855936, 40564819207303340847894502572032, 182687704666362864775460604089535377456991567880, 8192, 36893488147419103232, 166153499473114484112975882535043072, 33554448, 151115799509422684766208, 162259276829213363391578010288128, 137439019040, 144115188075855872, 131072, 162259276829213435449172048216064, 16392, 73823005091857170432, 162259276829213363391578010320896, 147573952589676478496, 162259276829213363391578077429760, 144115188210073600, 144115188210073664, 65568, 128, 72057594037927936, 64, 65536, 147573952589676412928, 134217792, 33554432, 151115727451828646838272, 137438953504, 134217728]
def th_R6 : List Nat := [1, 2, 4, 4096, 8192, 16384, 16777216, 8, 33554432, 68719476752, 32768, 65536, 16, 67108864, 32, 64, 33554448, 137439019040, 131072, 16392, 65568, 67141632, 134217728, 134217792, 128, 137438953504]
def th_R7 : List Nat := [1, 2, 4, 8, 16, 32, 64, 128]
def th_R8 : List Nat := [1, 2, 4, 8, 16, 32, 64, 128]
def th_R9 : List Nat := [1, 2, 4, 8, 16, 32, 64, 128]
def th_R : Nat → List Nat
  | 0 => th_R0
  | 1 => th_R1
  | 2 => th_R2
  | 3 => th_R3
  | 4 => th_R4
  | 5 => th_R5
  | 6 => th_R6
  | 7 => th_R7
  | 8 => th_R8
  | 9 => th_R9
  | _ + 10 => []
theorem th_R_len0 : Nat.ble th_R0.length 100 = true := by decide +kernel
theorem th_R_len1 : Nat.ble th_R1.length 100 = true := by decide +kernel
theorem th_R_len2 : Nat.ble th_R2.length 100 = true := by decide +kernel
theorem th_R_len3 : Nat.ble th_R3.length 100 = true := by decide +kernel
theorem th_R_len4 : Nat.ble th_R4.length 100 = true := by decide +kernel
theorem th_R_len5 : Nat.ble th_R5.length 100 = true := by decide +kernel
theorem th_R_len6 : Nat.ble th_R6.length 100 = true := by decide +kernel
theorem th_R_len7 : Nat.ble th_R7.length 100 = true := by decide +kernel
theorem th_R_len8 : Nat.ble th_R8.length 100 = true := by decide +kernel
theorem th_R_len9 : Nat.ble th_R9.length 100 = true := by decide +kernel
theorem th_R_cl0 : th_Rc 0 th_R0 th_R1 = true := by decide +kernel
theorem th_R_cl1 : th_Rc 1 th_R1 th_R2 = true := by decide +kernel
theorem th_R_cl2 : th_Rc 2 th_R2 th_R3 = true := by decide +kernel
theorem th_R_cl3 : th_Rc 3 th_R3 th_R4 = true := by decide +kernel
theorem th_R_cl4 : th_Rc 4 th_R4 th_R5 = true := by decide +kernel
theorem th_R_cl5 : th_Rc 5 th_R5 th_R6 = true := by decide +kernel
theorem th_R_cl6 : th_Rc 6 th_R6 th_R7 = true := by decide +kernel
theorem th_R_cl7 : th_Rc 7 th_R7 th_R8 = true := by decide +kernel
theorem th_R_cl8 : th_Rc 8 th_R8 th_R9 = true := by decide +kernel
theorem th_Rc_use {k n M : Nat} {a b : List Nat} (h : th_Rc k a b = true) (hM : M ∈ a) (hn : n < 5) : th_st k n M = 0 ∨ th_st k n M ∈ b := by
  unfold th_Rc at h
  rw [List.all_eq_true] at h
  have h2 := h M hM
  rw [List.all_eq_true] at h2
  have h3 := h2 n (List.mem_range.mpr hn)
  rw [Bool.or_eq_true, Nat.beq_eq, List.any_eq_true] at h3
  rcases h3 with h3 | ⟨x, hx, e⟩
  · exact Or.inl h3
  · rw [Nat.beq_eq] at e
    exact Or.inr (e ▸ hx)
theorem th_R_cl {k n M : Nat} (hk : k < 9) (hM : M ∈ th_R k) (hn : n < 5) : th_st k n M = 0 ∨ th_st k n M ∈ th_R (k + 1) := by
  match k, hk with
  | 0, _ => exact th_Rc_use th_R_cl0 hM hn
  | 1, _ => exact th_Rc_use th_R_cl1 hM hn
  | 2, _ => exact th_Rc_use th_R_cl2 hM hn
  | 3, _ => exact th_Rc_use th_R_cl3 hM hn
  | 4, _ => exact th_Rc_use th_R_cl4 hM hn
  | 5, _ => exact th_Rc_use th_R_cl5 hM hn
  | 6, _ => exact th_Rc_use th_R_cl6 hM hn
  | 7, _ => exact th_Rc_use th_R_cl7 hM hn
  | 8, _ => exact th_Rc_use th_R_cl8 hM hn
  | _ + 9, h => omega
theorem th_R_len {k : Nat} (hk : k < 10) : (th_R k).length ≤ 100 := by
  match k, hk with
  | 0, _ => exact Nat.le_of_ble_eq_true th_R_len0
  | 1, _ => exact Nat.le_of_ble_eq_true th_R_len1
  | 2, _ => exact Nat.le_of_ble_eq_true th_R_len2
  | 3, _ => exact Nat.le_of_ble_eq_true th_R_len3
  | 4, _ => exact Nat.le_of_ble_eq_true th_R_len4
  | 5, _ => exact Nat.le_of_ble_eq_true th_R_len5
  | 6, _ => exact Nat.le_of_ble_eq_true th_R_len6
  | 7, _ => exact Nat.le_of_ble_eq_true th_R_len7
  | 8, _ => exact Nat.le_of_ble_eq_true th_R_len8
  | 9, _ => exact Nat.le_of_ble_eq_true th_R_len9
  | _ + 10, h => omega
theorem th_P_len {k : Nat} (hk : k < 10) : (th_P k).length ≤ 5000 := by
  have h := th_Plen
  rw [List.all_eq_true] at h
  exact Nat.le_of_ble_eq_true (h k (List.mem_range.mpr hk))
end
section
def th_ks (st : List Nat) : Prop := st.length ≤ 2 ∧ ∀ g, g ∈ st → g < 14
theorem th_ks_tl {h : Nat} {st : List Nat} (k : th_ks (h :: st)) : th_ks st := by
  have := k.1
  rw [List.length_cons] at this
  exact ⟨by omega, fun g hg => k.2 g (List.mem_cons_of_mem _ hg)⟩
theorem th_ks_cons {r : Nat} {st : List Nat} (k : th_ks st) (h : ((13 - r) :: st).length ≤ 2) : th_ks ((13 - r) :: st) := by
  refine ⟨h, fun g hg => ?_⟩
  rcases List.mem_cons.mp hg with e | e
  · omega
  · exact k.2 g e
def th_mu : List Nat → Nat → Nat
  | [], r => (r + 1) * 8000
  | h :: st, r => (r + 1) * 20 ^ (2 - st.length) + th_mu st (13 - h)
theorem th_mu_s : ∀ (st : List Nat) (r : Nat), th_mu st (r + 1) = th_mu st r + 20 ^ (3 - st.length)
  | [], r => by
    show (r + 1 + 1) * 8000 = (r + 1) * 8000 + 20 ^ 3
    rw [show (20 : Nat) ^ 3 = 8000 from by decide]
    omega
  | h :: st, r => by
    show (r + 1 + 1) * 20 ^ (2 - st.length) + th_mu st (13 - h) = (r + 1) * 20 ^ (2 - st.length) + th_mu st (13 - h) + 20 ^ (3 - (st.length + 1))
    rw [show 3 - (st.length + 1) = 2 - st.length by omega, Nat.add_mul (r + 1) 1, Nat.one_mul]
    omega
theorem th_pw_pos (n : Nat) : 0 < 20 ^ n := Nat.pos_of_ne_zero (by
  intro h
  rw [Nat.pow_eq_zero] at h
  omega)
theorem th_mu_d {st : List Nat} {r : Nat} (h : st.length ≤ 2) (hr : r < 14) : th_mu ((13 - r) :: st) (r + 1) < th_mu st (r + 1) := by
  rw [th_mu_s st r]
  show (r + 1 + 1) * 20 ^ (2 - st.length) + th_mu st (13 - (13 - r)) < _
  rw [show 13 - (13 - r) = r by omega, show 3 - st.length = (2 - st.length) + 1 by omega, Nat.pow_succ]
  have := th_pw_pos (2 - st.length)
  generalize 20 ^ (2 - st.length) = w at *
  have : (r + 1 + 1) * w ≤ 15 * w := Nat.mul_le_mul_right w (by omega)
  omega
theorem th_mu_n (st : List Nat) (r : Nat) : th_mu st r < th_mu st (r + 1) := by
  rw [th_mu_s]
  have := th_pw_pos (3 - st.length)
  omega
theorem th_mu_p (h : Nat) (st : List Nat) : th_mu st (13 - h) < th_mu (h :: st) 0 := by
  show _ < (0 + 1) * 20 ^ (2 - st.length) + th_mu st (13 - h)
  have := th_pw_pos (2 - st.length)
  omega
section
variable {A : Type}
def th_dxi (fit : List Nat → Nat → Bool) (vis : A → List Nat → A) (deep : A → List Nat → Bool) (stop : A → Bool) (rc : List Nat → A → Nat → A) (st : List Nat) : Nat → A → A
  | 0, a => a
  | r + 1, a => cond (stop a) a (cond (fit st (13 - r)) (th_dxi fit vis deep stop rc st r (cond (deep (vis a ((13 - r) :: st)) ((13 - r) :: st)) (rc ((13 - r) :: st) (vis a ((13 - r) :: st)) (r + 1)) (vis a ((13 - r) :: st)))) (th_dxi fit vis deep stop rc st r a))
def th_dx (fit : List Nat → Nat → Bool) (vis : A → List Nat → A) (deep : A → List Nat → Bool) (stop : A → Bool) : Nat → List Nat → A → Nat → A
  | 0 => fun _ a _ => a
  | d + 1 => fun st a r => th_dxi fit vis deep stop (th_dx fit vis deep stop d) st r a
def th_up (fit : List Nat → Nat → Bool) (vis : A → List Nat → A) (deep : A → List Nat → Bool) (stop : A → Bool) : List Nat → A → A
  | [], a => a
  | h :: st, a => th_up fit vis deep stop st (th_dx fit vis deep stop (3 - st.length) st a (13 - h))
variable {fit : List Nat → Nat → Bool} {vis : A → List Nat → A} {deep : A → List Nat → Bool} {stop : A → Bool}
theorem th_dx_0 (d : Nat) (st : List Nat) (a : A) : th_dx fit vis deep stop d st a 0 = a := by
  cases d <;> rfl
theorem th_dx_stop (d : Nat) (st : List Nat) {a : A} (h : stop a = true) (r : Nat) : th_dx fit vis deep stop d st a r = a := by
  cases d with
  | zero => rfl
  | succ d =>
    cases r with
    | zero => rfl
    | succ r =>
      show cond (stop a) a _ = a
      rw [h, cond_true]
theorem th_up_stop {a : A} (h : stop a = true) : ∀ st : List Nat, th_up fit vis deep stop st a = a
  | [] => rfl
  | x :: st => by
    show th_up fit vis deep stop st (th_dx fit vis deep stop (3 - st.length) st a (13 - x)) = a
    rw [th_dx_stop _ _ h, th_up_stop h st]
theorem th_dx_no (d : Nat) {st : List Nat} {a : A} {r : Nat} (h : stop a = false) (hf : fit st (13 - r) = false) : th_dx fit vis deep stop (d + 1) st a (r + 1) = th_dx fit vis deep stop (d + 1) st a r := by
  show cond (stop a) a (cond (fit st (13 - r)) _ _) = _
  rw [h, cond_false, hf, cond_false]
  rfl
theorem th_dx_d (d : Nat) {st : List Nat} {a : A} {r : Nat} (h : stop a = false) (hf : fit st (13 - r) = true) (hd : deep (vis a ((13 - r) :: st)) ((13 - r) :: st) = true) : th_dx fit vis deep stop (d + 1) st a (r + 1) = th_dx fit vis deep stop (d + 1) st (th_dx fit vis deep stop d ((13 - r) :: st) (vis a ((13 - r) :: st)) (r + 1)) r := by
  show cond (stop a) a (cond (fit st (13 - r)) (th_dxi fit vis deep stop (th_dx fit vis deep stop d) st r (cond (deep (vis a ((13 - r) :: st)) ((13 - r) :: st)) _ _)) _) = _
  rw [h, cond_false, hf, cond_true, hd, cond_true]
  rfl
theorem th_dx_l (d : Nat) {st : List Nat} {a : A} {r : Nat} (h : stop a = false) (hf : fit st (13 - r) = true) (hd : deep (vis a ((13 - r) :: st)) ((13 - r) :: st) = false) : th_dx fit vis deep stop (d + 1) st a (r + 1) = th_dx fit vis deep stop (d + 1) st (vis a ((13 - r) :: st)) r := by
  show cond (stop a) a (cond (fit st (13 - r)) (th_dxi fit vis deep stop (th_dx fit vis deep stop d) st r (cond (deep (vis a ((13 - r) :: st)) ((13 - r) :: st)) _ _)) _) = _
  rw [h, cond_false, hf, cond_true, hd, cond_false]
  rfl
theorem th_dfs (W : Nat → A → List Nat → Nat → Prop) (post : A → Prop)
    (Hstop : ∀ n a st r, th_ks st → r ≤ 14 → stop a = true → post a → W (n + 1) a st r)
    (Hend : ∀ n a, stop a = false → post a → W (n + 2) a [] 0)
    (Hpop : ∀ n a h st, th_ks (h :: st) → stop a = false → W n a st (13 - h) → W (n + 1) a (h :: st) 0)
    (Hno : ∀ n a st r, th_ks st → r < 14 → stop a = false → fit st (13 - r) = false → W n a st r → W (n + 1) a st (r + 1))
    (Hd : ∀ n a st r, th_ks st → r < 14 → stop a = false → fit st (13 - r) = true → deep (vis a ((13 - r) :: st)) ((13 - r) :: st) = true → th_ks ((13 - r) :: st) → W n (vis a ((13 - r) :: st)) ((13 - r) :: st) (r + 1) → W (n + 1) a st (r + 1))
    (Hl : ∀ n a st r, th_ks st → r < 14 → stop a = false → fit st (13 - r) = true → deep (vis a ((13 - r) :: st)) ((13 - r) :: st) = false → W n (vis a ((13 - r) :: st)) st r → W (n + 1) a st (r + 1))
    (Hp : ∀ a st, deep (vis a st) st = true → st.length ≤ 2) :
    ∀ n a st r, th_ks st → r ≤ 14 → th_mu st r < n → post (th_up fit vis deep stop st (th_dx fit vis deep stop (3 - st.length) st a r)) → W n a st r := by
  intro n
  induction n with
  | zero =>
    intro a st r _ _ h
    omega
  | succ n ih =>
    intro a st r hk hr hm hp
    cases hs : stop a with
    | true =>
      rw [th_dx_stop _ _ hs, th_up_stop hs] at hp
      exact Hstop n a st r hk hr hs hp
    | false =>
      cases r with
      | zero =>
        rw [th_dx_0] at hp
        cases st with
        | nil =>
          have : (0 + 1) * 8000 < n + 1 := hm
          obtain ⟨m, rfl⟩ : ∃ m, n = m + 1 := ⟨n - 1, by omega⟩
          exact Hend m a hs hp
        | cons h st =>
          have := th_mu_p h st
          exact Hpop n a h st hk hs (ih a st (13 - h) (th_ks_tl hk) (by omega) (by omega) hp)
      | succ r =>
        have e3 : 3 - st.length = (2 - st.length) + 1 := by
          have := hk.1
          omega
        cases hf : fit st (13 - r) with
        | false =>
          have := th_mu_n st r
          refine Hno n a st r hk (by omega) hs hf (ih a st r hk (by omega) (by omega) ?_)
          rw [e3, th_dx_no _ hs hf] at hp
          rw [e3]
          exact hp
        | true =>
          cases hd : deep (vis a ((13 - r) :: st)) ((13 - r) :: st) with
          | true =>
            have := th_mu_d (r := r) hk.1 (by omega)
            have k2 := th_ks_cons (r := r) hk (Hp _ _ hd)
            refine Hd n a st r hk (by omega) hs hf hd k2 (ih _ _ (r + 1) k2 hr (by omega) ?_)
            rw [e3, th_dx_d _ hs hf hd] at hp
            show post (th_up fit vis deep stop st (th_dx fit vis deep stop (3 - st.length) st (th_dx fit vis deep stop (3 - (st.length + 1)) ((13 - r) :: st) (vis a ((13 - r) :: st)) (r + 1)) (13 - (13 - r))))
            rw [show 13 - (13 - r) = r by omega, show 3 - (st.length + 1) = 2 - st.length by omega, e3]
            exact hp
          | false =>
            have := th_mu_n st r
            refine Hl n a st r hk (by omega) hs hf hd (ih _ st r hk (by omega) (by omega) ?_)
            rw [e3, th_dx_l _ hs hf hd] at hp
            rw [e3]
            exact hp
theorem th_dx_ind (Rel : List Nat → Nat → A → A → Prop)
    (h0 : ∀ st a, th_ks st → Rel st 0 a a)
    (hs : ∀ st r a, th_ks st → r < 14 → stop a = true → Rel st (r + 1) a a)
    (hn : ∀ st r a a', th_ks st → r < 14 → stop a = false → fit st (13 - r) = false → Rel st r a a' → Rel st (r + 1) a a')
    (hl : ∀ st r a a', th_ks st → r < 14 → stop a = false → fit st (13 - r) = true → deep (vis a ((13 - r) :: st)) ((13 - r) :: st) = false → Rel st r (vis a ((13 - r) :: st)) a' → Rel st (r + 1) a a')
    (hd : ∀ st r a a1 a', th_ks st → r < 14 → stop a = false → fit st (13 - r) = true → deep (vis a ((13 - r) :: st)) ((13 - r) :: st) = true → th_ks ((13 - r) :: st) → Rel ((13 - r) :: st) (r + 1) (vis a ((13 - r) :: st)) a1 → Rel st r a1 a' → Rel st (r + 1) a a')
    (Hp : ∀ a st, deep (vis a st) st = true → st.length ≤ 2) :
    ∀ d st, th_ks st → st.length + d = 3 → ∀ r, r ≤ 14 → ∀ a, Rel st r a (th_dx fit vis deep stop d st a r) := by
  intro d
  induction d with
  | zero =>
    intro st k e
    have := k.1
    omega
  | succ d ih =>
    intro st k e r
    induction r with
    | zero =>
      intro _ a
      rw [th_dx_0]
      exact h0 st a k
    | succ r ihr =>
      intro hr a
      cases z : stop a with
      | true =>
        rw [th_dx_stop _ _ z]
        exact hs st r a k (by omega) z
      | false =>
        cases hf : fit st (13 - r) with
        | false =>
          rw [th_dx_no _ z hf]
          exact hn st r a _ k (by omega) z hf (ihr (by omega) a)
        | true =>
          cases hh : deep (vis a ((13 - r) :: st)) ((13 - r) :: st) with
          | true =>
            rw [th_dx_d _ z hf hh]
            have k2 := th_ks_cons (r := r) k (Hp _ _ hh)
            exact hd st r a _ _ k (by omega) z hf hh k2 (ih _ k2 (by rw [List.length_cons]; omega) (r + 1) hr _) (ihr (by omega) _)
          | false =>
            rw [th_dx_l _ z hf hh]
            exact hl st r a _ k (by omega) z hf hh (ihr (by omega) _)
end
def th_own (c : Nat → Nat) (p : Nat) (s : List Nat) : Bool := (List.range 9).all (fun k => Nat.ble (th_vec p s k) (c k))
def th_fit (c : Nat → Nat) (p : Nat) (st : List Nat) (x : Nat) : Bool := (List.range 9).all (fun k => Nat.beq (th_gv x k) 0 || Nat.ble (th_vec p (x :: st) k) (c k))
theorem th_own_iff {c : Nat → Nat} {p : Nat} {s : List Nat} : th_own c p s = true ↔ ∀ k, k < 9 → th_vec p s k ≤ c k := by
  unfold th_own
  rw [List.all_eq_true]
  constructor
  · intro h k hk
    exact Nat.le_of_ble_eq_true (h k (List.mem_range.mpr hk))
  · intro h k hk
    exact Nat.ble_eq_true_of_le (h k (List.mem_range.mp hk))
theorem th_fit_iff {c : Nat → Nat} {p x : Nat} {st : List Nat} : th_fit c p st x = true ↔ ∀ k, k < 9 → th_gv x k ≠ 0 → th_vec p (x :: st) k ≤ c k := by
  unfold th_fit
  rw [List.all_eq_true]
  constructor
  · intro h k hk hn
    have := h k (List.mem_range.mpr hk)
    rw [Bool.or_eq_true, Nat.beq_eq, Nat.ble_eq] at this
    rcases this with z | z
    · exact absurd z hn
    · exact z
  · intro h k hk
    rw [Bool.or_eq_true, Nat.beq_eq, Nat.ble_eq]
    by_cases z : th_gv x k = 0
    · exact Or.inl z
    · exact Or.inr (h k (List.mem_range.mp hk) z)
theorem th_fit_own {c : Nat → Nat} {p x : Nat} {st : List Nat} (h : th_own c p st = true) (hf : th_fit c p st x = true) : th_own c p (x :: st) = true := by
  rw [th_own_iff] at *
  have hf := th_fit_iff.mp hf
  intro k hk
  by_cases z : th_gv x k = 0
  · have := h k hk
    have e : th_vec p (x :: st) k = th_vec p st k + th_gv x k := rfl
    omega
  · exact hf k hk z
theorem th_own_mono {c : Nat → Nat} {p : Nat} {s s' : List Nat} (h : ∀ p k, th_vec p s k ≤ th_vec p s' k) (hs : th_own c p s' = true) : th_own c p s = true := by
  rw [th_own_iff] at *
  intro k hk
  exact Nat.le_trans (h p k) (hs k hk)
theorem th_fit_not {c : Nat → Nat} {p x : Nat} {st s : List Nat} (h : ∀ p k, th_vec p (x :: st) k ≤ th_vec p s k) (hf : th_fit c p st x = false) : th_own c p s = false := by
  cases z : th_own c p s
  · rfl
  · have := (th_fit_iff (c := c) (p := p) (x := x) (st := st)).mpr (fun k hk _ => th_own_iff.mp (th_own_mono h z) k hk)
    rw [hf] at this
    exact absurd this (by decide)
def th_lak (t : Nat → Nat) (p : Nat) (s : List Nat) : Nat := th_s (fun k => th_vec p s k - t k) 9
def th_lef (t : Nat → Nat) (p : Nat) (s : List Nat) : Nat := th_s (fun k => t k - th_vec p s k) 9
theorem th_lak_mono (t : Nat → Nat) (p : Nat) {s s' : List Nat} (h : ∀ p k, th_vec p s k ≤ th_vec p s' k) : th_lak t p s ≤ th_lak t p s' :=
  th_s_le 9 (fun k _ => by
    have := h p k
    omega)
theorem th_cntlaw (c : Nat → Nat) (p m : Nat) (hm : m ≤ 3) (ex : List Nat → Bool) {vis : Nat → List Nat → Nat} {deep : Nat → List Nat → Bool}
    (hv : ∀ a st, vis a st = if st.length = m ∧ ex st = true then a + 1 else a)
    (hdp : ∀ a st, deep a st = true → st.length < m)
    (hdn : ∀ a st s, deep a st = false → st.length < m → (∀ g, g ∈ st → g < 14) → s.length = m → (∀ g, g ∈ s → g < 14) → (∀ p k, th_vec p st k ≤ th_vec p s k) → ex s = false) :
    ∀ d st, th_ks st → st.length + d = 3 → ∀ r, r ≤ 14 → ∀ a, th_own c p st = true → st.length < m →
      th_dx (th_fit c p) vis deep (fun _ => false) d st a r = a + (th_lv (m - st.length) st r).countP (fun s => th_own c p s && ex s) := by
  refine th_dx_ind (fun st r a a' => th_own c p st = true → st.length < m → a' = a + (th_lv (m - st.length) st r).countP (fun s => th_own c p s && ex s)) ?_ ?_ ?_ ?_ ?_ ?_
  · intro st a _ _ hl
    obtain ⟨e, he⟩ : ∃ e, m - st.length = e + 1 := ⟨m - st.length - 1, by omega⟩
    rw [he, th_lv_z]
    rfl
  · intro st r a _ _ h
    exact absurd h (by decide)
  · intro st r a a' k hr _ hf ih ho hl
    obtain ⟨e, he⟩ : ∃ e, m - st.length = e + 1 := ⟨m - st.length - 1, by omega⟩
    have ih := ih ho hl
    rw [he] at ih ⊢
    rw [th_lv_s, List.countP_append, ih]
    have z : (th_lv e ((13 - r) :: st) (r + 1)).countP (fun s => th_own c p s && ex s) = 0 := by
      rw [List.countP_eq_zero]
      intro s hs
      have hx : ∀ g, g ∈ (13 - r) :: st → g < 14 := by
        intro g hg
        rcases List.mem_cons.mp hg with e | e
        · omega
        · exact k.2 g e
      obtain ⟨_, _, h3⟩ := th_lv_mem e _ (r + 1) (by omega) hx s hs
      rw [th_fit_not h3 hf, Bool.false_and]
      decide
    omega
  · intro st r a a' k hr _ hf hd ih ho hl
    obtain ⟨e, he⟩ : ∃ e, m - st.length = e + 1 := ⟨m - st.length - 1, by omega⟩
    have ih := ih ho hl
    rw [he] at ih ⊢
    rw [th_lv_s, List.countP_append, ih]
    have hx : ∀ g, g ∈ (13 - r) :: st → g < 14 := by
      intro g hg
      rcases List.mem_cons.mp hg with e | e
      · omega
      · exact k.2 g e
    have ll : ((13 - r) :: st).length = st.length + 1 := rfl
    rcases Nat.eq_zero_or_pos e with z | z
    · subst z
      rw [th_lv_0, List.countP_singleton, th_fit_own ho hf, Bool.true_and, hv]
      cases w : ex ((13 - r) :: st)
      · rw [if_neg (fun h => by simp at h), if_neg (by decide)]
        omega
      · rw [if_pos ⟨by omega, rfl⟩, if_pos rfl]
        omega
    · have z0 : (th_lv e ((13 - r) :: st) (r + 1)).countP (fun s => th_own c p s && ex s) = 0 := by
        rw [List.countP_eq_zero]
        intro s hs
        obtain ⟨h1, h2, h3⟩ := th_lv_mem e _ (r + 1) (by omega) hx s hs
        rw [hdn _ _ s hd (by omega) hx (by omega) h2 h3, Bool.and_false]
        decide
      rw [hv, if_neg (fun h => by omega)]
      omega
  · intro st r a a1 a' k hr _ hf hd k2 ih1 ih ho hl
    have ll : ((13 - r) :: st).length = st.length + 1 := rfl
    have l2 := hdp _ _ hd
    obtain ⟨e, he⟩ : ∃ e, m - st.length = e + 1 := ⟨m - st.length - 1, by omega⟩
    have ih1 := ih1 (th_fit_own ho hf) l2
    have ih := ih ho hl
    rw [show m - ((13 - r) :: st).length = e by omega, hv, if_neg (fun h => by omega)] at ih1
    rw [he] at ih ⊢
    rw [th_lv_s, List.countP_append, ih]
    omega
  · intro a st h
    have := hdp _ _ h
    omega
end
section
def th_vl (t : Nat → Nat) (p : Nat) (a : Nat) (st : List Nat) : Nat := if th_lak t p st < a ∧ st.length = 3 then th_lak t p st else a
def th_dl3 (t : Nat → Nat) (p : Nat) (a : Nat) (st : List Nat) : Bool := decide (th_lak t p st < a ∧ st.length ≤ 2)
theorem th_least (t : Nat → Nat) (p en : Nat) :
    ∀ d st, th_ks st → st.length + d = 3 → ∀ r, r ≤ 14 → ∀ a, th_own (fun _ => 4) p st = true →
      th_dx (th_fit (fun _ => 4) p) (th_vl t p) (th_dl3 t p) (fun a => Nat.ble a en) d st a r ≤ a ∧
      (th_dx (th_fit (fun _ => 4) p) (th_vl t p) (th_dl3 t p) (fun a => Nat.ble a en) d st a r < a → ∃ s, s ∈ th_lv (3 - st.length) st r ∧ th_own (fun _ => 4) p s = true ∧ th_lak t p s = th_dx (th_fit (fun _ => 4) p) (th_vl t p) (th_dl3 t p) (fun a => Nat.ble a en) d st a r) ∧
      (∀ s, s ∈ th_lv (3 - st.length) st r → th_own (fun _ => 4) p s = true → th_dx (th_fit (fun _ => 4) p) (th_vl t p) (th_dl3 t p) (fun a => Nat.ble a en) d st a r ≤ th_lak t p s ∨ th_dx (th_fit (fun _ => 4) p) (th_vl t p) (th_dl3 t p) (fun a => Nat.ble a en) d st a r ≤ en) := by
  refine th_dx_ind (fun st r a a' => th_own (fun _ => 4) p st = true → a' ≤ a ∧ (a' < a → ∃ s, s ∈ th_lv (3 - st.length) st r ∧ th_own (fun _ => 4) p s = true ∧ th_lak t p s = a') ∧ (∀ s, s ∈ th_lv (3 - st.length) st r → th_own (fun _ => 4) p s = true → a' ≤ th_lak t p s ∨ a' ≤ en)) ?_ ?_ ?_ ?_ ?_ ?_
  · intro st a k _
    obtain ⟨e, he⟩ : ∃ e, 3 - st.length = e + 1 := ⟨2 - st.length, by have := k.1; omega⟩
    refine ⟨Nat.le_refl _, fun h => by omega, fun s hs => ?_⟩
    rw [he, th_lv_z] at hs
    exact absurd hs List.not_mem_nil
  · intro st r a k hr h _
    rw [Nat.ble_eq] at h
    exact ⟨Nat.le_refl _, fun h => by omega, fun s hs _ => Or.inr h⟩
  · intro st r a a' k hr _ hf ih ho
    obtain ⟨e, he⟩ : ∃ e, 3 - st.length = e + 1 := ⟨2 - st.length, by have := k.1; omega⟩
    obtain ⟨i1, i2, i3⟩ := ih ho
    rw [he] at i2 i3 ⊢
    have hx : ∀ g, g ∈ (13 - r) :: st → g < 14 := by
      intro g hg
      rcases List.mem_cons.mp hg with e | e
      · omega
      · exact k.2 g e
    refine ⟨i1, fun h => ?_, fun s hs hw => ?_⟩
    · obtain ⟨s, h1, h2⟩ := i2 h
      exact ⟨s, by rw [th_lv_s, List.mem_append]; exact Or.inr h1, h2⟩
    · rw [th_lv_s, List.mem_append] at hs
      rcases hs with hs | hs
      · obtain ⟨_, _, h3⟩ := th_lv_mem e _ (r + 1) (by omega) hx s hs
        rw [th_fit_not h3 hf] at hw
        exact absurd hw (by decide)
      · exact i3 s hs hw
  · intro st r a a' k hr _ hf hd ih ho
    obtain ⟨e, he⟩ : ∃ e, 3 - st.length = e + 1 := ⟨2 - st.length, by have := k.1; omega⟩
    obtain ⟨i1, i2, i3⟩ := ih ho
    rw [he] at i2 i3 ⊢
    have ll : ((13 - r) :: st).length = st.length + 1 := rfl
    have hx : ∀ g, g ∈ (13 - r) :: st → g < 14 := by
      intro g hg
      rcases List.mem_cons.mp hg with e | e
      · omega
      · exact k.2 g e
    have ow := th_fit_own ho hf
    have hd := decide_eq_false_iff_not.mp hd
    have hk := k.1
    by_cases z : th_lak t p ((13 - r) :: st) < a ∧ ((13 - r) :: st).length = 3
    · have ev : th_vl t p a ((13 - r) :: st) = th_lak t p ((13 - r) :: st) := if_pos z
      rw [ev] at i1 i2
      have e0 : e = 0 := by
        clear i2 i3
        omega
      subst e0
      refine ⟨by omega, fun h => ?_, fun s hs hw => ?_⟩
      · rcases Nat.lt_or_ge a' (th_lak t p ((13 - r) :: st)) with y | y
        · obtain ⟨s, h1, h2⟩ := i2 y
          exact ⟨s, by rw [th_lv_s, List.mem_append]; exact Or.inr h1, h2⟩
        · exact ⟨(13 - r) :: st, by rw [th_lv_s, List.mem_append, th_lv_0]; exact Or.inl List.mem_cons_self, ow, by omega⟩
      · rw [th_lv_s, List.mem_append] at hs
        rcases hs with hs | hs
        · rw [th_lv_0, List.mem_singleton] at hs
          subst hs
          exact Or.inl i1
        · exact i3 s hs hw
    · have ev : th_vl t p a ((13 - r) :: st) = a := if_neg z
      rw [ev] at i1 i2 hd
      refine ⟨i1, fun h => ?_, fun s hs hw => ?_⟩
      · obtain ⟨s, h1, h2⟩ := i2 h
        exact ⟨s, by rw [th_lv_s, List.mem_append]; exact Or.inr h1, h2⟩
      · rw [th_lv_s, List.mem_append] at hs
        rcases hs with hs | hs
        · obtain ⟨h1, _, h3⟩ := th_lv_mem e _ (r + 1) (by omega) hx s hs
          have := th_lak_mono t p h3
          left
          omega
        · exact i3 s hs hw
  · intro st r a a1 a' k hr _ hf hd k2 ih1 ih ho
    obtain ⟨e, he⟩ : ∃ e, 3 - st.length = e + 1 := ⟨2 - st.length, by have := k.1; omega⟩
    obtain ⟨i1, i2, i3⟩ := ih ho
    obtain ⟨j1, j2, j3⟩ := ih1 (th_fit_own ho hf)
    have ll : ((13 - r) :: st).length = st.length + 1 := rfl
    have e4 : 3 - ((13 - r) :: st).length = e := by
      clear j2 j3 i2 i3
      omega
    rw [e4] at j2 j3
    rw [he] at i2 i3 ⊢
    have lk2 := k2.1
    have ev : th_vl t p a ((13 - r) :: st) = a := if_neg (fun h => by omega)
    rw [ev] at j1 j2
    refine ⟨by omega, fun h => ?_, fun s hs hw => ?_⟩
    · rcases Nat.lt_or_ge a' a1 with y | y
      · obtain ⟨s, h1, h2⟩ := i2 y
        exact ⟨s, by rw [th_lv_s, List.mem_append]; exact Or.inr h1, h2⟩
      · have ea : a' = a1 := by omega
        rw [ea] at h ⊢
        obtain ⟨s, h1, h2⟩ := j2 h
        exact ⟨s, by rw [th_lv_s, List.mem_append]; exact Or.inl h1, h2⟩
    · rw [th_lv_s, List.mem_append] at hs
      rcases hs with hs | hs
      · rcases j3 s hs hw with y | y
        · left; omega
        · right; omega
      · exact i3 s hs hw
  · intro a st h
    exact (decide_eq_true_iff.mp h).2
def th_vg (a : Nat) (st : List Nat) : Nat := if st.length ≤ a then a else st.length
def th_dg (_ : Nat) (st : List Nat) : Bool := decide (st.length ≤ 2)
theorem th_grp (t : Nat → Nat) (p : Nat) :
    ∀ d st, th_ks st → st.length + d = 3 → ∀ r, r ≤ 14 → ∀ a, th_own t p st = true →
      a ≤ th_dx (th_fit t p) th_vg th_dg (fun _ => false) d st a r ∧
      (th_dx (th_fit t p) th_vg th_dg (fun _ => false) d st a r ≠ a → ∃ i s, st.length + i = th_dx (th_fit t p) th_vg th_dg (fun _ => false) d st a r ∧ st.length + i ≤ 3 ∧ s ∈ th_lv i st r ∧ th_own t p s = true) ∧
      (∀ i s, 1 ≤ i → st.length + i ≤ 3 → s ∈ th_lv i st r → th_own t p s = true → st.length + i ≤ th_dx (th_fit t p) th_vg th_dg (fun _ => false) d st a r) := by
  refine th_dx_ind (fun st r a a' => th_own t p st = true → a ≤ a' ∧ (a' ≠ a → ∃ i s, st.length + i = a' ∧ st.length + i ≤ 3 ∧ s ∈ th_lv i st r ∧ th_own t p s = true) ∧ (∀ i s, 1 ≤ i → st.length + i ≤ 3 → s ∈ th_lv i st r → th_own t p s = true → st.length + i ≤ a')) ?_ ?_ ?_ ?_ ?_ ?_
  · intro st a k _
    refine ⟨Nat.le_refl _, fun h => absurd rfl h, fun i s h1 h2 hs => ?_⟩
    obtain ⟨e, rfl⟩ : ∃ e, i = e + 1 := ⟨i - 1, by omega⟩
    rw [th_lv_z] at hs
    exact absurd hs List.not_mem_nil
  · intro st r a _ _ h
    exact absurd h (by decide)
  · intro st r a a' k hr _ hf ih ho
    obtain ⟨i1, i2, i3⟩ := ih ho
    have hx : ∀ g, g ∈ (13 - r) :: st → g < 14 := by
      intro g hg
      rcases List.mem_cons.mp hg with e | e
      · omega
      · exact k.2 g e
    refine ⟨i1, fun h => ?_, fun i s h1 h2 hs hw => ?_⟩
    · obtain ⟨i, s, a1, a2, a3, a4⟩ := i2 h
      refine ⟨i, s, a1, a2, ?_, a4⟩
      cases i with
      | zero => exact a3
      | succ i =>
        rw [th_lv_s, List.mem_append]
        exact Or.inr a3
    · obtain ⟨e, rfl⟩ : ∃ e, i = e + 1 := ⟨i - 1, by omega⟩
      rw [th_lv_s, List.mem_append] at hs
      rcases hs with hs | hs
      · obtain ⟨_, _, h3⟩ := th_lv_mem e _ (r + 1) (by omega) hx s hs
        rw [th_fit_not h3 hf] at hw
        exact absurd hw (by decide)
      · exact i3 (e + 1) s h1 h2 hs hw
  · intro st r a a' k hr _ hf hd ih ho
    obtain ⟨i1, i2, i3⟩ := ih ho
    have ll : ((13 - r) :: st).length = st.length + 1 := rfl
    have ow := th_fit_own ho hf
    have hd := decide_eq_false_iff_not.mp hd
    have hk := k.1
    have ev : a ≤ th_vg a ((13 - r) :: st) ∧ st.length + 1 ≤ th_vg a ((13 - r) :: st) ∧ (th_vg a ((13 - r) :: st) ≠ a → th_vg a ((13 - r) :: st) = st.length + 1) := by
      unfold th_vg
      split <;> omega
    refine ⟨by omega, fun h => ?_, fun i s h1 h2 hs hw => ?_⟩
    · by_cases y : a' = th_vg a ((13 - r) :: st)
      · exact ⟨1, (13 - r) :: st, by omega, by omega, by rw [th_lv_s, List.mem_append, th_lv_0]; exact Or.inl List.mem_cons_self, ow⟩
      · obtain ⟨i, s, a1, a2, a3, a4⟩ := i2 y
        refine ⟨i, s, a1, a2, ?_, a4⟩
        cases i with
        | zero => exact a3
        | succ i =>
          rw [th_lv_s, List.mem_append]
          exact Or.inr a3
    · obtain ⟨e, rfl⟩ : ∃ e, i = e + 1 := ⟨i - 1, by omega⟩
      rw [th_lv_s, List.mem_append] at hs
      rcases hs with hs | hs
      · omega
      · exact i3 (e + 1) s h1 h2 hs hw
  · intro st r a a1 a' k hr _ hf hd k2 ih1 ih ho
    obtain ⟨i1, i2, i3⟩ := ih ho
    have ow := th_fit_own ho hf
    obtain ⟨j1, j2, j3⟩ := ih1 ow
    have ll : ((13 - r) :: st).length = st.length + 1 := rfl
    have hk := k.1
    have ev : a ≤ th_vg a ((13 - r) :: st) ∧ st.length + 1 ≤ th_vg a ((13 - r) :: st) ∧ (th_vg a ((13 - r) :: st) ≠ a → th_vg a ((13 - r) :: st) = st.length + 1) := by
      unfold th_vg
      split <;> omega
    refine ⟨by omega, fun h => ?_, fun i s h1 h2 hs hw => ?_⟩
    · by_cases y : a' = a1
      · by_cases y2 : a1 = th_vg a ((13 - r) :: st)
        · exact ⟨1, (13 - r) :: st, by omega, by omega, by rw [th_lv_s, List.mem_append, th_lv_0]; exact Or.inl List.mem_cons_self, ow⟩
        · obtain ⟨i, s, a1', a2, a3, a4⟩ := j2 y2
          exact ⟨i + 1, s, by omega, by omega, by rw [th_lv_s, List.mem_append]; exact Or.inl a3, a4⟩
      · obtain ⟨i, s, a1', a2, a3, a4⟩ := i2 y
        refine ⟨i, s, a1', a2, ?_, a4⟩
        cases i with
        | zero => exact a3
        | succ i =>
          rw [th_lv_s, List.mem_append]
          exact Or.inr a3
    · obtain ⟨e, rfl⟩ : ∃ e, i = e + 1 := ⟨i - 1, by omega⟩
      rw [th_lv_s, List.mem_append] at hs
      rcases hs with hs | hs
      · rcases Nat.eq_zero_or_pos e with z | z
        · subst z
          omega
        · have := j3 e s z (by omega) hs hw
          omega
      · exact i3 (e + 1) s h1 h2 hs hw
  · intro a st h
    exact decide_eq_true_iff.mp h
end
section
def th_T (t : Nat → Nat) : Nat → Int32 := fun k => nI (t k)
def th_L (t c : Nat → Nat) : Int32 := nI (th_s (fun k => c k - t k) 9)
def th_F (t c : Nat → Nat) : Int32 := nI (th_s (fun k => t k - c k) 9)
theorem th_L_congr {t c c' : Nat → Nat} (h : ∀ k, k < 9 → c k = c' k) : th_L t c = th_L t c' :=
  congrArg nI (th_s_congr 9 (fun k hk => by rw [h k hk]))
theorem th_F_congr {t c c' : Nat → Nat} (h : ∀ k, k < 9 → c k = c' k) : th_F t c = th_F t c' :=
  congrArg nI (th_s_congr 9 (fun k hk => by rw [h k hk]))
theorem th_sums_up {t c c' : Nat → Nat} {j : Nat} (hj : j < 9) (he : ∀ k, k < 9 → k ≠ j → c' k = c k) (hj' : c' j = c j + 1) :
    (t j ≤ c j → th_L t c + 1 = th_L t c' ∧ th_L t c' - 1 = th_L t c ∧ th_F t c = th_F t c') ∧ (c j < t j → th_L t c = th_L t c' ∧ th_F t c - 1 = th_F t c' ∧ th_F t c' + 1 = th_F t c) := by
  have a := th_s_pt (f := fun k => c k - t k) (g := fun k => c' k - t k) 9 hj (fun k hk hn => by
    show c' k - t k = c k - t k
    rw [he k hk hn])
  have b := th_s_pt (f := fun k => t k - c k) (g := fun k => t k - c' k) 9 hj (fun k hk hn => by
    show t k - c' k = t k - c k
    rw [he k hk hn])
  unfold th_L th_F
  constructor
  · intro h
    have e1 : th_s (fun k => c' k - t k) 9 = th_s (fun k => c k - t k) 9 + 1 := by omega
    have e2 : th_s (fun k => t k - c' k) 9 = th_s (fun k => t k - c k) 9 := by omega
    rw [e1, e2, nI_1, nI_pred]
    exact ⟨rfl, rfl, rfl⟩
  · intro h
    have e1 : th_s (fun k => c' k - t k) 9 = th_s (fun k => c k - t k) 9 := by omega
    have e2 : th_s (fun k => t k - c k) 9 = th_s (fun k => t k - c' k) 9 + 1 := by omega
    rw [e1, e2, nI_1, nI_pred]
    exact ⟨rfl, rfl, rfl⟩
theorem th_y_take {t c c' : Nat → Nat} {j : Nat} (hj : j < 9) (ht : t j ≤ 4) (hc : c j ≤ 20) (he : ∀ k, k < 9 → k ≠ j → c' k = c k) (hj' : c' j = c j + 1) {S lv : Int32} {ch gs rs : Nat → Int32} (hch : ∀ k, k < 9 → ch k = nI (c k)) (post : SY → Prop)
    (hp : ∀ ch' : Nat → Int32, (∀ k, k < 9 → ch' k = nI (c' k)) → post (S, th_L t c', th_F t c', lv, th_T t, ch', gs, rs)) : wpY_take post (S, th_L t c, th_F t c, lv, th_T t, ch, gs, rs) (nI j) := by
  have cl : (nI j).toNatClampNeg = j := nI_clamp (by omega)
  have vj : vp_in (nI j) 9 := vp_in_nI hj (by decide)
  obtain ⟨u1, u2⟩ := th_sums_up (t := t) hj he hj'
  have fin : ∀ L F : Int32, L = th_L t c' → F = th_F t c' → wY_take_38 post (nI j) S L F lv (th_T t) ch gs rs := by
    intro L F e1 e2
    subst e1 e2
    unfold wY_take_38
    refine ⟨vj, vj, nm_r (e' := upd ch j (nI (c j + 1))) (by rw [cl, hch j hj, nI_1]) (hp _ (fun k hk => ?_))⟩
    by_cases z : k = j
    · subst z
      rw [pk_us, hj']
    · rw [pk_un z, hch k hk, he k hk z]
  unfold wpY_take
  dsimp only
  refine ⟨vj, vj, pk_le (t j) (c j) (fun hl => nm_e ?_) (fun hl => nm_e ?_) (by rw [cl]; rfl) (by rw [cl, hch j hj])⟩
  · exact fin _ _ (u1 hl).1 (u1 hl).2.2
  · exact fin _ _ (u2 hl).1 (u2 hl).2.1
theorem th_y_give {t c c' : Nat → Nat} {j : Nat} (hj : j < 9) (ht : t j ≤ 4) (hc : c j ≤ 20) (he : ∀ k, k < 9 → k ≠ j → c' k = c k) (hj' : c' j = c j + 1) {S lv : Int32} {ch gs rs : Nat → Int32} (hch : ∀ k, k < 9 → ch k = nI (c' k)) (post : SY → Prop)
    (hp : ∀ ch' : Nat → Int32, (∀ k, k < 9 → ch' k = nI (c k)) → post (S, th_L t c, th_F t c, lv, th_T t, ch', gs, rs)) : wpY_giveBack post (S, th_L t c', th_F t c', lv, th_T t, ch, gs, rs) (nI j) := by
  have cl : (nI j).toNatClampNeg = j := nI_clamp (by omega)
  have vj : vp_in (nI j) 9 := vp_in_nI hj (by decide)
  obtain ⟨u1, u2⟩ := th_sums_up (t := t) hj he hj'
  have fin : ∀ L F : Int32, L = th_L t c → F = th_F t c → post (S, L, F, lv, th_T t, upd ch j (nI (c j)), gs, rs) := by
    intro L F e1 e2
    subst e1 e2
    refine hp _ (fun k hk => ?_)
    by_cases z : k = j
    · subst z
      rw [pk_us]
    · rw [pk_un z, hch k hk, he k hk z]
  unfold wpY_giveBack
  dsimp only
  refine ⟨vj, vj, nm_r (e' := upd ch j (nI (c j))) (by rw [cl, hch j hj, hj', nI_pred]) ⟨vj, vj, pk_le (t j) (c j) (fun hl => nm_e ?_) (fun hl => nm_e ?_) (by rw [cl]; rfl) (by rw [cl]; exact pk_us)⟩⟩
  · exact fin _ _ (u1 hl).2.1 (u1 hl).2.2.symm
  · exact fin _ _ (u2 hl).1.symm (u2 hl).2.2
def th_tl (g i : Nat) : Nat := if g ≤ 8 then g else g - 9 + i
def th_gp (g i k : Nat) : Nat := if g ≤ 8 then (if k = g then i else 0) else (if g ≤ k + 9 ∧ k + 9 < g + i then 1 else 0)
theorem th_tl_lt {g i : Nat} (hg : g < 14) (hi : i < 3) : th_tl g i < 9 := by
  unfold th_tl
  split <;> omega
theorem th_gp_0 (g k : Nat) : th_gp g 0 k = 0 := by
  unfold th_gp
  split
  · split <;> rfl
  · rw [if_neg (by omega)]
theorem th_gp_3 (g k : Nat) : th_gp g 3 k = th_gv g k := by
  unfold th_gp
  split
  · rename_i h
    rw [th_gv_t h]
  · rename_i h
    rw [th_gv_r (by omega)]
    by_cases z : g ≤ k + 9 ∧ k + 9 < g + 3
    · rw [if_pos z, if_pos (by omega)]
    · rw [if_neg z, if_neg (by omega)]
theorem th_gp_le (g i k : Nat) : th_gp g i k ≤ i := by
  unfold th_gp
  split
  · split <;> omega
  · split <;> omega
theorem th_gp_n {g i k : Nat} (h : k ≠ th_tl g i) : th_gp g (i + 1) k = th_gp g i k := by
  unfold th_tl at h
  unfold th_gp
  by_cases z : g ≤ 8
  · rw [if_pos z] at *
    rw [if_pos z, if_neg h, if_neg h]
  · rw [if_neg z] at *
    rw [if_neg z]
    by_cases y : g ≤ k + 9 ∧ k + 9 < g + i
    · rw [if_pos y, if_pos (by omega)]
    · rw [if_neg y, if_neg (by omega)]
theorem th_gp_s {g i : Nat} : th_gp g (i + 1) (th_tl g i) = th_gp g i (th_tl g i) + 1 := by
  unfold th_tl th_gp
  by_cases z : g ≤ 8
  · simp only [if_pos z, if_true]
  · simp only [if_neg z]
    rw [if_pos (by omega), if_neg (by omega)]
theorem th_y_tile {g i : Nat} (hg : g < 14) (hi : i < 3) (v : SY) (post : Int32 → Prop) (hp : post (nI (th_tl g i))) : wpY_tile post v (nI g) (nI i) := by
  obtain ⟨a1, a2, a3, a4, a5, a6, a7, a8⟩ := v
  unfold wpY_tile
  dsimp only
  unfold th_tl at hp
  refine pk_le 9 g (fun h => ?_) (fun h => ?_)
  · have e : nI g - 9 + nI i = nI (g - 9 + i) := by
      rw [show nI g - 9 = nI (g - 9) from pk_sub (b := 9) h, nI_add]
    rw [e]
    rw [if_neg (by omega)] at hp
    exact hp
  · rw [if_pos (by omega)] at hp
    exact hp
theorem th_y_takeGroup {t c c' : Nat → Nat} {g : Nat} (hg : g < 14) (ht : ∀ k, k < 9 → t k ≤ 4) (hc : ∀ k, k < 9 → c k ≤ 12) (hc' : ∀ k, k < 9 → c' k = c k + th_gv g k) {S lv : Int32} {ch gs rs : Nat → Int32} (hch : ∀ k, k < 9 → ch k = nI (c k)) (post : SY → Prop)
    (hp : ∀ ch' : Nat → Int32, (∀ k, k < 9 → ch' k = nI (c' k)) → post (S, th_L t c', th_F t c', lv, th_T t, ch', gs, rs)) : wpY_takeGroup post (S, th_L t c, th_F t c, lv, th_T t, ch, gs, rs) (nI g) := by
  have key : ∀ d i, i + d = 3 → ∀ n, d < n → ∀ ch : Nat → Int32, (∀ k, k < 9 → ch k = nI (c k + th_gp g i k)) → wY_takeGroup_2 post (nI g) n (nI i) S (th_L t (fun k => c k + th_gp g i k)) (th_F t (fun k => c k + th_gp g i k)) lv (th_T t) ch gs rs := by
    intro d
    induction d with
    | zero =>
      intro i hi n hn ch hch
      obtain ⟨m, rfl⟩ : ∃ m, n = m + 1 := ⟨n - 1, by omega⟩
      have e : i = 3 := by omega
      subst e
      have q : ∀ k, k < 9 → c k + th_gp g 3 k = c' k := fun k hk => by rw [th_gp_3, hc' k hk]
      rw [wY_takeGroup_2]
      refine br_t (by decide) ?_
      rw [th_L_congr q, th_F_congr q]
      exact hp ch (fun k hk => by rw [hch k hk, q k hk])
    | succ d ih =>
      intro i hi n hn ch hch
      obtain ⟨m, rfl⟩ : ∃ m, n = m + 1 := ⟨n - 1, by omega⟩
      rw [wY_takeGroup_2]
      have hj := th_tl_lt (i := i) hg (by omega)
      refine pk_le 3 i (fun h => by omega) (fun h => th_y_tile hg (by omega) _ _ ?_)
      refine th_y_take (c' := fun k => c k + th_gp g (i + 1) k) hj (ht _ hj) ?_ ?_ ?_ hch _ ?_
      · have := hc _ hj
        have := th_gp_le g i (th_tl g i)
        show c (th_tl g i) + th_gp g i (th_tl g i) ≤ 20
        omega
      · intro k hk hn
        show c k + th_gp g (i + 1) k = c k + th_gp g i k
        rw [th_gp_n hn]
      · show c (th_tl g i) + th_gp g (i + 1) (th_tl g i) = c (th_tl g i) + th_gp g i (th_tl g i) + 1
        rw [th_gp_s]
        omega
      · intro ch' hch'
        exact nm_r (nI_1 i) (ih (i + 1) (by omega) m (by omega) ch' hch')
  have q : ∀ k, k < 9 → c k = c k + th_gp g 0 k := fun k hk => by rw [th_gp_0]; rfl
  unfold wpY_takeGroup
  dsimp only
  refine ⟨4, ?_⟩
  rw [th_L_congr q, th_F_congr q]
  exact key 3 0 rfl 4 (by omega) ch (fun k hk => by rw [hch k hk, ← q k hk])
theorem th_y_giveGroup {t c c' : Nat → Nat} {g : Nat} (hg : g < 14) (ht : ∀ k, k < 9 → t k ≤ 4) (hc : ∀ k, k < 9 → c k ≤ 12) (hc' : ∀ k, k < 9 → c' k = c k + th_gv g k) {S lv : Int32} {ch gs rs : Nat → Int32} (hch : ∀ k, k < 9 → ch k = nI (c' k)) (post : SY → Prop)
    (hp : ∀ ch' : Nat → Int32, (∀ k, k < 9 → ch' k = nI (c k)) → post (S, th_L t c, th_F t c, lv, th_T t, ch', gs, rs)) : wpY_giveGroup post (S, th_L t c', th_F t c', lv, th_T t, ch, gs, rs) (nI g) := by
  have tot : ∀ i k, i ≤ 3 → th_gp g i k ≤ th_gv g k := by
    intro i k hi
    rw [← th_gp_3]
    unfold th_gp
    split
    · split <;> omega
    · by_cases z : g ≤ k + 9 ∧ k + 9 < g + i
      · rw [if_pos z, if_pos (by omega)]
        omega
      · rw [if_neg z]
        omega
  have key : ∀ d i, i + d = 3 → ∀ n, d < n → ∀ ch : Nat → Int32, (∀ k, k < 9 → ch k = nI (c k + (th_gv g k - th_gp g i k))) → wY_giveGroup_2 post (nI g) n (nI i) S (th_L t (fun k => c k + (th_gv g k - th_gp g i k))) (th_F t (fun k => c k + (th_gv g k - th_gp g i k))) lv (th_T t) ch gs rs := by
    intro d
    induction d with
    | zero =>
      intro i hi n hn ch hch
      obtain ⟨m, rfl⟩ : ∃ m, n = m + 1 := ⟨n - 1, by omega⟩
      have e : i = 3 := by omega
      subst e
      have q : ∀ k, k < 9 → c k + (th_gv g k - th_gp g 3 k) = c k := fun k hk => by rw [th_gp_3, Nat.sub_self]; rfl
      rw [wY_giveGroup_2]
      refine br_t (by decide) ?_
      rw [th_L_congr q, th_F_congr q]
      exact hp ch (fun k hk => by rw [hch k hk, q k hk])
    | succ d ih =>
      intro i hi n hn ch hch
      obtain ⟨m, rfl⟩ : ∃ m, n = m + 1 := ⟨n - 1, by omega⟩
      rw [wY_giveGroup_2]
      have hj := th_tl_lt (i := i) hg (by omega)
      refine pk_le 3 i (fun h => by omega) (fun h => th_y_tile hg (by omega) _ _ ?_)
      have w1 := th_gv_le g (th_tl g i)
      have w2 := tot (i + 1) (th_tl g i) (by omega)
      have w3 : th_gp g (i + 1) (th_tl g i) = th_gp g i (th_tl g i) + 1 := th_gp_s
      have w4 := hc _ hj
      refine th_y_give (c := fun k => c k + (th_gv g k - th_gp g (i + 1) k)) hj (ht _ hj) ?_ ?_ ?_ hch _ ?_
      · show c (th_tl g i) + (th_gv g (th_tl g i) - th_gp g (i + 1) (th_tl g i)) ≤ 20
        omega
      · intro k hk hn
        show c k + (th_gv g k - th_gp g i k) = c k + (th_gv g k - th_gp g (i + 1) k)
        rw [th_gp_n hn]
      · show c (th_tl g i) + (th_gv g (th_tl g i) - th_gp g i (th_tl g i)) = c (th_tl g i) + (th_gv g (th_tl g i) - th_gp g (i + 1) (th_tl g i)) + 1
        omega
      · intro ch' hch'
        exact nm_r (nI_1 i) (ih (i + 1) (by omega) m (by omega) ch' hch')
  have q : ∀ k, k < 9 → c' k = c k + (th_gv g k - th_gp g 0 k) := fun k hk => by rw [th_gp_0, hc' k hk]; rfl
  unfold wpY_giveGroup
  dsimp only
  refine ⟨4, ?_⟩
  rw [th_L_congr q, th_F_congr q]
  exact key 3 0 rfl 4 (by omega) ch (fun k hk => by rw [hch k hk, ← q k hk])
end
section
theorem th_y_begin {t : Nat → Nat} {L F lv : Int32} {ch gs rs : Nat → Int32} (post : SY → Prop)
    (hp : ∀ ch' : Nat → Int32, (∀ k, k < 9 → ch' k = nI 0) → post (nI (th_s t 9), th_L t (fun _ => 0), th_F t (fun _ => 0), lv, th_T t, ch', gs, rs)) : wpY_begin post (nI (th_s t 9), L, F, lv, th_T t, ch, gs, rs) := by
  have e1 : th_L t (fun _ => 0) = 0 := by
    unfold th_L
    rw [th_s_zero 9 (fun k _ => Nat.zero_sub _)]
    rfl
  have e2 : th_F t (fun _ => 0) = nI (th_s t 9) := rfl
  rw [e1, e2] at hp
  unfold wpY_begin
  dsimp only
  refine loop_0 (fun n i (c : Nat → Int32) => wY_begin_2 post (nI (th_s t 9)) L F lv n (nI i) (th_T t) c gs rs) (fun i c => ∀ k, k < i → c k = nI 0) 9 ch (fun k hk => absurd hk (Nat.not_lt_zero k)) (fun n c I => ?_) (fun n i c hi I K => ?_)
  · rw [wY_begin_2]
    exact br_t (by decide) (hp c I)
  · rw [wY_begin_2]
    refine pk_le 9 i (fun h => by omega) (fun h => ⟨vp_in_nI hi (by decide), nm_r (e' := upd c i (nI 0)) (by rw [nI_clamp (by omega)]; rfl) (nm_r (nI_1 i) (K _ ?_))⟩)
    intro k hk
    by_cases z : k = i
    · rw [z, pk_us]
    · rw [pk_un z]
      exact I k (by omega)
theorem th_y_fits {t c cap : Nat → Nat} {g : Nat} {ow : Int32} (hg : g < 14) (ht : ∀ k, k < 9 → t k ≤ 4) (hc : ∀ k, k < 9 → c k ≤ 12) (hw : (ow = 0 ∧ ∀ k, k < 9 → cap k = 4) ∨ (ow = 1 ∧ ∀ k, k < 9 → cap k = t k)) {S L F lv : Int32} {ch gs rs : Nat → Int32} (hch : ∀ k, k < 9 → ch k = nI (c k)) (post : Int32 → Prop)
    (h1 : (∀ k, k < 9 → th_gv g k ≠ 0 → c k + th_gv g k ≤ cap k) → post 1) (h0 : ¬ (∀ k, k < 9 → th_gv g k ≠ 0 → c k + th_gv g k ≤ cap k) → post 0) : wpY_fits post (S, L, F, lv, th_T t, ch, gs, rs) (nI g) ow := by
  have hcap : ∀ k, k < 9 → cap k ≤ 4 := by
    intro k hk
    rcases hw with ⟨_, w⟩ | ⟨_, w⟩
    · have := w k hk
      omega
    · have := w k hk
      have := ht k hk
      omega
  unfold wpY_fits
  dsimp only
  refine pk_le 9 g (fun h => ⟨4, ?_⟩) (fun h => ?_)
  · have key : ∀ d i, i + d = 3 → ∀ n, d < n → (∀ j, j < i → c (g - 9 + j) + 1 ≤ cap (g - 9 + j)) → wY_fits_39 post (nI g) ow S L F lv (th_T t) ch gs rs n (nI i) := by
      intro d
      induction d with
      | zero =>
        intro i hi n hn I
        obtain ⟨m, rfl⟩ : ∃ m, n = m + 1 := ⟨n - 1, by omega⟩
        have e : i = 3 := by omega
        subst e
        rw [wY_fits_39]
        refine br_t (by decide) (h1 (fun k hk hz => ?_))
        rw [th_gv_r h] at hz ⊢
        by_cases y : g ≤ k + 9 ∧ k + 7 ≤ g
        · rw [if_pos y]
          have := I (k + 9 - g) (by omega)
          rw [show g - 9 + (k + 9 - g) = k by omega] at this
          exact this
        · rw [if_neg y] at hz
          exact absurd rfl hz
      | succ d ih =>
        intro i hi n hn I
        obtain ⟨m, rfl⟩ : ∃ m, n = m + 1 := ⟨n - 1, by omega⟩
        rw [wY_fits_39]
        have ej : th_tl g i = g - 9 + i := if_neg (by omega)
        have hj : g - 9 + i < 9 := by omega
        have cl : (nI (g - 9 + i)).toNatClampNeg = g - 9 + i := nI_clamp (by omega)
        have vj : vp_in (nI (g - 9 + i)) 9 := vp_in_nI hj (by decide)
        have k76 : ∀ z0 z1 : Int32, z0 = nI (cap (g - 9 + i)) → z1 = nI (c (g - 9 + i) + 1) → wY_fits_76 post (wY_fits_39 post (nI g) ow S L F lv (th_T t) ch gs rs m) (nI g) ow (nI i) z0 z1 S L F lv (th_T t) ch gs rs := by
          intro z0 z1 e0 e1
          have b1 := hcap _ hj
          have b2 := hc _ hj
          unfold wY_fits_76
          refine pk_le (c (g - 9 + i) + 1) (cap (g - 9 + i)) (fun hl => nm_r (nI_1 i) (ih (i + 1) (by omega) m (by omega) (fun j hj2 => ?_))) (fun hl => h0 (fun q => ?_)) e1 e0
          · rcases Nat.lt_or_ge j i with y | y
            · exact I j y
            · have : j = i := by omega
              subst this
              exact hl
          · have := q (g - 9 + i) hj
            rw [th_gv_r h, if_pos (by omega)] at this
            have := this (by decide)
            omega
        refine pk_le 3 i (fun h => by omega) (fun _ => th_y_tile hg (by omega) _ _ ?_)
        rw [ej, cl]
        refine ⟨vj, ?_⟩
        have ez : ch (g - 9 + i) + 1 = nI (c (g - 9 + i) + 1) := by rw [hch _ hj, nI_1]
        rcases hw with ⟨rfl, w⟩ | ⟨rfl, w⟩
        · exact br_t rfl (k76 _ _ (by rw [w _ hj]; rfl) ez)
        · exact br_f (by decide) ⟨vj, k76 _ _ (by rw [w _ hj]; rfl) ez⟩
    exact key 3 0 rfl 4 (by omega) (fun j hj => absurd hj (Nat.not_lt_zero j))
  · have hj : g < 9 := h
    have cl : (nI g).toNatClampNeg = g := nI_clamp (by omega)
    have vj : vp_in (nI g) 9 := vp_in_nI hj (by decide)
    have b1 := hcap g hj
    have b2 := hc g hj
    have k28 : ∀ z0 z1 : Int32, z0 = nI (cap g) → z1 = nI (c g + 3) → wY_fits_28 post z0 z1 S L F lv (th_T t) ch gs rs := by
      intro z0 z1 e0 e1
      unfold wY_fits_28
      refine pk_lt (cap g) (c g + 3) (fun hl => h0 (fun q => ?_)) (fun hl => h1 (fun k hk hz => ?_)) e0 e1
      · have := q g hj
        rw [th_gv_t (by omega), if_pos rfl] at this
        have := this (by decide)
        omega
      · rw [th_gv_t (by omega)] at hz ⊢
        by_cases y : k = g
        · rw [if_pos y, y]
          exact hl
        · rw [if_neg y] at hz
          exact absurd rfl hz
    have ez : ch g + 3 = nI (c g + 3) := by
      rw [hch g hj]
      exact nI_add (c g) 3
    rw [cl]
    refine ⟨vj, ?_⟩
    rcases hw with ⟨rfl, w⟩ | ⟨rfl, w⟩
    · exact br_t rfl (k28 _ _ (by rw [w _ hj]; rfl) ez)
    · exact br_f (by decide) ⟨vj, k28 _ _ (by rw [w _ hj]; rfl) ez⟩
def th_gs : List Nat → (Nat → Int32) → Prop
  | [], _ => True
  | h :: st, gs => gs st.length = nI h ∧ th_gs st gs
theorem th_gs_upd {gs : Nat → Int32} {k : Nat} {x : Int32} : ∀ st : List Nat, st.length ≤ k → th_gs st gs → th_gs st (upd gs k x)
  | [], _, _ => True.intro
  | h :: st, hk, hg => by
    rw [List.length_cons] at hk
    exact ⟨by rw [pk_un (by omega)]; exact hg.1, th_gs_upd st (by omega) hg.2⟩
theorem th_fit_c {cap : Nat → Nat} {p x : Nat} {st : List Nat} : th_fit cap p st x = true ↔ ∀ k, k < 9 → th_gv x k ≠ 0 → th_vec p st k + th_gv x k ≤ cap k := th_fit_iff
section
variable {t cap : Nat → Nat} {p : Nat} {ow : Int32} {st : List Nat} {S : Int32} {ch gs rs : Nat → Int32} {post : Int32 → SY → Prop}
theorem th_y_ch_no {r : Nat} (hr14 : r < 14) (ht : ∀ k, k < 9 → t k ≤ 4) (hw : (ow = 0 ∧ ∀ k, k < 9 → cap k = 4) ∨ (ow = 1 ∧ ∀ k, k < 9 → cap k = t k)) (hk : th_ks st) (hch : ∀ k, k < 9 → ch k = nI (th_vec p st k)) (hgs : th_gs st gs) (hr : gs st.length + 1 = nI (14 - (r + 1)))
    (hf : th_fit cap p st (13 - r) = false)
    (hp : ∀ gs' : Nat → Int32, th_gs st gs' → gs' st.length + 1 = nI (14 - r) → post 0 (S, th_L t (th_vec p st), th_F t (th_vec p st), nI st.length, th_T t, ch, gs', rs)) :
    wpY_choose post (S, th_L t (th_vec p st), th_F t (th_vec p st), nI st.length, th_T t, ch, gs, rs) ow := by
  have hl := hk.1
  have cl : (nI st.length).toNatClampNeg = st.length := nI_clamp (by omega)
  have vl : vp_in (nI st.length) 4 := vp_in_nI (by omega) (by decide)
  have hv : ∀ k, k < 9 → th_vec p st k ≤ 12 := fun k _ => by
    have := th_vec_le p st k
    omega
  rw [show 14 - (r + 1) = 13 - r by omega] at hr
  unfold wpY_choose
  dsimp only
  refine ⟨vl, vl, nm_r (e' := upd gs st.length (nI (13 - r))) (by rw [cl, hr]) ⟨vl, ?_⟩⟩
  rw [cl, pk_us]
  refine pk_le (13 - r) 13 (fun _ => ⟨vl, ?_⟩) (fun h => by omega)
  refine th_y_fits (cap := cap) (by omega) ht hv hw hch _ (fun q => ?_) (fun q => ?_)
  · rw [th_fit_c.mpr q] at hf
    exact absurd hf (by decide)
  · refine br_t rfl (hp _ (th_gs_upd st (Nat.le_refl _) hgs) ?_)
    rw [pk_us, nI_1]
    exact congrArg nI (by omega)
theorem th_y_ch_fit {r : Nat} (hr14 : r < 14) (ht : ∀ k, k < 9 → t k ≤ 4) (hw : (ow = 0 ∧ ∀ k, k < 9 → cap k = 4) ∨ (ow = 1 ∧ ∀ k, k < 9 → cap k = t k)) (hk : th_ks st) (hch : ∀ k, k < 9 → ch k = nI (th_vec p st k)) (hgs : th_gs st gs) (hr : gs st.length + 1 = nI (14 - (r + 1)))
    (hf : th_fit cap p st (13 - r) = true)
    (hp : ∀ ch' gs' : Nat → Int32, (∀ k, k < 9 → ch' k = nI (th_vec p ((13 - r) :: st) k)) → th_gs ((13 - r) :: st) gs' → post 1 (S, th_L t (th_vec p ((13 - r) :: st)), th_F t (th_vec p ((13 - r) :: st)), nI st.length, th_T t, ch', gs', rs)) :
    wpY_choose post (S, th_L t (th_vec p st), th_F t (th_vec p st), nI st.length, th_T t, ch, gs, rs) ow := by
  have hl := hk.1
  have cl : (nI st.length).toNatClampNeg = st.length := nI_clamp (by omega)
  have vl : vp_in (nI st.length) 4 := vp_in_nI (by omega) (by decide)
  have hv : ∀ k, k < 9 → th_vec p st k ≤ 12 := fun k _ => by
    have := th_vec_le p st k
    omega
  rw [show 14 - (r + 1) = 13 - r by omega] at hr
  unfold wpY_choose
  dsimp only
  refine ⟨vl, vl, nm_r (e' := upd gs st.length (nI (13 - r))) (by rw [cl, hr]) ⟨vl, ?_⟩⟩
  rw [cl, pk_us]
  refine pk_le (13 - r) 13 (fun _ => ⟨vl, ?_⟩) (fun h => by omega)
  refine th_y_fits (cap := cap) (by omega) ht hv hw hch _ (fun q => ?_) (fun q => ?_)
  · refine br_f (by decide) ⟨vl, ?_⟩
    refine th_y_takeGroup (c' := th_vec p ((13 - r) :: st)) (by omega) ht hv (fun k _ => rfl) hch _ (fun ch' h' => ?_)
    exact hp ch' _ h' ⟨pk_us, th_gs_upd st (Nat.le_refl _) hgs⟩
  · exact absurd (th_fit_c.mp hf) q
theorem th_y_ch_pop {h : Nat} (ht : ∀ k, k < 9 → t k ≤ 4) (hk : th_ks (h :: st)) (hch : ∀ k, k < 9 → ch k = nI (th_vec p (h :: st) k)) (hgs : th_gs (h :: st) gs) (hr : gs (h :: st).length + 1 = nI (14 - 0))
    (hp : ∀ ch' gs' : Nat → Int32, (∀ k, k < 9 → ch' k = nI (th_vec p st k)) → th_gs st gs' → gs' st.length + 1 = nI (14 - (13 - h)) → post 0 (S, th_L t (th_vec p st), th_F t (th_vec p st), nI st.length, th_T t, ch', gs', rs)) :
    wpY_choose post (S, th_L t (th_vec p (h :: st)), th_F t (th_vec p (h :: st)), nI (h :: st).length, th_T t, ch, gs, rs) ow := by
  have hl := hk.1
  have hh : h < 14 := hk.2 h List.mem_cons_self
  rw [List.length_cons] at hr hl ⊢
  have cl : (nI (st.length + 1)).toNatClampNeg = st.length + 1 := nI_clamp (by omega)
  have cl0 : (nI st.length).toNatClampNeg = st.length := nI_clamp (by omega)
  have vl : vp_in (nI (st.length + 1)) 4 := vp_in_nI (by omega) (by decide)
  have hv : ∀ k, k < 9 → th_vec p st k ≤ 12 := fun k _ => by
    have := th_vec_le p st k
    omega
  unfold wpY_choose
  dsimp only
  refine ⟨vl, vl, nm_r (e' := upd gs (st.length + 1) (nI 14)) (by rw [cl, hr]) ⟨vl, ?_⟩⟩
  rw [cl, pk_us]
  refine br_f (by decide) (nm_r (nI_pred st.length) (br_f (nI_pos (by omega)) ⟨vp_in_nI (by omega) (by decide), ?_⟩))
  rw [cl0, pk_un (by omega), hgs.1]
  refine th_y_giveGroup (c := th_vec p st) hh ht hv (fun k _ => rfl) hch _ (fun ch' h' => ?_)
  refine hp ch' (upd gs (st.length + 1) (nI 14)) h' (th_gs_upd st (by omega) hgs.2) ?_
  rw [pk_un (by omega), hgs.1, nI_1]
  exact congrArg nI (by omega)
theorem th_y_ch_end (hgs : gs 0 + 1 = nI 14) {L F : Int32} {a5 : Nat → Int32}
    (hp : ∀ gs' : Nat → Int32, post 0 (S, L, F, -1, a5, ch, gs', rs)) :
    wpY_choose post (S, L, F, nI 0, a5, ch, gs, rs) ow := by
  have cl : (nI 0).toNatClampNeg = 0 := nI_clamp (by omega)
  have vl : vp_in (nI 0) 4 := vp_in_nI (by omega) (by decide)
  unfold wpY_choose
  dsimp only
  refine ⟨vl, vl, nm_r (e' := upd gs 0 (nI 14)) (by rw [cl, hgs]) ⟨vl, ?_⟩⟩
  rw [cl, pk_us]
  exact br_f (by decide) (nm_r (e' := -1) (by decide) (br_t (by decide) (hp _)))
theorem th_y_deeper {x : Nat} (hl : st.length ≤ 2) (hgs : th_gs (x :: st) gs) {post : SY → Prop} {L F : Int32} {a5 : Nat → Int32}
    (hp : ∀ gs' : Nat → Int32, th_gs (x :: st) gs' → gs' (x :: st).length + 1 = nI x → post (S, L, F, nI (x :: st).length, a5, ch, gs', rs)) :
    wpY_deeper post (S, L, F, nI st.length, a5, ch, gs, rs) := by
  rw [List.length_cons] at hp
  unfold wpY_deeper
  dsimp only
  refine nm_r (nI_1 st.length) ⟨?_, vp_in_nI (by omega) (by decide), nm_r (e' := upd gs (st.length + 1) (nI x - 1)) ?_ (hp _ (th_gs_upd (x :: st) (Nat.le_refl _) hgs) ?_)⟩
  · rw [nI_pred]
    exact vp_in_nI (by omega) (by decide)
  · rw [nI_pred, nI_clamp (by omega), nI_clamp (by omega), hgs.1]
  · rw [pk_us, Int32.sub_add_cancel]
end
end
section
theorem th_gs0 (gs : Nat → Int32) : upd gs 0 (-1) 0 + 1 = nI 0 := by
  rw [pk_us]
  decide
theorem th_lak_lt (t : Nat → Nat) (p : Nat) (st : List Nat) : th_lak t p st ≤ 9 * (2 + 3 * st.length) := by
  have a := th_s_le (f := fun k => th_vec p st k - t k) (g := fun _ => 2 + 3 * st.length) 9 (fun k _ => by
    have := th_vec_le p st k
    show th_vec p st k - t k ≤ 2 + 3 * st.length
    omega)
  rw [th_s_const] at a
  exact a
theorem th_vl_le (t : Nat → Nat) (p a : Nat) (st : List Nat) : th_vl t p a st ≤ a := by
  unfold th_vl
  split <;> omega
def th_c4 : Nat → Nat := fun _ => 4
theorem th_w4 {t : Nat → Nat} : ((0 : Int32) = 0 ∧ ∀ k, k < 9 → th_c4 k = 4) ∨ ((0 : Int32) = 1 ∧ ∀ k, k < 9 → th_c4 k = t k) := Or.inl ⟨rfl, fun _ _ => rfl⟩
def th_low (t : Nat → Nat) (p en b : Nat) : Nat := th_dx (th_fit th_c4 p) (th_vl t p) (th_dl3 t p) (fun a => Nat.ble a en) 3 [] b 14
theorem th_y_least {t : Nat → Nat} {p b en : Nat} (ht : ∀ k, k < 9 → t k ≤ 4) (hb : b ≤ 100) (hen : en ≤ 100) {S lv : Int32} {ch gs rs : Nat → Int32} (hch : ∀ k, k < 9 → ch k = nI (th_vec p [] k)) (post : Int32 → SY → Prop)
    (hpost : ∀ (L F lv' : Int32) (ch' gs' : Nat → Int32), post (nI (th_low t p en b)) (S, L, F, lv', th_T t, ch', gs', rs)) :
    wpY_leastWith post (S, th_L t (th_vec p []), th_F t (th_vec p []), lv, th_T t, ch, gs, rs) (nI b) (nI en) := by
  have main : ∀ n a st r, th_ks st → r ≤ 14 → th_mu st r < n → (∀ (L F lv' : Int32) (ch' gs' : Nat → Int32), post (nI (th_up (th_fit th_c4 p) (th_vl t p) (th_dl3 t p) (fun a => Nat.ble a en) st (th_dx (th_fit th_c4 p) (th_vl t p) (th_dl3 t p) (fun a => Nat.ble a en) (3 - st.length) st a r))) (S, L, F, lv', th_T t, ch', gs', rs)) →
      (a ≤ 100 → ∀ ch gs : Nat → Int32, (∀ k, k < 9 → ch k = nI (th_vec p st k)) → th_gs st gs → gs st.length + 1 = nI (14 - r) → wY_leastWith_14 post (nI en) n (nI a) S (th_L t (th_vec p st)) (th_F t (th_vec p st)) (nI st.length) (th_T t) ch gs rs) := by
    refine th_dfs (fun n a st r => a ≤ 100 → ∀ ch gs : Nat → Int32, (∀ k, k < 9 → ch k = nI (th_vec p st k)) → th_gs st gs → gs st.length + 1 = nI (14 - r) → wY_leastWith_14 post (nI en) n (nI a) S (th_L t (th_vec p st)) (th_F t (th_vec p st)) (nI st.length) (th_T t) ch gs rs) (fun a => ∀ (L F lv' : Int32) (ch' gs' : Nat → Int32), post (nI a) (S, L, F, lv', th_T t, ch', gs', rs)) ?_ ?_ ?_ ?_ ?_ ?_ ?_
    · intro n a st r hk hr hs hp ha ch gs hch hgs hrr
      have hl := hk.1
      rw [Nat.ble_eq] at hs
      rw [wY_leastWith_14]
      exact br_f (nI_pos (by omega)) (pk_le a en (fun _ => hp _ _ _ _ _) (fun h => by omega))
    · intro n a hs hp ha ch gs hch hgs hrr
      have hs : ¬ a ≤ en := fun h => by
        rw [Nat.ble_eq_true_of_le h] at hs
        exact absurd hs (by decide)
      rw [wY_leastWith_14]
      refine br_f (nI_pos (by decide)) (pk_le a en (fun h => by omega) (fun h => ?_))
      refine th_y_ch_end hrr (fun gs' => br_t rfl ?_)
      rw [wY_leastWith_14]
      exact br_t (by decide) (hp _ _ _ _ _)
    · intro n a h st hk hs ih ha ch gs hch hgs hrr
      have hl := hk.1
      have hs : ¬ a ≤ en := fun h => by
        rw [Nat.ble_eq_true_of_le h] at hs
        exact absurd hs (by decide)
      rw [wY_leastWith_14]
      refine br_f (nI_pos (by omega)) (pk_le a en (fun h => by omega) (fun _ => ?_))
      exact th_y_ch_pop ht hk hch hgs hrr (fun ch' gs' h1 h2 h3 => br_t rfl (ih ha ch' gs' h1 h2 h3))
    · intro n a st r hk hr hs hf ih ha ch gs hch hgs hrr
      have hl := hk.1
      have hs : ¬ a ≤ en := fun h => by
        rw [Nat.ble_eq_true_of_le h] at hs
        exact absurd hs (by decide)
      rw [wY_leastWith_14]
      refine br_f (nI_pos (by omega)) (pk_le a en (fun h => by omega) (fun _ => ?_))
      exact th_y_ch_no hr ht th_w4 hk hch hgs hrr hf (fun gs' h2 h3 => br_t rfl (ih ha ch gs' hch h2 h3))
    · intro n a st r hk hr hs hf hd hk2 ih ha ch gs hch hgs hrr
      have hl := hk.1
      have hl2 := hk2.1
      have hs : ¬ a ≤ en := fun h => by
        rw [Nat.ble_eq_true_of_le h] at hs
        exact absurd hs (by decide)
      have hd := (decide_eq_true_iff.mp hd).1
      have lb := th_lak_lt t p ((13 - r) :: st)
      rw [List.length_cons] at hl2 lb
      have ev : th_vl t p a ((13 - r) :: st) = a := if_neg (fun h => by
        have := h.2
        rw [List.length_cons] at this
        omega)
      rw [ev] at hd ih
      rw [wY_leastWith_14]
      refine br_f (nI_pos (by omega)) (pk_le a en (fun h => by omega) (fun _ => ?_))
      refine th_y_ch_fit hr ht th_w4 hk hch hgs hrr hf (fun ch' gs' h1 h2 => ?_)
      have fin : wY_leastWith_59 post (wY_leastWith_14 post (nI en) n) (nI en) (nI a) S (th_L t (th_vec p ((13 - r) :: st))) (th_F t (th_vec p ((13 - r) :: st))) (nI st.length) (th_T t) ch' gs' rs := by
        unfold wY_leastWith_59
        refine pk_le a (th_lak t p ((13 - r) :: st)) (fun h => by omega) (fun _ => ?_)
        exact th_y_deeper (by omega) h2 (fun gs'' g1 g2 => ih ha ch' gs'' h1 g1 (by rw [g2]; exact congrArg nI (by omega)))
      refine br_f (by decide) (pk_le a (th_lak t p ((13 - r) :: st)) (fun h => by omega) (fun _ => ?_))
      exact pk_eq st.length 2 (fun h => by omega) (fun _ => fin)
    · intro n a st r hk hr hs hf hd ih ha ch gs hch hgs hrr
      have hl := hk.1
      have hs : ¬ a ≤ en := fun h => by
        rw [Nat.ble_eq_true_of_le h] at hs
        exact absurd hs (by decide)
      have hd := decide_eq_false_iff_not.mp hd
      have lb := th_lak_lt t p ((13 - r) :: st)
      have vle := th_vl_le t p a ((13 - r) :: st)
      rw [List.length_cons] at lb
      rw [wY_leastWith_14]
      refine br_f (nI_pos (by omega)) (pk_le a en (fun h => by omega) (fun _ => ?_))
      refine th_y_ch_fit hr ht th_w4 hk hch hgs hrr hf (fun ch' gs' h1 h2 => ?_)
      have cl : (nI st.length).toNatClampNeg = st.length := nI_clamp (by omega)
      have hv : ∀ k, k < 9 → th_vec p st k ≤ 12 := fun k _ => by
        have := th_vec_le p st k
        omega
      have nd : ¬ th_lak t p ((13 - r) :: st) < th_vl t p a ((13 - r) :: st) := fun h => by
        unfold th_vl at h hd
        by_cases z : th_lak t p ((13 - r) :: st) < a ∧ ((13 - r) :: st).length = 3
        · rw [if_pos z] at h
          omega
        · rw [if_neg z] at h hd
          rw [List.length_cons] at z hd
          omega
      have fin : ∀ x : Int32, x = nI (th_vl t p a ((13 - r) :: st)) → wY_leastWith_59 post (wY_leastWith_14 post (nI en) n) (nI en) x S (th_L t (th_vec p ((13 - r) :: st))) (th_F t (th_vec p ((13 - r) :: st))) (nI st.length) (th_T t) ch' gs' rs := by
        intro x ex
        subst ex
        unfold wY_leastWith_59
        refine pk_le (th_vl t p a ((13 - r) :: st)) (th_lak t p ((13 - r) :: st)) (fun h => ⟨vp_in_nI (by omega) (by decide), ?_⟩) (fun h => by omega)
        rw [cl, h2.1]
        refine th_y_giveGroup (c := th_vec p st) (by omega) ht hv (fun k _ => rfl) h1 _ (fun ch'' h'' => ?_)
        exact ih (by omega) ch'' gs' h'' h2.2 (by rw [h2.1, nI_1]; exact congrArg nI (by omega))
      refine br_f (by decide) (pk_le a (th_lak t p ((13 - r) :: st)) (fun h => fin _ ?_) (fun h => pk_eq st.length 2 (fun h2 => fin _ ?_) (fun h2 => fin _ ?_)))
      · have e : th_vl t p a ((13 - r) :: st) = a := if_neg (fun z => by omega)
        rw [e]
      · have e : th_vl t p a ((13 - r) :: st) = th_lak t p ((13 - r) :: st) := if_pos ⟨h, by rw [List.length_cons]; omega⟩
        rw [e]
        rfl
      · have e : th_vl t p a ((13 - r) :: st) = a := if_neg (fun z => by
          have := z.2
          rw [List.length_cons] at this
          omega)
        rw [e]
    · intro a st h
      exact (decide_eq_true_iff.mp h).2
  unfold wpY_leastWith
  dsimp only
  refine nm_e ⟨th_mu [] 14 + 1, ?_⟩
  exact main _ b [] 14 ⟨by decide, fun g hg => absurd hg List.not_mem_nil⟩ (Nat.le_refl _) (by omega) hpost hb ch _ hch True.intro (th_gs0 gs)
end
section
theorem th_LX_mem {e w : Nat} : w ∈ th_LX e ↔ (e, w) ∈ th_P 9 := by
  unfold th_LX
  rw [List.mem_map]
  constructor
  · rintro ⟨⟨a, b⟩, h, e1⟩
    rw [List.mem_filter, Nat.beq_eq] at h
    have e2 : a = e := h.2
    have e3 : b = w := e1
    rw [← e2, ← e3]
    exact h.1
  · intro h
    exact ⟨(e, w), List.mem_filter.mpr ⟨h, Nat.beq_refl e⟩, rfl⟩
theorem th_vec16 {p : Nat} {s : List Nat} (h : s.length ≤ 3) : ∀ j, j < 9 → th_vec p s j < 16 := fun j _ => by
  have := th_vec_le p s j
  omega
theorem th_l4_iff {p : Nat} {s : List Nat} (h : s.length ≤ 3) : th_l4 (th_cd (th_vec p s) 9) = true ↔ th_own th_c4 p s = true := by
  unfold th_l4
  rw [th_all_cd _ _ 9 (th_vec16 h), th_own_iff]
  constructor
  · intro a k hk
    exact Nat.le_of_ble_eq_true (a k hk)
  · intro a k hk
    exact Nat.ble_eq_true_of_le (a k hk)
theorem th_lv_len {d : Nat} {s : List Nat} (h : s ∈ th_lv d [] 14) : s.length = d ∧ ∀ g, g ∈ s → g < 14 := by
  obtain ⟨a, b, _⟩ := th_lv_mem d [] 14 (Nat.le_refl _) (fun g hg => absurd hg List.not_mem_nil) s h
  exact ⟨by rw [a, List.length_nil]; omega, b⟩
theorem th_LYp_mem {p g w : Nat} (hg : g ≤ 3) : w ∈ th_LYp p g ↔ ∃ s, s ∈ th_lv g [] 14 ∧ th_own th_c4 p s = true ∧ w = th_cd (th_vec p s) 9 := by
  unfold th_LYp
  rw [List.mem_filter, List.mem_map]
  constructor
  · rintro ⟨⟨s, hs, e⟩, h⟩
    subst e
    exact ⟨s, hs, (th_l4_iff (by rw [(th_lv_len hs).1]; exact hg)).mp h, rfl⟩
  · rintro ⟨s, hs, h, e⟩
    subst e
    exact ⟨⟨s, hs, rfl⟩, (th_l4_iff (by rw [(th_lv_len hs).1]; exact hg)).mpr h⟩
theorem th_LY1_mem {g w : Nat} (hg : g ≤ 3) : w ∈ th_LY1 g ↔ ∃ p s, p < 9 ∧ s ∈ th_lv g [] 14 ∧ th_own th_c4 p s = true ∧ w = th_cd (th_vec p s) 9 := by
  unfold th_LY1
  rw [List.mem_flatMap]
  constructor
  · rintro ⟨p, hp, h⟩
    obtain ⟨s, h1, h2, h3⟩ := (th_LYp_mem hg).mp h
    exact ⟨p, s, List.mem_range.mp hp, h1, h2, h3⟩
  · rintro ⟨p, s, hp, h⟩
    exact ⟨p, List.mem_range.mpr hp, (th_LYp_mem hg).mpr ⟨s, h⟩⟩
theorem th_7_mem {w : Nat} : (7, w) ∈ th_P 9 ↔ ∃ p s, p < 9 ∧ s ∈ th_lv 3 [] 14 ∧ th_own th_c4 p s = true ∧ w = th_cd (th_vec p s) 9 := by
  rw [← th_LX_mem, (th_perm_of th_T1_7).mem_iff]
  exact th_LY1_mem (by decide)
theorem th_lk_vec (t : Nat → Nat) {p : Nat} {s : List Nat} (h : s.length ≤ 3) : th_lk t 9 (th_cd (th_vec p s) 9) = th_lak t p s :=
  th_lk_cd t _ 9 (th_vec16 h)
theorem th_lak_11 (t : Nat → Nat) {p : Nat} {s : List Nat} (hp : p < 9) (h : s ∈ th_lv 3 [] 14) : th_lak t p s ≤ 11 ∧ 11 - th_s t 9 ≤ th_lak t p s := by
  obtain ⟨a, b⟩ := th_lv_len h
  have c := th_vec_sum p s b
  rw [th_pv_sum p hp, a] at c
  have d := th_s_le (f := fun k => th_vec p s k - t k) (g := th_vec p s) 9 (fun k _ => Nat.sub_le _ _)
  have e := th_s_le (f := th_vec p s) (g := fun k => (th_vec p s k - t k) + t k) 9 (fun k _ => by
    show th_vec p s k ≤ th_vec p s k - t k + t k
    omega)
  rw [th_s_add] at e
  unfold th_lak
  have e' : th_s (fun k => t k) 9 = th_s t 9 := rfl
  omega
def th_mn (f : Nat → Nat) : List Nat → Nat
  | [] => 1000
  | w :: l => if f w ≤ th_mn f l then f w else th_mn f l
theorem th_mn_le (f : Nat → Nat) : ∀ (l : List Nat) (w : Nat), w ∈ l → th_mn f l ≤ f w
  | [], w, h => absurd h List.not_mem_nil
  | x :: l, w, h => by
    have a : th_mn f (x :: l) ≤ f x ∧ th_mn f (x :: l) ≤ th_mn f l := by
      rw [th_mn]
      split <;> omega
    rcases List.mem_cons.mp h with e | e
    · rw [e]
      exact a.1
    · exact Nat.le_trans a.2 (th_mn_le f l w e)
theorem th_mn_att (f : Nat → Nat) : ∀ l : List Nat, th_mn f l = 1000 ∨ ∃ w, w ∈ l ∧ th_mn f l = f w
  | [] => Or.inl rfl
  | x :: l => by
    rw [th_mn]
    split
    · exact Or.inr ⟨x, List.mem_cons_self, rfl⟩
    · rcases th_mn_att f l with h | ⟨w, h1, h2⟩
      · exact Or.inl h
      · exact Or.inr ⟨w, List.mem_cons_of_mem _ h1, h2⟩
def th_D (t : Nat → Nat) : Nat := th_mn (th_lk t 9) (th_LX 7)
theorem th_ne7 : (th_LX 7).isEmpty = false := by decide +kernel
theorem th_ex7 : ∃ w, w ∈ th_LX 7 := by
  have h := th_ne7
  cases z : th_LX 7 with
  | nil =>
    rw [z] at h
    exact absurd h (by decide)
  | cons a l => exact ⟨a, List.mem_cons_self⟩
theorem th_D_le (t : Nat → Nat) {p : Nat} {s : List Nat} (hp : p < 9) (hs : s ∈ th_lv 3 [] 14) (ho : th_own th_c4 p s = true) : th_D t ≤ th_lak t p s := by
  rw [← th_lk_vec t (by rw [(th_lv_len hs).1]; decide)]
  exact th_mn_le _ _ _ (th_LX_mem.mpr (th_7_mem.mpr ⟨p, s, hp, hs, ho, rfl⟩))
theorem th_D_att (t : Nat → Nat) : ∃ p s, p < 9 ∧ s ∈ th_lv 3 [] 14 ∧ th_own th_c4 p s = true ∧ th_lak t p s = th_D t := by
  obtain ⟨w, hw⟩ := th_ex7
  have hle := th_mn_le (th_lk t 9) _ w hw
  obtain ⟨p, s, h1, h2, h3, h4⟩ := th_7_mem.mp (th_LX_mem.mp hw)
  rw [h4, th_lk_vec t (by rw [(th_lv_len h2).1]; decide)] at hle
  have b := (th_lak_11 t h1 h2).1
  rcases th_mn_att (th_lk t 9) (th_LX 7) with h | ⟨w', hw', e⟩
  · omega
  · obtain ⟨p', s', g1, g2, g3, g4⟩ := th_7_mem.mp (th_LX_mem.mp hw')
    refine ⟨p', s', g1, g2, g3, ?_⟩
    rw [g4, th_lk_vec t (by rw [(th_lv_len g2).1]; decide)] at e
    exact e.symm
theorem th_D_11 (t : Nat → Nat) : th_D t ≤ 11 := by
  obtain ⟨p, s, h1, h2, h3, h4⟩ := th_D_att t
  rw [← h4]
  exact (th_lak_11 t h1 h2).1
def th_inv (t : Nat → Nat) (en i b : Nat) : Prop :=
  b ≤ 12 ∧ (b < 12 → ∃ p s, p < i ∧ s ∈ th_lv 3 [] 14 ∧ th_own th_c4 p s = true ∧ th_lak t p s = b) ∧ ∀ p s, p < i → s ∈ th_lv 3 [] 14 → th_own th_c4 p s = true → b ≤ th_lak t p s ∨ b ≤ en
theorem th_own0 (p : Nat) : th_own th_c4 p [] = true := by
  rw [th_own_iff]
  intro k _
  show th_pv p k ≤ 4
  rw [th_pv_if]
  split <;> decide
theorem th_low_spec (t : Nat → Nat) (p en b : Nat) : th_low t p en b ≤ b ∧ (th_low t p en b < b → ∃ s, s ∈ th_lv 3 [] 14 ∧ th_own th_c4 p s = true ∧ th_lak t p s = th_low t p en b) ∧ ∀ s, s ∈ th_lv 3 [] 14 → th_own th_c4 p s = true → th_low t p en b ≤ th_lak t p s ∨ th_low t p en b ≤ en :=
  th_least t p en 3 [] ⟨by decide, fun g hg => absurd hg List.not_mem_nil⟩ rfl 14 (Nat.le_refl _) b (th_own0 p)
theorem th_inv_s {t : Nat → Nat} {en i b : Nat} (h : th_inv t en i b) : th_inv t en (i + 1) (th_low t i en b) := by
  obtain ⟨h1, h2, h3⟩ := h
  obtain ⟨l1, l2, l3⟩ := th_low_spec t i en b
  refine ⟨Nat.le_trans l1 h1, fun hl => ?_, fun p s hp hs ho => ?_⟩
  · rcases Nat.lt_or_ge (th_low t i en b) b with z | z
    · obtain ⟨s, a1, a2, a3⟩ := l2 z
      exact ⟨i, s, Nat.lt_succ_self i, a1, a2, a3⟩
    · have e : th_low t i en b = b := Nat.le_antisymm l1 z
      rw [e] at hl ⊢
      obtain ⟨p, s, a0, a1, a2, a3⟩ := h2 hl
      exact ⟨p, s, Nat.lt_succ_of_lt a0, a1, a2, a3⟩
  · rcases Nat.lt_or_ge p i with z | z
    · rcases h3 p s z hs ho with y | y
      · exact Or.inl (Nat.le_trans l1 y)
      · exact Or.inr (Nat.le_trans l1 y)
    · have e : p = i := Nat.le_antisymm (Nat.le_of_lt_succ hp) z
      subst e
      exact l3 s hs ho
theorem th_inv_9 {t : Nat → Nat} {b : Nat} (h : th_inv t (11 - th_s t 9) 9 b) : b = th_D t := by
  obtain ⟨h1, h2, h3⟩ := h
  have all : ∀ p s, p < 9 → s ∈ th_lv 3 [] 14 → th_own th_c4 p s = true → b ≤ th_lak t p s := by
    intro p s hp hs ho
    rcases h3 p s hp hs ho with y | y
    · exact y
    · exact Nat.le_trans y (th_lak_11 t hp hs).2
  obtain ⟨p, s, a1, a2, a3, a4⟩ := th_D_att t
  have u := all p s a1 a2 a3
  have w := (th_lak_11 t a1 a2).1
  obtain ⟨p', s', b1, b2, b3, b4⟩ := h2 (by
    clear h2
    omega)
  have x := th_D_le t b1 b2 b3
  clear h2
  omega
end
section
theorem th_y_pair {t : Nat → Nat} {p : Nat} (hp9 : p < 9) (ht : ∀ k, k < 9 → t k ≤ 4) {S lv : Int32} {ch gs rs : Nat → Int32} (hch : ∀ k, k < 9 → ch k = nI 0) (post : SY → Prop)
    (hp : ∀ ch' : Nat → Int32, (∀ k, k < 9 → ch' k = nI (th_vec p [] k)) → post (S, th_L t (th_vec p []), th_F t (th_vec p []), lv, th_T t, ch', gs, rs)) :
    wpY_take (fun u => match u with | (b1, b2, b3, b4, b5, b6, b7, b8) => wpY_take post (b1, b2, b3, b4, b5, b6, b7, b8) (nI p)) (S, th_L t (fun _ => 0), th_F t (fun _ => 0), lv, th_T t, ch, gs, rs) (nI p) := by
  refine th_y_take (c' := fun k => if k = p then 1 else 0) hp9 (ht p hp9) (by decide) (fun k _ hn => if_neg hn) (if_pos rfl) hch _ (fun ch' h' => ?_)
  dsimp only
  refine th_y_take (c' := th_vec p []) hp9 (ht p hp9) ?_ (fun k _ hn => ?_) ?_ h' _ hp
  · rw [if_pos rfl]
    decide
  · show th_pv p k = if k = p then 1 else 0
    rw [th_pv_if, if_neg hn, if_neg hn]
  · show th_pv p p = (if p = p then 1 else 0) + 1
    rw [th_pv_if, if_pos rfl, if_pos rfl]
theorem th_y_dist {t : Nat → Nat} (ht : ∀ k, k < 9 → t k ≤ 4) {L F lv : Int32} {ch gs rs : Nat → Int32} (post : Int32 → SY → Prop)
    (hp : ∀ (L F lv' : Int32) (ch' gs' : Nat → Int32), post (nI (th_D t)) (nI (th_s t 9), L, F, lv', th_T t, ch', gs', rs)) :
    wpY_distance post (nI (th_s t 9), L, F, lv, th_T t, ch, gs, rs) := by
  have hS : th_s t 9 ≤ 36 := by
    have := th_s_le (f := t) (g := fun _ => 4) 9 (fun k hk => ht k hk)
    rw [th_s_const] at this
    exact this
  have key : ∀ d i, i + d = 9 → ∀ n, d < n → ∀ (b : Nat) (L F lv : Int32) (ch gs : Nat → Int32), th_inv t (11 - th_s t 9) i b → wY_distance_26 post (nI (11 - th_s t 9)) n (nI b) (nI i) (nI (th_s t 9)) L F lv (th_T t) ch gs rs := by
    intro d
    induction d with
    | zero =>
      intro i hi n hn b L F lv ch gs I
      obtain ⟨m, rfl⟩ : ∃ m, n = m + 1 := ⟨n - 1, by omega⟩
      have e : i = 9 := by omega
      subst e
      rw [wY_distance_26]
      refine br_t (by decide) ?_
      rw [th_inv_9 I]
      exact hp _ _ _ _ _
    | succ d ih =>
      intro i hi n hn b L F lv ch gs I
      obtain ⟨m, rfl⟩ : ∃ m, n = m + 1 := ⟨n - 1, by omega⟩
      rw [wY_distance_26]
      refine pk_le 9 i (fun h => by omega) (fun h => th_y_begin _ (fun ch1 h1 => ?_))
      dsimp only
      refine th_y_pair h ht h1 _ (fun ch2 h2 => ?_)
      dsimp only
      have hb := I.1
      refine th_y_least ht (by omega) (by omega) h2 _ (fun L F lv ch gs => ?_)
      dsimp only
      exact nm_r (nI_1 i) (ih (i + 1) (by omega) m (by omega) _ _ _ _ _ _ (th_inv_s I))
  have I0 : th_inv t (11 - th_s t 9) 0 12 := ⟨Nat.le_refl _, fun h => absurd h (by decide), fun p s hp => absurd hp (Nat.not_lt_zero p)⟩
  unfold wpY_distance
  dsimp only
  refine pk_le 11 (th_s t 9) (fun h => ⟨10, ?_⟩) (fun h => nm_r (e' := nI (11 - th_s t 9)) ?_ ⟨10, ?_⟩)
  · have := key 9 0 rfl 10 (by omega) 12 L F lv ch gs I0
    rw [show 11 - th_s t 9 = 0 by omega] at this
    exact this
  · exact pk_sub (a := 11) (by omega)
  · exact key 9 0 rfl 10 (by omega) 12 L F lv ch gs I0
def th_bp (t : Nat → Nat) (j : Nat) : Nat → Nat := fun k => if k = j then t k + 1 else t k
def th_dn (t : Nat → Nat) (j : Nat) : Nat → Nat := fun k => if k = j then t k - 1 else t k
theorem th_T_bp (t : Nat → Nat) (j : Nat) : upd (th_T t) j (nI (t j + 1)) = th_T (th_bp t j) := by
  funext k
  unfold upd th_T th_bp
  by_cases z : k = j
  · rw [if_pos z, if_pos z, z]
  · rw [if_neg z, if_neg z]
theorem th_T_dn (t : Nat → Nat) (j : Nat) : upd (th_T t) j (nI (t j - 1)) = th_T (th_dn t j) := by
  funext k
  unfold upd th_T th_dn
  by_cases z : k = j
  · rw [if_pos z, if_pos z, z]
  · rw [if_neg z, if_neg z]
theorem th_dn_bp (t : Nat → Nat) (j : Nat) : th_dn (th_bp t j) j = t := by
  funext k
  unfold th_dn th_bp
  by_cases z : k = j
  · rw [if_pos z, if_pos z]
    rfl
  · rw [if_neg z, if_neg z]
theorem th_bp_dn {t : Nat → Nat} {j : Nat} (h : 0 < t j) : th_bp (th_dn t j) j = t := by
  funext k
  unfold th_dn th_bp
  dsimp only
  by_cases z : k = j
  · rw [if_pos z, if_pos z, z]
    omega
  · rw [if_neg z, if_neg z]
theorem th_bp_s (t : Nat → Nat) {j : Nat} (hj : j < 9) : th_s (th_bp t j) 9 = th_s t 9 + 1 := by
  have := th_s_pt (f := t) (g := th_bp t j) 9 hj (fun k _ hn => if_neg hn)
  have e : th_bp t j j = t j + 1 := if_pos rfl
  omega
theorem th_dn_s {t : Nat → Nat} {j : Nat} (hj : j < 9) (h : 0 < t j) : th_s t 9 = th_s (th_dn t j) 9 + 1 := by
  have := th_bp_s (th_dn t j) hj
  rw [th_bp_dn h] at this
  exact this
theorem th_bp_4 {t : Nat → Nat} {j : Nat} (ht : ∀ k, k < 9 → t k ≤ 4) (h : t j < 4) : ∀ k, k < 9 → th_bp t j k ≤ 4 := by
  intro k hk
  unfold th_bp
  by_cases z : k = j
  · rw [if_pos z, z]
    omega
  · rw [if_neg z]
    exact ht k hk
theorem th_dn_4 {t : Nat → Nat} {j : Nat} (ht : ∀ k, k < 9 → t k ≤ 4) : ∀ k, k < 9 → th_dn t j k ≤ 4 := by
  intro k hk
  have := ht k hk
  unfold th_dn
  split <;> omega
theorem th_y_up {t : Nat → Nat} {j : Nat} (hj : j < 9) {L F lv : Int32} {ch gs rs : Nat → Int32} (post : SY → Prop) (hp : post (nI (th_s (th_bp t j) 9), L, F, lv, th_T (th_bp t j), ch, gs, rs)) :
    wpY_change post (nI (th_s t 9), L, F, lv, th_T t, ch, gs, rs) (nI j) 1 := by
  have cl : (nI j).toNatClampNeg = j := nI_clamp (by omega)
  have vj : vp_in (nI j) 9 := vp_in_nI hj (by decide)
  unfold wpY_change
  dsimp only
  refine ⟨vj, vj, nm_r (e' := th_T (th_bp t j)) ?_ (nm_r (e' := nI (th_s (th_bp t j) 9)) ?_ hp)⟩
  · rw [cl, ← th_T_bp]
    show upd (th_T t) j (nI (t j) + 1) = _
    rw [nI_1]
  · rw [nI_1, th_bp_s t hj]
theorem th_y_dn {t : Nat → Nat} {j : Nat} (hj : j < 9) (h : 0 < t j) {L F lv : Int32} {ch gs rs : Nat → Int32} (post : SY → Prop) (hp : post (nI (th_s (th_dn t j) 9), L, F, lv, th_T (th_dn t j), ch, gs, rs)) :
    wpY_change post (nI (th_s t 9), L, F, lv, th_T t, ch, gs, rs) (nI j) (-1) := by
  have cl : (nI j).toNatClampNeg = j := nI_clamp (by omega)
  have vj : vp_in (nI j) 9 := vp_in_nI hj (by decide)
  unfold wpY_change
  dsimp only
  refine ⟨vj, vj, nm_r (e' := th_T (th_dn t j)) ?_ (nm_r (e' := nI (th_s (th_dn t j) 9)) ?_ hp)⟩
  · rw [cl, ← th_T_dn]
    show upd (th_T t) j (nI (t j) + (-1)) = _
    obtain ⟨q, hq⟩ : ∃ q, t j = q + 1 := ⟨t j - 1, by omega⟩
    rw [hq, pk_m1, Nat.add_sub_cancel]
  · rw [th_dn_s hj h, pk_m1]
theorem th_y_near {t : Nat → Nat} {w : Nat} (hw : w ≤ 100) (ht : ∀ k, k < 9 → t k ≤ 4) {L F lv : Int32} {ch gs rs : Nat → Int32} (post : Int32 → SY → Prop)
    (hyes : th_D t < w → ∀ (L F lv' : Int32) (ch' gs' : Nat → Int32), post 1 (nI (th_s t 9), L, F, lv', th_T t, ch', gs', rs))
    (h0 : ¬ th_D t < w → ∀ (L F lv' : Int32) (ch' gs' : Nat → Int32), post 0 (nI (th_s t 9), L, F, lv', th_T t, ch', gs', rs)) :
    wpY_isNearer post (nI (th_s t 9), L, F, lv, th_T t, ch, gs, rs) (nI w) := by
  have key : ∀ d i, i + d = 9 → ∀ n, d < n → ∀ (L F lv : Int32) (ch gs : Nat → Int32), (∀ p s, p < i → s ∈ th_lv 3 [] 14 → th_own th_c4 p s = true → w ≤ th_lak t p s) → wY_isNearer_2 post (nI w) n (nI i) (nI (th_s t 9)) L F lv (th_T t) ch gs rs := by
    intro d
    induction d with
    | zero =>
      intro i hi n hn L F lv ch gs I
      obtain ⟨m, rfl⟩ : ∃ m, n = m + 1 := ⟨n - 1, by omega⟩
      have e : i = 9 := by omega
      subst e
      rw [wY_isNearer_2]
      refine br_t (by decide) (h0 ?_ _ _ _ _ _)
      obtain ⟨p, s, a1, a2, a3, a4⟩ := th_D_att t
      have := I p s a1 a2 a3
      omega
    | succ d ih =>
      intro i hi n hn L F lv ch gs I
      obtain ⟨m, rfl⟩ : ∃ m, n = m + 1 := ⟨n - 1, by omega⟩
      rw [wY_isNearer_2]
      refine pk_le 9 i (fun h => by omega) (fun h => th_y_begin _ (fun ch1 h1 => ?_))
      dsimp only
      refine th_y_pair h ht h1 _ (fun ch2 h2 => ?_)
      dsimp only
      have lb := th_lak_lt t i []
      rw [List.length_nil] at lb
      have nx : (∀ s, s ∈ th_lv 3 [] 14 → th_own th_c4 i s = true → w ≤ th_lak t i s) → ∀ (L F lv : Int32) (ch gs : Nat → Int32), wY_isNearer_2 post (nI w) m (nI (i + 1)) (nI (th_s t 9)) L F lv (th_T t) ch gs rs := by
        intro q L F lv ch gs
        refine ih (i + 1) (by omega) m (by omega) L F lv ch gs (fun p s hp hs ho => ?_)
        rcases Nat.lt_or_ge p i with z | z
        · exact I p s z hs ho
        · have e : p = i := by omega
          subst e
          exact q s hs ho
      refine pk_le w (th_lak t i []) (fun hl => ?_) (fun hl => ?_)
      · unfold wY_isNearer_42
        refine br_t (Int32.le_refl _) (nm_r (nI_1 i) (nx (fun s hs _ => ?_) _ _ _ _ _))
        have := th_lak_mono t i (s := []) (s' := s) (th_lv_mem 3 [] 14 (Nat.le_refl _) (fun g hg => absurd hg List.not_mem_nil) s hs).2.2
        omega
      · have ew : nI w - 1 = nI (w - 1) := pk_sub (b := 1) (by omega)
        rw [ew]
        obtain ⟨l1, l2, l3⟩ := th_low_spec t i (w - 1) w
        refine th_y_least ht hw (by omega) h2 _ (fun L F lv ch gs => ?_)
        dsimp only
        unfold wY_isNearer_42
        refine pk_le w (th_low t i (w - 1) w) (fun hr => nm_r (nI_1 i) (nx (fun s hs ho => ?_) _ _ _ _ _)) (fun hr => ?_) rfl rfl (by omega) (by omega)
        · have := l3 s hs ho
          omega
        · obtain ⟨s, b1, b2, b3⟩ := l2 hr
          have := th_D_le t h b1 b2
          exact hyes (by omega) _ _ _ _ _
  unfold wpY_isNearer
  dsimp only
  exact ⟨10, key 9 0 rfl 10 (by omega) _ _ _ _ _ (fun p s hp => absurd hp (Nat.not_lt_zero p))⟩
end
section
def th_wn (t : Nat → Nat) (d : Nat) : Nat → Int32
  | 0 => 0
  | i + 1 => if t i < 4 ∧ th_D (th_bp t i) < d then th_wn t d i ||| ((1 : Int32) <<< (nI i &&& 31)) else th_wn t d i
def th_hs (w : Int32) (t : Nat → Nat) : Nat → Int32
  | 0 => 0
  | i + 1 => if ((w >>> (nI i &&& 31)) &&& 1) = 1 then th_hs w t i + (4 - nI (t i)) else th_hs w t i
def th_H (t : Nat → Nat) : Int32 := th_hs (th_wn t (th_D t) 9) t 9
def th_bn (t : Nat → Nat) (i : Nat) (q : Nat × Int32 × Int32) : Nat × Int32 × Int32 :=
  if 0 < t i then (if th_D (th_dn t i) < q.1 ∨ (th_D (th_dn t i) = q.1 ∧ ¬ th_H (th_dn t i) ≤ q.2.1) then (th_D (th_dn t i), th_H (th_dn t i), nI i) else q) else q
def th_bs (t : Nat → Nat) (l0 : Nat) : Nat → Nat × Int32 × Int32
  | 0 => (l0, -1, -4)
  | i + 1 => th_bn t i (th_bs t l0 i)
theorem th_bs_le (t : Nat → Nat) (l0 : Nat) : ∀ i, (th_bs t l0 i).1 ≤ l0
  | 0 => Nat.le_refl _
  | i + 1 => by
    have ih := th_bs_le t l0 i
    show (th_bn t i (th_bs t l0 i)).1 ≤ l0
    generalize th_bs t l0 i = q at *
    unfold th_bn
    by_cases z : 0 < t i
    · rw [if_pos z]
      by_cases y : th_D (th_dn t i) < q.1 ∨ (th_D (th_dn t i) = q.1 ∧ ¬ th_H (th_dn t i) ≤ q.2.1)
      · rw [if_pos y]
        show th_D (th_dn t i) ≤ l0
        omega
      · rw [if_neg y]
        exact ih
    · rw [if_neg z]
      exact ih
theorem th_bs_eq (t : Nat → Nat) : ∀ i, (th_bs t 1000 i = (1000, -1, -4) ∧ th_bs t 12 i = (12, -1, -4)) ∨ th_bs t 1000 i = th_bs t 12 i
  | 0 => Or.inl ⟨rfl, rfl⟩
  | i + 1 => by
    show (th_bn t i (th_bs t 1000 i) = _ ∧ th_bn t i (th_bs t 12 i) = _) ∨ th_bn t i (th_bs t 1000 i) = th_bn t i (th_bs t 12 i)
    rcases th_bs_eq t i with ⟨a, b⟩ | a
    · rw [a, b]
      have d := th_D_11 (th_dn t i)
      unfold th_bn
      by_cases z : 0 < t i
      · right
        rw [if_pos z, if_pos z, if_pos, if_pos]
        · exact Or.inl (by show _ < 12; omega)
        · exact Or.inl (by show _ < 1000; omega)
      · left
        rw [if_neg z, if_neg z]
        exact ⟨rfl, rfl⟩
    · right
      rw [a]
theorem th_y_wf {t : Nat → Nat} {w : Nat} (hw : w ≤ 100) (ht : ∀ k, k < 9 → t k ≤ 4) {L F lv : Int32} {ch gs rs : Nat → Int32} (post : Int32 → SY → Prop)
    (hp : ∀ (L F lv' : Int32) (ch' gs' : Nat → Int32), post (th_wn t w 9) (nI (th_s t 9), L, F, lv', th_T t, ch', gs', rs)) :
    wpY_wantedFrom post (nI (th_s t 9), L, F, lv, th_T t, ch, gs, rs) (nI w) := by
  have key : ∀ d i, i + d = 9 → ∀ n, d < n → ∀ (L F lv : Int32) (ch gs : Nat → Int32), wY_wantedFrom_4 post (nI w) n (th_wn t w i) (nI i) (nI (th_s t 9)) L F lv (th_T t) ch gs rs := by
    intro d
    induction d with
    | zero =>
      intro i hi n hn L F lv ch gs
      obtain ⟨m, rfl⟩ : ∃ m, n = m + 1 := ⟨n - 1, by omega⟩
      have e : i = 9 := by omega
      subst e
      rw [wY_wantedFrom_4]
      exact br_t (by decide) (hp _ _ _ _ _)
    | succ d ih =>
      intro i hi n hn L F lv ch gs
      obtain ⟨m, rfl⟩ : ∃ m, n = m + 1 := ⟨n - 1, by omega⟩
      have h9 : i < 9 := by omega
      have cl : (nI i).toNatClampNeg = i := nI_clamp (by omega)
      have vi : vp_in (nI i) 9 := vp_in_nI h9 (by decide)
      have hti := ht i h9
      have nx : ∀ x : Int32, x = th_wn t w (i + 1) → ∀ (L F lv : Int32) (ch gs : Nat → Int32), wY_wantedFrom_4 post (nI w) m x (nI (i + 1)) (nI (th_s t 9)) L F lv (th_T t) ch gs rs := by
        intro x ex
        subst ex
        exact ih (i + 1) (by omega) m (by omega)
      rw [wY_wantedFrom_4]
      refine pk_le 9 i (fun h => by omega) (fun _ => ⟨vi, pk_le 4 (t i) (fun h4 => nm_r (nI_1 i) (nx _ ?_ _ _ _ _ _)) (fun h4 => th_y_up h9 _ ?_) rfl (by rw [cl]; rfl)⟩)
      · rw [th_wn, if_neg (fun z => by omega)]
      · have fin : ∀ x : Int32, x = th_wn t w (i + 1) → ∀ (L F lv : Int32) (ch gs : Nat → Int32), wY_wantedFrom_44 post (wY_wantedFrom_4 post (nI w) m) (nI w) x (nI i) (nI (th_s (th_bp t i) 9)) L F lv (th_T (th_bp t i)) ch gs rs := by
          intro x ex L F lv ch gs
          unfold wY_wantedFrom_44
          have b0 : 0 < th_bp t i i := by
            unfold th_bp
            rw [if_pos rfl]
            omega
          refine th_y_dn h9 b0 _ ?_
          rw [th_dn_bp]
          exact nm_r (nI_1 i) (nx x ex _ _ _ _ _)
        dsimp only
        refine th_y_near hw (th_bp_4 ht h4) _ (fun hD L F lv ch gs => ?_) (fun hD L F lv ch gs => ?_)
        · exact br_f (by decide) (nm_e (fin _ (by rw [th_wn, if_pos ⟨h4, hD⟩]) _ _ _ _ _))
        · exact br_t rfl (fin _ (by rw [th_wn, if_neg (fun z => hD z.2)]) _ _ _ _ _)
  unfold wpY_wantedFrom
  dsimp only
  exact ⟨10, key 9 0 rfl 10 (by omega) _ _ _ _ _⟩
theorem th_y_hf {t : Nat → Nat} {w : Nat} (hw : w ≤ 100) (ht : ∀ k, k < 9 → t k ≤ 4) {L F lv : Int32} {ch gs rs : Nat → Int32} (post : Int32 → SY → Prop)
    (hp : ∀ (L F lv' : Int32) (ch' gs' : Nat → Int32), post (th_hs (th_wn t w 9) t 9) (nI (th_s t 9), L, F, lv', th_T t, ch', gs', rs)) :
    wpY_hopeFrom post (nI (th_s t 9), L, F, lv, th_T t, ch, gs, rs) (nI w) := by
  unfold wpY_hopeFrom
  dsimp only
  refine th_y_wf hw ht _ (fun L F lv ch gs => ⟨10, ?_⟩)
  generalize th_wn t w 9 = W at *
  have key : ∀ d i, i + d = 9 → ∀ n, d < n → wY_hopeFrom_11 post W (nI (th_s t 9)) L F lv (th_T t) ch gs rs n (th_hs W t i) (nI i) := by
    intro d
    induction d with
    | zero =>
      intro i hi n hn
      obtain ⟨m, rfl⟩ : ∃ m, n = m + 1 := ⟨n - 1, by omega⟩
      have e : i = 9 := by omega
      subst e
      rw [wY_hopeFrom_11]
      exact br_t (by decide) (hp _ _ _ _ _)
    | succ d ih =>
      intro i hi n hn
      obtain ⟨m, rfl⟩ : ∃ m, n = m + 1 := ⟨n - 1, by omega⟩
      have h9 : i < 9 := by omega
      have cl : (nI i).toNatClampNeg = i := nI_clamp (by omega)
      rw [wY_hopeFrom_11]
      have nx := ih (i + 1) (by omega) m (by omega)
      rw [th_hs] at nx
      refine pk_le 9 i (fun h => by omega) (fun _ => br_c (fun h1 => ⟨vp_in_nI h9 (by decide), ?_⟩) (fun h1 => nm_r (nI_1 i) ?_))
      · rw [if_pos h1] at nx
        refine nm_r (e' := th_hs W t i + (4 - nI (t i))) (by rw [cl]; rfl) (nm_r (nI_1 i) nx)
      · rw [if_neg h1] at nx
        exact nx
  exact key 9 0 rfl 10 (by omega)
theorem th_y_best {t : Nat → Nat} (ht : ∀ k, k < 9 → t k ≤ 4) {L F lv : Int32} {ch gs rs : Nat → Int32} (post : Int32 → SY → Prop)
    (hp : ∀ (L F lv' : Int32) (ch' gs' : Nat → Int32), post (th_bs t 12 9).2.2 (nI (th_s t 9), L, F, lv', th_T t, ch', gs', rs)) :
    wpY_best post (nI (th_s t 9), L, F, lv, th_T t, ch, gs, rs) := by
  have key : ∀ d i, i + d = 9 → ∀ n, d < n → ∀ (L F lv : Int32) (ch gs : Nat → Int32), wY_best_11 post n (th_bs t 12 i).2.2 (nI (th_bs t 12 i).1) (th_bs t 12 i).2.1 (nI i) (nI (th_s t 9)) L F lv (th_T t) ch gs rs := by
    intro d
    induction d with
    | zero =>
      intro i hi n hn L F lv ch gs
      obtain ⟨m, rfl⟩ : ∃ m, n = m + 1 := ⟨n - 1, by omega⟩
      have e : i = 9 := by omega
      subst e
      rw [wY_best_11]
      exact br_t (by decide) (hp _ _ _ _ _)
    | succ d ih =>
      intro i hi n hn L F lv ch gs
      obtain ⟨m, rfl⟩ : ∃ m, n = m + 1 := ⟨n - 1, by omega⟩
      have h9 : i < 9 := by omega
      have cl : (nI i).toNatClampNeg = i := nI_clamp (by omega)
      have vi : vp_in (nI i) 9 := vp_in_nI h9 (by decide)
      have hti := ht i h9
      have hle := th_bs_le t 12 i
      have nx : ∀ q : Nat × Int32 × Int32, q = th_bn t i (th_bs t 12 i) → ∀ (L F lv : Int32) (ch gs : Nat → Int32), wY_best_11 post m q.2.2 (nI q.1) q.2.1 (nI (i + 1)) (nI (th_s t 9)) L F lv (th_T t) ch gs rs := by
        intro q eq
        subst eq
        exact ih (i + 1) (by omega) m (by omega)
      generalize th_bs t 12 i = q at *
      obtain ⟨ql, qm, qb⟩ := q
      dsimp only at hle nx ⊢
      rw [wY_best_11]
      refine pk_le 9 i (fun h => by omega) (fun _ => ⟨vi, pk_le (t i) 0 (fun h4 => nm_r (nI_1 i) (nx (ql, qm, qb) ?_ _ _ _ _ _)) (fun h4 => th_y_dn h9 h4 _ ?_) (by rw [cl]; rfl) rfl⟩)
      · unfold th_bn
        rw [if_neg (by omega)]
      · dsimp only
        have d11 := th_D_11 (th_dn t i)
        have s86 : ∀ (a : Int32) (b : Nat) (c : Int32), (b, c, a) = th_bn t i (ql, qm, qb) → ∀ (L F lv : Int32) (ch gs : Nat → Int32), wY_best_86 post (wY_best_11 post m) a (nI b) c (nI i) (nI (th_s (th_dn t i) 9)) L F lv (th_T (th_dn t i)) ch gs rs := by
          intro a b c e L F lv ch gs
          unfold wY_best_86
          refine th_y_up h9 _ ?_
          rw [th_bp_dn h4]
          exact nm_r (nI_1 i) (nx (b, c, a) e _ _ _ _ _)
        refine th_y_dist (th_dn_4 ht) _ (fun L F lv ch gs => ?_)
        dsimp only
        refine pk_lt ql (th_D (th_dn t i)) (fun hl => ?_) (fun hl => ?_)
        · unfold wY_best_57
          refine pk_lt (th_D (th_dn t i)) ql (fun h => by omega) (fun _ => pk_eq (th_D (th_dn t i)) ql (fun h => by omega) (fun _ => s86 _ _ _ ?_ _ _ _ _ _))
          unfold th_bn
          rw [if_pos h4, if_neg (fun z => by
            have z' : th_D (th_dn t i) < ql ∨ (th_D (th_dn t i) = ql ∧ ¬ th_H (th_dn t i) ≤ qm) := z
            omega)]
        · refine th_y_hf (by omega) (th_dn_4 ht) _ (fun L F lv ch gs => ?_)
          dsimp only
          have eH : th_hs (th_wn (th_dn t i) (th_D (th_dn t i)) 9) (th_dn t i) 9 = th_H (th_dn t i) := rfl
          rw [eH]
          unfold wY_best_57 wY_best_77
          refine pk_lt (th_D (th_dn t i)) ql (fun h => s86 _ _ _ ?_ _ _ _ _ _) (fun h => pk_eq (th_D (th_dn t i)) ql (fun he => br_c (fun hm => s86 _ _ _ ?_ _ _ _ _ _) (fun hm => s86 _ _ _ ?_ _ _ _ _ _)) (fun h => by omega))
          · unfold th_bn
            rw [if_pos h4, if_pos (Or.inl h)]
          · unfold th_bn
            rw [if_pos h4, if_neg (fun z => by
              have z' : th_D (th_dn t i) < ql ∨ (th_D (th_dn t i) = ql ∧ ¬ th_H (th_dn t i) ≤ qm) := z
              rcases z' with z' | z'
              · omega
              · exact z'.2 hm)]
          · unfold th_bn
            rw [if_pos h4, if_pos (Or.inr ⟨he, hm⟩)]
  unfold wpY_best
  dsimp only
  exact ⟨10, key 9 0 rfl 10 (by omega) _ _ _ _ _⟩
end
section
theorem th_wt {t : Nat → Nat} : ((1 : Int32) = 0 ∧ ∀ k, k < 9 → t k = 4) ∨ ((1 : Int32) = 1 ∧ ∀ k, k < 9 → t k = t k) := Or.inr ⟨rfl, fun _ _ => rfl⟩
def th_gr (t : Nat → Nat) : Nat := th_dx (th_fit t 9) th_vg th_dg (fun _ => false) 3 [] 0 14
theorem th_y_groups {t : Nat → Nat} (ht : ∀ k, k < 9 → t k ≤ 4) {L F lv : Int32} {ch gs rs : Nat → Int32} (post : Int32 → SY → Prop)
    (hpost : ∀ (L F lv' : Int32) (ch' gs' : Nat → Int32), post (nI (th_gr t)) (nI (th_s t 9), L, F, lv', th_T t, ch', gs', rs)) :
    wpY_groups post (nI (th_s t 9), L, F, lv, th_T t, ch, gs, rs) := by
  have main : ∀ n a st r, th_ks st → r ≤ 14 → th_mu st r < n → (∀ (L F lv' : Int32) (ch' gs' : Nat → Int32), post (nI (th_up (th_fit t 9) th_vg th_dg (fun _ => false) st (th_dx (th_fit t 9) th_vg th_dg (fun _ => false) (3 - st.length) st a r))) (nI (th_s t 9), L, F, lv', th_T t, ch', gs', rs)) →
      (a ≤ 100 → ∀ ch gs : Nat → Int32, (∀ k, k < 9 → ch k = nI (th_vec 9 st k)) → th_gs st gs → gs st.length + 1 = nI (14 - r) → wY_groups_18 post n (nI a) (nI (th_s t 9)) (th_L t (th_vec 9 st)) (th_F t (th_vec 9 st)) (nI st.length) (th_T t) ch gs rs) := by
    refine th_dfs (fun n a st r => a ≤ 100 → ∀ ch gs : Nat → Int32, (∀ k, k < 9 → ch k = nI (th_vec 9 st k)) → th_gs st gs → gs st.length + 1 = nI (14 - r) → wY_groups_18 post n (nI a) (nI (th_s t 9)) (th_L t (th_vec 9 st)) (th_F t (th_vec 9 st)) (nI st.length) (th_T t) ch gs rs) (fun a => ∀ (L F lv' : Int32) (ch' gs' : Nat → Int32), post (nI a) (nI (th_s t 9), L, F, lv', th_T t, ch', gs', rs)) ?_ ?_ ?_ ?_ ?_ ?_ ?_
    · intro n a st r hk hr hs
      exact absurd hs (by decide)
    · intro n a hs hp ha ch gs hch hgs hrr
      rw [wY_groups_18]
      refine br_f (nI_pos (by decide)) ?_
      refine th_y_ch_end hrr (fun gs' => br_t rfl ?_)
      rw [wY_groups_18]
      exact br_t (by decide) (hp _ _ _ _ _)
    · intro n a h st hk hs ih ha ch gs hch hgs hrr
      have hl := hk.1
      rw [wY_groups_18]
      refine br_f (nI_pos (by omega)) ?_
      exact th_y_ch_pop ht hk hch hgs hrr (fun ch' gs' h1 h2 h3 => br_t rfl (ih ha ch' gs' h1 h2 h3))
    · intro n a st r hk hr hs hf ih ha ch gs hch hgs hrr
      have hl := hk.1
      rw [wY_groups_18]
      refine br_f (nI_pos (by omega)) ?_
      exact th_y_ch_no hr ht th_wt hk hch hgs hrr hf (fun gs' h2 h3 => br_t rfl (ih ha ch gs' hch h2 h3))
    · intro n a st r hk hr hs hf hd hk2 ih ha ch gs hch hgs hrr
      have hl := hk.1
      have hl2 := hk2.1
      rw [List.length_cons] at hl2
      rw [wY_groups_18]
      refine br_f (nI_pos (by omega)) ?_
      refine th_y_ch_fit hr ht th_wt hk hch hgs hrr hf (fun ch' gs' h1 h2 => ?_)
      have vb : th_vg a ((13 - r) :: st) ≤ 100 := by
        unfold th_vg
        rw [List.length_cons]
        split <;> omega
      have fin : ∀ x : Int32, x = nI (th_vg a ((13 - r) :: st)) → wY_groups_52 post (wY_groups_18 post n) x (nI (th_s t 9)) (th_L t (th_vec 9 ((13 - r) :: st))) (th_F t (th_vec 9 ((13 - r) :: st))) (nI st.length) (th_T t) ch' gs' rs := by
        intro x ex
        subst ex
        unfold wY_groups_52
        refine pk_le 2 st.length (fun h => by omega) (fun _ => ?_)
        exact th_y_deeper (by omega) h2 (fun gs'' g1 g2 => ih vb ch' gs'' h1 g1 (by rw [g2]; exact congrArg nI (by omega)))
      refine br_f (by decide) (pk_le (st.length + 1) a (fun h => fin _ ?_) (fun h => nm_r (nI_1 st.length) (fin _ ?_)) (nI_1 st.length))
      · have e : th_vg a ((13 - r) :: st) = a := if_pos h
        rw [e]
      · have e : th_vg a ((13 - r) :: st) = st.length + 1 := if_neg (by rw [List.length_cons]; omega)
        rw [e]
    · intro n a st r hk hr hs hf hd ih ha ch gs hch hgs hrr
      have hl := hk.1
      have hd := decide_eq_false_iff_not.mp hd
      rw [List.length_cons] at hd
      rw [wY_groups_18]
      refine br_f (nI_pos (by omega)) ?_
      refine th_y_ch_fit hr ht th_wt hk hch hgs hrr hf (fun ch' gs' h1 h2 => ?_)
      have cl : (nI st.length).toNatClampNeg = st.length := nI_clamp (by omega)
      have hv : ∀ k, k < 9 → th_vec 9 st k ≤ 12 := fun k _ => by
        have := th_vec_le 9 st k
        omega
      have vb : th_vg a ((13 - r) :: st) ≤ 100 := by
        unfold th_vg
        rw [List.length_cons]
        split <;> omega
      have fin : ∀ x : Int32, x = nI (th_vg a ((13 - r) :: st)) → wY_groups_52 post (wY_groups_18 post n) x (nI (th_s t 9)) (th_L t (th_vec 9 ((13 - r) :: st))) (th_F t (th_vec 9 ((13 - r) :: st))) (nI st.length) (th_T t) ch' gs' rs := by
        intro x ex
        subst ex
        unfold wY_groups_52
        refine pk_le 2 st.length (fun h => ⟨vp_in_nI (by omega) (by decide), ?_⟩) (fun h => by omega)
        rw [cl, h2.1]
        refine th_y_giveGroup (c := th_vec 9 st) (by omega) ht hv (fun k _ => rfl) h1 _ (fun ch'' h'' => ?_)
        exact ih vb ch'' gs' h'' h2.2 (by rw [h2.1, nI_1]; exact congrArg nI (by omega))
      refine br_f (by decide) (pk_le (st.length + 1) a (fun h => fin _ ?_) (fun h => nm_r (nI_1 st.length) (fin _ ?_)) (nI_1 st.length))
      · have e : th_vg a ((13 - r) :: st) = a := if_pos h
        rw [e]
      · have e : th_vg a ((13 - r) :: st) = st.length + 1 := if_neg (by rw [List.length_cons]; omega)
        rw [e]
    · intro a st h
      exact decide_eq_true_iff.mp h
  unfold wpY_groups
  dsimp only
  refine th_y_begin _ (fun ch' h' => ?_)
  dsimp only
  have q : ∀ k, k < 9 → (0 : Nat) = th_vec 9 [] k := fun k hk => (th_pv9 k hk).symm
  refine nm_e ⟨th_mu [] 14 + 1, ?_⟩
  rw [th_L_congr (t := t) q, th_F_congr (t := t) q]
  exact main _ 0 [] 14 ⟨by decide, fun g hg => absurd hg List.not_mem_nil⟩ (Nat.le_refl _) (by omega) hpost (by decide) ch' _ (fun k hk => by rw [h' k hk, ← q k hk]) True.intro (th_gs0 gs)
def th_vc (m : Nat) (ex : List Nat → Bool) (a : Nat) (st : List Nat) : Nat := if st.length = m ∧ ex st = true then a + 1 else a
def th_dc (m : Nat) (_ : Nat) (st : List Nat) : Bool := decide (st.length < m)
def th_cw (t : Nat → Nat) (p m : Nat) : Nat := if m = 0 then 1 else th_dx (th_fit t p) (th_vc m (fun _ => true)) (th_dc m) (fun _ => false) 3 [] 0 14
theorem th_y_count {t : Nat → Nat} {p m : Nat} (hm : m ≤ 3) (ht : ∀ k, k < 9 → t k ≤ 4) {S lv : Int32} {ch gs rs : Nat → Int32} (hch : ∀ k, k < 9 → ch k = nI (th_vec p [] k)) (post : Int32 → SY → Prop)
    (hpost : ∀ (L F lv' : Int32) (ch' gs' : Nat → Int32), post (nI (th_cw t p m)) (S, L, F, lv', th_T t, ch', gs', rs)) :
    wpY_countWith post (S, th_L t (th_vec p []), th_F t (th_vec p []), lv, th_T t, ch, gs, rs) (nI m) := by
  unfold wpY_countWith
  dsimp only
  refine pk_eq m 0 (fun h0 => ?_) (fun h0 => ?_)
  · have e : th_cw t p m = 1 := if_pos h0
    rw [e] at hpost
    exact hpost _ _ _ _ _
  have e : th_cw t p m = th_dx (th_fit t p) (th_vc m (fun _ => true)) (th_dc m) (fun _ => false) 3 [] 0 14 := if_neg h0
  rw [e] at hpost
  have em : nI m - 1 = nI (m - 1) := pk_sub (b := 1) (by omega)
  have main : ∀ n a st r, th_ks st → r ≤ 14 → th_mu st r < n → (∀ (L F lv' : Int32) (ch' gs' : Nat → Int32), post (nI (th_up (th_fit t p) (th_vc m (fun _ => true)) (th_dc m) (fun _ => false) st (th_dx (th_fit t p) (th_vc m (fun _ => true)) (th_dc m) (fun _ => false) (3 - st.length) st a r))) (S, L, F, lv', th_T t, ch', gs', rs)) →
      (st.length < m → ∀ ch gs : Nat → Int32, (∀ k, k < 9 → ch k = nI (th_vec p st k)) → th_gs st gs → gs st.length + 1 = nI (14 - r) → wY_countWith_20 post (nI m) n (nI a) S (th_L t (th_vec p st)) (th_F t (th_vec p st)) (nI st.length) (th_T t) ch gs rs) := by
    refine th_dfs (fun n a st r => st.length < m → ∀ ch gs : Nat → Int32, (∀ k, k < 9 → ch k = nI (th_vec p st k)) → th_gs st gs → gs st.length + 1 = nI (14 - r) → wY_countWith_20 post (nI m) n (nI a) S (th_L t (th_vec p st)) (th_F t (th_vec p st)) (nI st.length) (th_T t) ch gs rs) (fun a => ∀ (L F lv' : Int32) (ch' gs' : Nat → Int32), post (nI a) (S, L, F, lv', th_T t, ch', gs', rs)) ?_ ?_ ?_ ?_ ?_ ?_ ?_
    · intro n a st r hk hr hs
      exact absurd hs (by decide)
    · intro n a hs hp ha ch gs hch hgs hrr
      rw [wY_countWith_20]
      refine br_f (nI_pos (by decide)) ?_
      refine th_y_ch_end hrr (fun gs' => br_t rfl ?_)
      rw [wY_countWith_20]
      exact br_t (by decide) (hp _ _ _ _ _)
    · intro n a h st hk hs ih ha ch gs hch hgs hrr
      have hl := hk.1
      rw [List.length_cons] at ha
      rw [wY_countWith_20]
      refine br_f (nI_pos (by omega)) ?_
      exact th_y_ch_pop ht hk hch hgs hrr (fun ch' gs' h1 h2 h3 => br_t rfl (ih (by omega) ch' gs' h1 h2 h3))
    · intro n a st r hk hr hs hf ih ha ch gs hch hgs hrr
      have hl := hk.1
      rw [wY_countWith_20]
      refine br_f (nI_pos (by omega)) ?_
      exact th_y_ch_no hr ht th_wt hk hch hgs hrr hf (fun gs' h2 h3 => br_t rfl (ih ha ch gs' hch h2 h3))
    · intro n a st r hk hr hs hf hd hk2 ih ha ch gs hch hgs hrr
      have hl := hk.1
      have hl2 := hk2.1
      have hd := decide_eq_true_iff.mp hd
      rw [List.length_cons] at hl2 hd
      have ev : th_vc m (fun _ => true) a ((13 - r) :: st) = a := if_neg (fun z => by
        have := z.1
        rw [List.length_cons] at this
        omega)
      rw [ev] at ih
      rw [wY_countWith_20, em]
      refine br_f (nI_pos (by omega)) ?_
      refine th_y_ch_fit hr ht th_wt hk hch hgs hrr hf (fun ch' gs' h1 h2 => ?_)
      refine br_f (by decide) (pk_eq st.length (m - 1) (fun h => by omega) (fun _ => ?_))
      exact th_y_deeper (by omega) h2 (fun gs'' g1 g2 => ih hd ch' gs'' h1 g1 (by rw [g2]; exact congrArg nI (by omega)))
    · intro n a st r hk hr hs hf hd ih ha ch gs hch hgs hrr
      have hl := hk.1
      have hd := decide_eq_false_iff_not.mp hd
      rw [List.length_cons] at hd
      have ev : th_vc m (fun _ => true) a ((13 - r) :: st) = a + 1 := if_pos ⟨by rw [List.length_cons]; omega, rfl⟩
      rw [ev] at ih
      rw [wY_countWith_20, em]
      refine br_f (nI_pos (by omega)) ?_
      refine th_y_ch_fit hr ht th_wt hk hch hgs hrr hf (fun ch' gs' h1 h2 => ?_)
      have cl : (nI st.length).toNatClampNeg = st.length := nI_clamp (by omega)
      have hv : ∀ k, k < 9 → th_vec p st k ≤ 12 := fun k _ => by
        have := th_vec_le p st k
        omega
      refine br_f (by decide) (pk_eq st.length (m - 1) (fun h => nm_r (nI_1 a) ⟨vp_in_nI (by omega) (by decide), ?_⟩) (fun h => by omega))
      rw [cl, h2.1]
      refine th_y_giveGroup (c := th_vec p st) (by omega) ht hv (fun k _ => rfl) h1 _ (fun ch'' h'' => ?_)
      exact ih ha ch'' gs' h'' h2.2 (by rw [h2.1, nI_1]; exact congrArg nI (by omega))
    · intro a st h
      have := decide_eq_true_iff.mp h
      omega
  refine nm_e ⟨th_mu [] 14 + 1, ?_⟩
  exact main _ 0 [] 14 ⟨by decide, fun g hg => absurd hg List.not_mem_nil⟩ (Nat.le_refl _) (by omega) hpost (by rw [List.length_nil]; omega) ch _ hch True.intro (th_gs0 gs)
def th_wy (t : Nat → Nat) : Nat := if th_s t 9 % 3 = 2 then th_s (fun p => if 2 ≤ t p then th_cw t p (th_s t 9 / 3) else 0) 9 else 0
theorem th_y_ways {t : Nat → Nat} (ht : ∀ k, k < 9 → t k ≤ 4) (hS : th_s t 9 ≤ 11) {L F lv : Int32} {ch gs rs : Nat → Int32} (post : Int32 → SY → Prop)
    (hp : ∀ (L F lv' : Int32) (ch' gs' : Nat → Int32), post (nI (th_wy t)) (nI (th_s t 9), L, F, lv', th_T t, ch', gs', rs)) :
    wpY_ways post (nI (th_s t 9), L, F, lv, th_T t, ch, gs, rs) := by
  have ed : nI (th_s t 9) / 3 = nI (th_s t 9 / 3) := pk_div (d := 3) (by omega) (by decide) (by decide)
  have er : nI (th_s t 9) - nI (th_s t 9) / 3 * 3 = nI (th_s t 9 % 3) := pk_rem (d := 3) (by omega) (by decide) (by decide)
  unfold wpY_ways
  dsimp only
  rw [er]
  refine ⟨by decide, pk_eq (th_s t 9 % 3) 2 (fun h => ⟨10, ?_⟩) (fun h => ?_)⟩
  · have ew : th_wy t = th_s (fun p => if 2 ≤ t p then th_cw t p (th_s t 9 / 3) else 0) 9 := if_pos h
    rw [ew] at hp
    have key : ∀ d i, i + d = 9 → ∀ n, d < n → ∀ (L F lv : Int32) (ch gs : Nat → Int32), wY_ways_16 post n (nI (th_s (fun p => if 2 ≤ t p then th_cw t p (th_s t 9 / 3) else 0) i)) (nI i) (nI (th_s t 9)) L F lv (th_T t) ch gs rs := by
      intro d
      induction d with
      | zero =>
        intro i hi n hn L F lv ch gs
        obtain ⟨m, rfl⟩ : ∃ m, n = m + 1 := ⟨n - 1, by omega⟩
        have e : i = 9 := by omega
        subst e
        rw [wY_ways_16]
        exact br_t (by decide) (hp _ _ _ _ _)
      | succ d ih =>
        intro i hi n hn L F lv ch gs
        obtain ⟨m, rfl⟩ : ∃ m, n = m + 1 := ⟨n - 1, by omega⟩
        have h9 : i < 9 := by omega
        have cl : (nI i).toNatClampNeg = i := nI_clamp (by omega)
        have vi : vp_in (nI i) 9 := vp_in_nI h9 (by decide)
        have hti := ht i h9
        have nx := ih (i + 1) (by omega) m (by omega)
        rw [th_s] at nx
        rw [wY_ways_16]
        refine pk_le 9 i (fun h => by omega) (fun _ => ⟨vi, pk_le (t i) 1 (fun h1 => nm_r (nI_1 i) ?_) (fun h1 => th_y_begin _ (fun ch1 g1 => ?_)) (by rw [cl]; rfl) rfl⟩)
        · rw [if_neg (by omega), Nat.add_zero] at nx
          exact nx _ _ _ _ _
        · rw [if_pos (show 2 ≤ t i from h1)] at nx
          dsimp only
          refine th_y_pair h9 ht g1 _ (fun ch2 g2 => ⟨by decide, ?_⟩)
          rw [ed]
          refine th_y_count (by omega) ht g2 _ (fun L F lv ch gs => ?_)
          exact nm_r (nI_add _ _) (nm_r (nI_1 i) (nx _ _ _ _ _))
    exact key 9 0 rfl 10 (by omega) _ _ _ _ _
  · have ew : th_wy t = 0 := if_neg h
    rw [ew] at hp
    exact hp _ _ _ _ _
end
section
theorem th_y_div96 {post : Int32 → SY → Prop} {J : Int32 → (Nat → Int32) → (Nat → Int32) → (Nat → Int32) → (Nat → Int32) → Prop} {k r : Nat} (hk : k ≤ 4) (hr0 : 0 < r) (hr : r ≤ 2) {S L F lv : Int32} {hv ch gs rs : Nat → Int32}
    (K : ∀ rs2 : Nat → Int32, (∀ j, rs2 j = if k ≤ j ∧ j < k + 3 then rs j - nI r else rs j) → J (nI (k + 1)) hv ch gs rs2) :
    ∀ d i, i + d = 3 → ∀ n, d < n → ∀ rs1 : Nat → Int32, (∀ j, rs1 j = if k ≤ j ∧ j < k + i then rs j - nI r else rs j) → wY_divides_96 post J (nI k) (nI r) S L F lv n (nI i) hv ch gs rs1 := by
  intro d
  induction d with
  | zero =>
    intro i hi n hn rs1 h1
    obtain ⟨m, rfl⟩ : ∃ m, n = m + 1 := ⟨n - 1, by omega⟩
    have e : i = 3 := by omega
    subst e
    rw [wY_divides_96]
    exact br_t (by decide) (nm_r (nI_1 k) (K rs1 h1))
  | succ d ih =>
    intro i hi n hn rs1 h1
    obtain ⟨m, rfl⟩ : ∃ m, n = m + 1 := ⟨n - 1, by omega⟩
    have cl : (nI (k + i)).toNatClampNeg = k + i := nI_clamp (by omega)
    have vi : vp_in (nI (k + i)) 11 := vp_in_nI (by omega) (by decide)
    rw [wY_divides_96]
    dsimp only
    rw [nI_add]
    refine pk_le 3 i (fun h => by omega) (fun _ => pk_le r 0 (fun h => by omega) (fun _ => ⟨vi, vi, nm_r (e' := upd rs1 (k + i) (rs (k + i) - nI r)) ?_ (nm_r (nI_1 i) (ih (i + 1) (by omega) m (by omega) _ ?_))⟩))
    · rw [cl, h1 (k + i), if_neg (by omega)]
    · intro j
      by_cases z : j = k + i
      · rw [z, pk_us, if_pos (by omega)]
      · rw [pk_un z, h1 j]
        by_cases y : k ≤ j ∧ j < k + i
        · rw [if_pos y, if_pos (by omega)]
        · rw [if_neg y, if_neg (by omega)]
def th_sb (k a b j : Nat) : Nat := if j = k then a + b else if j = k + 1 then a else 0
theorem th_y_div56 {post : Int32 → SY → Prop} {v : Nat → Nat} (hvb : ∀ j, j < 9 → v j ≤ 20) {S L F lv : Int32} {hv ch gs : Nat → Int32} :
    ∀ d k, k + d = 9 → ∀ n, d < n → ∀ (a b : Nat) (rs : Nat → Int32), a ≤ 2 → b ≤ 2 → (∀ j, k ≤ j → j < 9 → rs j = nI (v j) - nI (th_sb k a b j)) →
      (∀ rs' : Nat → Int32, post (if th_dr v d k a b = true then 1 else 0) (S, L, F, lv, hv, ch, gs, rs')) → wY_divides_56 post S L F lv n (nI k) hv ch gs rs := by
  intro d
  induction d with
  | zero =>
    intro k hk n hn a b rs ha hb hrs hp
    obtain ⟨m, rfl⟩ : ∃ m, n = m + 1 := ⟨n - 1, by omega⟩
    have e : k = 9 := by omega
    subst e
    rw [wY_divides_56]
    exact br_t (by decide) (hp rs)
  | succ d ih =>
    intro k hk n hn a b rs ha hb hrs hp
    obtain ⟨m, rfl⟩ : ∃ m, n = m + 1 := ⟨n - 1, by omega⟩
    have h9 : k < 9 := by omega
    have cl : (nI k).toNatClampNeg = k := nI_clamp (by omega)
    have vk : vp_in (nI k) 11 := vp_in_nI (by omega) (by decide)
    have hvk := hvb k h9
    have ek : rs k = nI (v k) - nI (a + b) := by
      rw [hrs k (Nat.le_refl _) h9]
      unfold th_sb
      rw [if_pos rfl]
    rw [th_dr] at hp
    rw [wY_divides_56]
    dsimp only
    rw [cl]
    refine pk_le 9 k (fun h => by omega) (fun _ => ⟨vk, ?_⟩)
    by_cases z : a + b ≤ v k
    · have e2 : rs k = nI (v k - (a + b)) := by rw [ek, pk_sub z]
      have e3 : rs k - rs k / 3 * 3 = nI ((v k - (a + b)) % 3) := by
        rw [e2]
        exact pk_rem (d := 3) (by omega) (by decide) (by decide)
      rw [Nat.ble_eq_true_of_le z, Bool.true_and] at hp
      refine br_t (by rw [e2]; exact nI_pos' (by omega)) ⟨vk, by decide, nm_r e3 ?_⟩
      have r3 : (v k - (a + b)) % 3 < 3 := Nat.mod_lt _ (by decide)
      generalize (v k - (a + b)) % 3 = r at *
      refine pk_le r 0 (fun h0 => ?_) (fun h0 => pk_le k 4 (fun h4 => ?_) (fun h4 => ?_))
      · have er : r = 0 := by omega
        subst er
        rw [Nat.beq_refl, Bool.true_or, Bool.true_and] at hp
        refine ⟨1, ?_⟩
        rw [wY_divides_96]
        refine br_f (by decide) (br_t (by decide) (nm_r (nI_1 k) (ih (k + 1) (by omega) m (by omega) 0 a rs (by omega) ha ?_ hp)))
        intro j hj hj9
        rw [hrs j (by omega) hj9]
        unfold th_sb
        by_cases y : j = k + 1
        · rw [if_neg (by omega), if_pos y, if_pos y, Nat.zero_add]
        · rw [if_neg (by omega), if_neg y, if_neg y]
          by_cases w : j = k + 1 + 1
          · rw [if_pos w]
          · rw [if_neg w]
      · have er : Nat.beq r 0 = false := by
          cases q : Nat.beq r 0
          · rfl
          · have := Nat.eq_of_beq_eq_true q
            omega
        rw [er, Bool.false_or, Nat.ble_eq_true_of_le h4, Bool.true_and] at hp
        refine ⟨4, th_y_div96 h4 h0 (by omega) (fun rs2 h2 => ih (k + 1) (by omega) m (by omega) r a rs2 (by omega) ha ?_ hp) 3 0 rfl 4 (by omega) rs (fun j => by rw [if_neg (by omega)])⟩
        intro j hj hj9
        have hb1 := hvb j hj9
        rw [h2 j, hrs j (by omega) hj9]
        unfold th_sb
        by_cases y : j = k + 1
        · rw [if_pos (by omega), if_neg (by omega), if_pos y, if_pos y, Int32.sub_sub, nI_add, Nat.add_comm r a]
        · by_cases w : j = k + 1 + 1
          · rw [if_pos (by omega), if_neg (by omega), if_neg y, if_neg y, if_pos w, nI_0, Int32.sub_zero]
          · rw [if_neg (by omega), if_neg (by omega), if_neg y, if_neg y, if_neg w]
      · have er : Nat.beq r 0 = false := by
          cases q : Nat.beq r 0
          · rfl
          · have := Nat.eq_of_beq_eq_true q
            omega
        have e4 : Nat.ble k 4 = false := by
          cases q : Nat.ble k 4
          · rfl
          · have := Nat.le_of_ble_eq_true q
            omega
        rw [er, e4] at hp
        exact hp rs
    · have e1 : Nat.ble (a + b) (v k) = false := by
        cases q : Nat.ble (a + b) (v k)
        · rfl
        · exact absurd (Nat.le_of_ble_eq_true q) z
      rw [e1] at hp
      refine br_f ?_ (hp rs)
      rw [ek]
      exact Int32.not_le.mpr (pk_sneg (by omega) (by omega))
theorem th_y_div {c : Nat → Nat} (hcb : ∀ j, j < 9 → c j ≤ 12) {q : Nat} (hq : q < 9) {S L F lv : Int32} {hv ch gs rs : Nat → Int32} (hch : ∀ k, k < 9 → ch k = nI (c k)) (post : Int32 → SY → Prop)
    (hp : ∀ rs' : Nat → Int32, post (if th_dv c q = true then 1 else 0) (S, L, F, lv, hv, ch, gs, rs')) : wpY_divides post (S, L, F, lv, hv, ch, gs, rs) (nI q) := by
  have cq : (nI q).toNatClampNeg = q := nI_clamp (by omega)
  have hcq := hcb q hq
  unfold th_dv at hp
  unfold wpY_divides
  dsimp only
  refine ⟨vp_in_nI hq (by decide), pk_le 2 (c q) (fun h2 => ?_) (fun h2 => ?_) rfl (by rw [cq, hch q hq])⟩
  · rw [Nat.ble_eq_true_of_le h2, Bool.true_and] at hp
    refine loop_0 (fun n i (rr : Nat → Int32) => wY_divides_14 post (nI q) S L F lv n (nI i) hv ch gs rr) (fun i rr => ∀ j, j < i → rr j = nI (c j - th_pv q j)) 9 rs (fun j hj => absurd hj (Nat.not_lt_zero j)) (fun n rr I => ?_) (fun n i rr hi I K => ?_)
    · rw [wY_divides_14]
      refine br_t (by decide) ⟨10, th_y_div56 (v := fun k => c k - th_pv q k) (fun j hj => ?_) 9 0 rfl 10 (by omega) 0 0 rr (by decide) (by decide) (fun j _ hj => ?_) hp⟩
      · have := hcb j hj
        show c j - th_pv q j ≤ 20
        omega
      · rw [I j hj]
        unfold th_sb
        have e0 : (if j = 0 then 0 + 0 else if j = 0 + 1 then 0 else 0) = 0 := by
          split
          · rfl
          · split <;> rfl
        rw [e0, nI_0, Int32.sub_zero]
    · have ci : (nI i).toNatClampNeg = i := nI_clamp (by omega)
      have nx : ∀ x : Int32, x = nI (c i - th_pv q i) → ∀ j, j < i + 1 → upd rr i x j = nI (c j - th_pv q j) := by
        intro x ex j hj
        by_cases y : j = i
        · rw [y, pk_us, ex]
        · rw [pk_un y]
          exact I j (by omega)
      rw [wY_divides_14]
      dsimp only
      rw [ci]
      refine pk_le 9 i (fun h => by omega) (fun _ => pk_eq i q (fun he => ?_) (fun he => ?_))
      · refine ⟨vp_in_nI hi (by decide), vp_in_nI (by omega) (by decide), nm_e (nm_r (nI_1 i) (K _ (nx _ ?_)))⟩
        rw [hch i hi, th_pv_if, if_pos he]
        exact pk_sub (b := 2) (by rw [he]; exact h2)
      · refine ⟨vp_in_nI hi (by decide), vp_in_nI (by omega) (by decide), nm_e (nm_r (nI_1 i) (K _ (nx _ ?_)))⟩
        rw [hch i hi, th_pv_if, if_neg he]
        rfl
  · have e1 : Nat.ble 2 (c q) = false := by
      cases w : Nat.ble 2 (c q)
      · rfl
      · have := Nat.le_of_ble_eq_true w
        omega
    rw [e1] at hp
    exact hp rs
theorem th_fst_iff (c : Nat → Nat) : ∀ p, th_fst c p = true ↔ ∀ q, q < p → th_dv c q = false
  | 0 => ⟨fun _ q hq => absurd hq (Nat.not_lt_zero q), fun _ => rfl⟩
  | p + 1 => by
    rw [th_fst, Bool.and_eq_true, th_fst_iff c p, Bool.not_eq_true']
    constructor
    · rintro ⟨a, b⟩ q hq
      rcases Nat.lt_or_ge q p with z | z
      · exact b q z
      · have : q = p := by omega
        rw [this]
        exact a
    · intro h
      exact ⟨h p (by omega), fun q hq => h q (by omega)⟩
theorem th_y_cn45 {c : Nat → Nat} (hcb : ∀ j, j < 9 → c j ≤ 12) {p : Nat} (hp9 : p < 9) {S L F lv : Int32} {hv ch gs : Nat → Int32} (hch : ∀ k, k < 9 → ch k = nI (c k)) (post : Int32 → SY → Prop)
    (hp : ∀ rs' : Nat → Int32, post (if th_fst c p = true then 1 else 0) (S, L, F, lv, hv, ch, gs, rs')) (rs : Nat → Int32) : ∃ n, wY_counts_45 post (nI p) n 0 S L F lv hv ch gs rs := by
  refine loop_0 (fun n i (rr : Nat → Int32) => wY_counts_45 post (nI p) n (nI i) S L F lv hv ch gs rr) (fun i _ => ∀ q, q < i → th_dv c q = false) p rs (fun j hj => absurd hj (Nat.not_lt_zero j)) (fun n rr I => ?_) (fun n i rr hi I K => ?_)
  · rw [wY_counts_45]
    refine br_t (Int32.le_refl _) ?_
    have := hp rr
    rw [if_pos ((th_fst_iff c p).mpr I)] at this
    exact this
  · rw [wY_counts_45]
    refine pk_le p i (fun h => by omega) (fun _ => th_y_div hcb (by omega) hch _ (fun rs' => ?_))
    dsimp only
    cases z : th_dv c i
    · refine br_t (by decide) (nm_r (nI_1 i) (K rs' (fun q hq => ?_)))
      rcases Nat.lt_or_ge q i with y | y
      · exact I q y
      · have : q = i := by omega
        rw [this]
        exact z
    · refine br_f (by decide) ?_
      have := hp rs'
      rw [if_neg (fun h => by
        have := (th_fst_iff c p).mp h i hi
        rw [z] at this
        exact absurd this (by decide))] at this
      exact this
theorem th_y_counts {p x y z : Nat} (hx : x < 14) (hy : y < 14) (hz : z < 14) (hp9 : p < 9) {S L F lv : Int32} {hv ch gs rs : Nat → Int32} (hch : ∀ k, k < 9 → ch k = nI (th_vec p [x, y, z] k)) (hgs : th_gs [x, y, z] gs) (post : Int32 → SY → Prop)
    (hp : ∀ rs' : Nat → Int32, post (if th_cnt p [x, y, z] = true then 1 else 0) (S, L, F, lv, hv, ch, gs, rs')) : wpY_counts post (S, L, F, lv, hv, ch, gs, rs) (nI p) := by
  have g2 : gs 2 = nI x := hgs.1
  have g1 : gs 1 = nI y := hgs.2.1
  have g0 : gs 0 = nI z := hgs.2.2.1
  have hcb : ∀ j, j < 9 → th_vec p [x, y, z] j ≤ 12 := fun j _ => by
    have := th_vec_le p [x, y, z] j
    have e : [x, y, z].length = 3 := rfl
    omega
  unfold th_cnt at hp
  have go : th_nd3 [x, y, z] = true → ∃ n, wY_counts_45 post (nI p) n 0 S L F lv hv ch gs rs := by
    intro h
    rw [h, Bool.true_and] at hp
    exact th_y_cn45 hcb hp9 hch post hp rs
  have e3 : th_nd3 [x, y, z] = (Nat.ble z 8 || !(Nat.beq z y) || !(Nat.beq z x)) := rfl
  have nb : ∀ {a b : Nat}, a ≠ b → Nat.beq a b = false := by
    intro a b h
    cases q : Nat.beq a b
    · rfl
    · exact absurd (Nat.eq_of_beq_eq_true q) h
  unfold wpY_counts
  dsimp only
  rw [g0, g1, g2]
  refine pk_le z 8 (fun h8 => go ?_) (fun h8 => pk_eq z y (fun h1 => pk_eq z x (fun h2 => ?_) (fun h2 => go ?_)) (fun h1 => go ?_))
  · rw [e3, Nat.ble_eq_true_of_le h8]
    rfl
  · have e4 : th_nd3 [x, y, z] = false := by
      have e5 : Nat.ble z 8 = false := by
        cases q : Nat.ble z 8
        · rfl
        · have := Nat.le_of_ble_eq_true q
          omega
      rw [e3, e5, ← h1, ← h2, Nat.beq_refl]
      rfl
    rw [e4] at hp
    exact hp rs
  · rw [e3, nb h2, Bool.not_false, Bool.or_true]
  · rw [e3, nb h1, Bool.not_false, Bool.or_true, Bool.true_or]
end
section
def th_ec (t : Nat → Nat) (p : Nat) (s : List Nat) : Bool := Nat.beq (th_lef t p s) 0 && th_cnt p s
def th_dk (t : Nat → Nat) (p : Nat) (_ : Nat) (s : List Nat) : Bool := decide (s.length ≤ 2 ∧ th_lef t p s ≤ 3 * (3 - s.length))
def th_cp (t : Nat → Nat) (p : Nat) : Nat := th_dx (th_fit th_c4 p) (th_vc 3 (th_ec t p)) (th_dk t p) (fun _ => false) 3 [] 0 14
theorem th_lef_le {t : Nat → Nat} (ht : ∀ k, k < 9 → t k ≤ 4) (p : Nat) (s : List Nat) : th_lef t p s ≤ 36 := by
  have a := th_s_le (f := fun k => t k - th_vec p s k) (g := fun _ => 4) 9 (fun k hk => by
    have := ht k hk
    show t k - th_vec p s k ≤ 4
    omega)
  rw [th_s_const] at a
  exact a
theorem th_y_cwith {t : Nat → Nat} {p : Nat} (hp9 : p < 9) (ht : ∀ k, k < 9 → t k ≤ 4) {S lv : Int32} {ch gs rs : Nat → Int32} (hch : ∀ k, k < 9 → ch k = nI (th_vec p [] k)) (post : Int32 → SY → Prop)
    (hpost : ∀ (L F lv' : Int32) (ch' gs' rs' : Nat → Int32), post (nI (th_cp t p)) (S, L, F, lv', th_T t, ch', gs', rs')) :
    wpY_completeWith post (S, th_L t (th_vec p []), th_F t (th_vec p []), lv, th_T t, ch, gs, rs) (nI p) := by
  have main : ∀ n a st r, th_ks st → r ≤ 14 → th_mu st r < n → (∀ (L F lv' : Int32) (ch' gs' rs' : Nat → Int32), post (nI (th_up (th_fit th_c4 p) (th_vc 3 (th_ec t p)) (th_dk t p) (fun _ => false) st (th_dx (th_fit th_c4 p) (th_vc 3 (th_ec t p)) (th_dk t p) (fun _ => false) (3 - st.length) st a r))) (S, L, F, lv', th_T t, ch', gs', rs')) →
      (∀ ch gs rs : Nat → Int32, (∀ k, k < 9 → ch k = nI (th_vec p st k)) → th_gs st gs → gs st.length + 1 = nI (14 - r) → wY_completeWith_14 post (nI p) n (nI a) S (th_L t (th_vec p st)) (th_F t (th_vec p st)) (nI st.length) (th_T t) ch gs rs) := by
    refine th_dfs (fun n a st r => ∀ ch gs rs : Nat → Int32, (∀ k, k < 9 → ch k = nI (th_vec p st k)) → th_gs st gs → gs st.length + 1 = nI (14 - r) → wY_completeWith_14 post (nI p) n (nI a) S (th_L t (th_vec p st)) (th_F t (th_vec p st)) (nI st.length) (th_T t) ch gs rs) (fun a => ∀ (L F lv' : Int32) (ch' gs' rs' : Nat → Int32), post (nI a) (S, L, F, lv', th_T t, ch', gs', rs')) ?_ ?_ ?_ ?_ ?_ ?_ ?_
    · intro n a st r hk hr hs
      exact absurd hs (by decide)
    · intro n a hs hp ch gs rs hch hgs hrr
      rw [wY_completeWith_14]
      refine br_f (nI_pos (by decide)) ?_
      refine th_y_ch_end hrr (fun gs' => br_t rfl ?_)
      rw [wY_completeWith_14]
      exact br_t (by decide) (hp _ _ _ _ _ _)
    · intro n a h st hk hs ih ch gs rs hch hgs hrr
      have hl := hk.1
      rw [wY_completeWith_14]
      refine br_f (nI_pos (by omega)) ?_
      exact th_y_ch_pop ht hk hch hgs hrr (fun ch' gs' h1 h2 h3 => br_t rfl (ih ch' gs' rs h1 h2 h3))
    · intro n a st r hk hr hs hf ih ch gs rs hch hgs hrr
      have hl := hk.1
      rw [wY_completeWith_14]
      refine br_f (nI_pos (by omega)) ?_
      exact th_y_ch_no hr ht th_w4 hk hch hgs hrr hf (fun gs' h2 h3 => br_t rfl (ih ch gs' rs hch h2 h3))
    · intro n a st r hk hr hs hf hd hk2 ih ch gs rs hch hgs hrr
      have hl := hk.1
      have hl2 := hk2.1
      have hd := (decide_eq_true_iff.mp hd).2
      have lb := th_lef_le ht p ((13 - r) :: st)
      rw [List.length_cons] at hl2 hd
      have ev : th_vc 3 (th_ec t p) a ((13 - r) :: st) = a := if_neg (fun z => by
        have := z.1
        rw [List.length_cons] at this
        omega)
      rw [ev] at ih
      have em : (3 : Int32) * (2 - nI st.length) = nI (3 * (2 - st.length)) := by
        rw [show (2 : Int32) - nI st.length = nI (2 - st.length) from pk_sub (a := 2) hl]
        exact pk_mul 3 _
      rw [wY_completeWith_14]
      refine br_f (nI_pos (by omega)) ?_
      refine th_y_ch_fit hr ht th_w4 hk hch hgs hrr hf (fun ch' gs' h1 h2 => ?_)
      refine br_f (by decide) (pk_lt (3 * (2 - st.length)) (th_lef t p ((13 - r) :: st)) (fun h => by omega) (fun h => ?_) em rfl)
      unfold wY_completeWith_51 wY_completeWith_77
      refine br_f (by decide) (pk_eq st.length 2 (fun h => by omega) (fun _ => br_f (by decide) (pk_le 2 st.length (fun h => by omega) (fun _ => ?_))))
      exact th_y_deeper (by omega) h2 (fun gs'' g1 g2 => ih ch' gs'' rs h1 g1 (by rw [g2]; exact congrArg nI (by omega)))
    · intro n a st r hk hr hs hf hd ih ch gs rs hch hgs hrr
      have hl := hk.1
      have hd := decide_eq_false_iff_not.mp hd
      have lb := th_lef_le ht p ((13 - r) :: st)
      rw [List.length_cons] at hd
      have em : (3 : Int32) * (2 - nI st.length) = nI (3 * (2 - st.length)) := by
        rw [show (2 : Int32) - nI st.length = nI (2 - st.length) from pk_sub (a := 2) hl]
        exact pk_mul 3 _
      have cl : (nI st.length).toNatClampNeg = st.length := nI_clamp (by omega)
      have vl : vp_in (nI st.length) 4 := vp_in_nI (by omega) (by decide)
      have hv : ∀ k, k < 9 → th_vec p st k ≤ 12 := fun k _ => by
        have := th_vec_le p st k
        omega
      rw [wY_completeWith_14]
      refine br_f (nI_pos (by omega)) ?_
      refine th_y_ch_fit hr ht th_w4 hk hch hgs hrr hf (fun ch' gs' h1 h2 => ?_)
      have fin : ∀ x : Int32, x = nI (th_vc 3 (th_ec t p) a ((13 - r) :: st)) → ∀ rs' : Nat → Int32, wY_completeWith_97 post (wY_completeWith_14 post (nI p) n) (nI p) x S (th_L t (th_vec p ((13 - r) :: st))) (th_F t (th_vec p ((13 - r) :: st))) (nI st.length) (th_T t) ch' gs' rs' := by
        intro x ex rs'
        subst ex
        unfold wY_completeWith_97
        refine ⟨vl, ?_⟩
        rw [cl, h2.1]
        refine th_y_giveGroup (c := th_vec p st) (by omega) ht hv (fun k _ => rfl) h1 _ (fun ch'' h'' => ?_)
        exact ih ch'' gs' rs' h'' h2.2 (by rw [h2.1, nI_1]; exact congrArg nI (by omega))
      refine br_f (by decide) (pk_lt (3 * (2 - st.length)) (th_lef t p ((13 - r) :: st)) (fun h => ?_) (fun h => ?_) em rfl)
      · have ev : th_vc 3 (th_ec t p) a ((13 - r) :: st) = a := if_neg (fun z => by
          have z2 := z.2
          unfold th_ec at z2
          rw [Bool.and_eq_true, Nat.beq_eq] at z2
          omega)
        unfold wY_completeWith_51 wY_completeWith_77
        exact br_t rfl (br_t rfl (fin _ (by rw [ev]) rs))
      · have l2 : st.length = 2 := by omega
        unfold wY_completeWith_51
        refine br_f (by decide) (pk_eq st.length 2 (fun _ => ?_) (fun h => by omega))
        have f77 : ∀ x : Int32, x = nI (th_vc 3 (th_ec t p) a ((13 - r) :: st)) → ∀ rs' : Nat → Int32, wY_completeWith_77 post (wY_completeWith_14 post (nI p) n) (nI p) x 1 S (th_L t (th_vec p ((13 - r) :: st))) (th_F t (th_vec p ((13 - r) :: st))) (nI st.length) (th_T t) ch' gs' rs' := by
          intro x ex rs'
          unfold wY_completeWith_77
          exact br_f (by decide) (pk_le 2 st.length (fun _ => fin x ex rs') (fun h => by omega))
        have l0 : th_lef t p ((13 - r) :: st) = 0 := by omega
        have ee : th_ec t p ((13 - r) :: st) = th_cnt p ((13 - r) :: st) := by
          unfold th_ec
          rw [l0]
          exact Bool.true_and _
        have ev : th_vc 3 (th_ec t p) a ((13 - r) :: st) = if th_cnt p ((13 - r) :: st) = true then a + 1 else a := by
          unfold th_vc
          rw [ee]
          cases th_cnt p ((13 - r) :: st)
          · rw [if_neg (fun z => absurd z.2 (by decide)), if_neg (by decide)]
          · rw [if_pos ⟨by rw [List.length_cons]; omega, rfl⟩, if_pos rfl]
        obtain ⟨y, z, rfl⟩ : ∃ y z, st = [y, z] := by
          match st, l2 with
          | [y, z], _ => exact ⟨y, z, rfl⟩
        have hy : y < 14 := hk.2 y List.mem_cons_self
        have hz : z < 14 := hk.2 z (List.mem_cons_of_mem _ List.mem_cons_self)
        refine th_y_counts (by omega) hy hz hp9 h1 h2 _ (fun rs' => ?_)
        dsimp only
        cases q : th_cnt p [13 - r, y, z]
        · rw [q, if_neg (by decide)] at ev
          exact br_t (by decide) (f77 _ (by rw [ev]) rs')
        · rw [q, if_pos rfl] at ev
          exact br_f (by decide) (nm_r (nI_1 a) (f77 _ (by rw [ev]) rs'))
    · intro a st h
      exact (decide_eq_true_iff.mp h).1
  unfold wpY_completeWith
  dsimp only
  refine nm_e ⟨th_mu [] 14 + 1, ?_⟩
  exact main _ 0 [] 14 ⟨by decide, fun g hg => absurd hg List.not_mem_nil⟩ (Nat.le_refl _) (by omega) hpost ch _ rs hch True.intro (th_gs0 gs)
theorem th_y_comp {t : Nat → Nat} (ht : ∀ k, k < 9 → t k ≤ 4) {L F lv : Int32} {ch gs rs : Nat → Int32} (post : Int32 → SY → Prop)
    (hp : ∀ (L F lv' : Int32) (ch' gs' rs' : Nat → Int32), post (nI (th_s (th_cp t) 9)) (nI (th_s t 9), L, F, lv', th_T t, ch', gs', rs')) :
    wpY_completions post (nI (th_s t 9), L, F, lv, th_T t, ch, gs, rs) := by
  have key : ∀ d i, i + d = 9 → ∀ n, d < n → ∀ (L F lv : Int32) (ch gs rs : Nat → Int32), wY_completions_4 post n (nI (th_s (th_cp t) i)) (nI i) (nI (th_s t 9)) L F lv (th_T t) ch gs rs := by
    intro d
    induction d with
    | zero =>
      intro i hi n hn L F lv ch gs rs
      obtain ⟨m, rfl⟩ : ∃ m, n = m + 1 := ⟨n - 1, by omega⟩
      have e : i = 9 := by omega
      subst e
      rw [wY_completions_4]
      exact br_t (by decide) (hp _ _ _ _ _ _)
    | succ d ih =>
      intro i hi n hn L F lv ch gs rs
      obtain ⟨m, rfl⟩ : ∃ m, n = m + 1 := ⟨n - 1, by omega⟩
      have h9 : i < 9 := by omega
      have nx := ih (i + 1) (by omega) m (by omega)
      rw [th_s] at nx
      rw [wY_completions_4]
      refine pk_le 9 i (fun h => by omega) (fun _ => th_y_begin _ (fun ch1 g1 => ?_))
      dsimp only
      refine th_y_pair h9 ht g1 _ (fun ch2 g2 => ?_)
      dsimp only
      refine th_y_cwith h9 ht g2 _ (fun L F lv ch gs rs => ?_)
      exact nm_r (nI_add _ _) (nm_r (nI_1 i) (nx _ _ _ _ _ _))
  unfold wpY_completions
  dsimp only
  exact ⟨10, key 9 0 rfl 10 (by omega) _ _ _ _ _ _⟩
end
section
theorem th_d {a d : Nat} (ha : a < 1000) (h0 : 0 < d) (hd : d < 1000) : nI a / nI d = nI (a / d) := pk_div (by omega) h0 (by omega)
theorem th_r {a d : Nat} (ha : a < 1000) (h0 : 0 < d) (hd : d < 1000) : nI a - nI a / nI d * nI d = nI (a % d) := pk_rem (by omega) h0 (by omega)
theorem th_c_4 {c : Nat} (hc : c < 20) : nI c / 4 = nI (c / 4) := th_d (d := 4) (by omega) (by decide) (by decide)
theorem th_c_2 {c : Nat} (hc : c < 20) : nI c / 2 - nI c / 2 / 2 * 2 = nI (c / 2 % 2) := by
  rw [show nI c / 2 = nI (c / 2) from th_d (d := 2) (by omega) (by decide) (by decide)]
  exact th_r (d := 2) (by omega) (by decide) (by decide)
theorem th_c_1 {c : Nat} (hc : c < 20) : nI c - nI c / 2 * 2 = nI (c % 2) := th_r (d := 2) (by omega) (by decide) (by decide)
theorem th_x_behind {s k c : Nat} (hs : s < 250) (hk : k < 9) (hc : c < 20) (v : SX) (post : Int32 → Prop) (h1 : th_ok s k c = true → post (nI (th_to s c))) (h0 : th_ok s k c = false → post (-1)) :
    wpX_behind post v (nI s) (nI k) (nI (c / 4)) (nI (c / 2 % 2)) (nI (c % 2)) := by
  obtain ⟨a1, a2, a3, a4, a5, a6, a7, a8, a9, a10, a11⟩ := v
  have nok : ¬ ((c / 4 = 0 ∨ k ≤ 4) ∧ s % 10 / 2 + c / 4 + c / 2 % 2 ≤ 3 ∧ s % 2 + c % 2 ≤ 1) → post (-1) := by
    intro h
    refine h0 ?_
    cases z : th_ok s k c
    · rfl
    · exact absurd (th_ok_iff.mp z) h
  have e1 : nI s / 50 = nI (s / 50) := th_d (d := 50) (by omega) (by decide) (by decide)
  have e2 : (nI s - nI s / 10 * 10) / 2 + nI (c / 4) + nI (c / 2 % 2) = nI (s % 10 / 2 + c / 4 + c / 2 % 2) := by
    rw [show nI s - nI s / 10 * 10 = nI (s % 10) from th_r (d := 10) (by omega) (by decide) (by decide), show nI (s % 10) / 2 = nI (s % 10 / 2) from th_d (d := 2) (by omega) (by decide) (by decide), nI_add, nI_add]
  have e3 : nI s - nI s / 2 * 2 + nI (c % 2) = nI (s % 2 + c % 2) := by
    rw [show nI s - nI s / 2 * 2 = nI (s % 2) from th_r (d := 2) (by omega) (by decide) (by decide), nI_add]
  have e4 : (50 : Int32) * nI (c / 4) + 10 * nI (s / 50) + 2 * nI (s % 10 / 2 + c / 4 + c / 2 % 2) + nI (s % 2 + c % 2) = nI (th_to s c) := by
    rw [show (50 : Int32) * nI (c / 4) = nI (50 * (c / 4)) from pk_mul 50 _, show (10 : Int32) * nI (s / 50) = nI (10 * (s / 50)) from pk_mul 10 _, show (2 : Int32) * nI (s % 10 / 2 + c / 4 + c / 2 % 2) = nI (2 * (s % 10 / 2 + c / 4 + c / 2 % 2)) from pk_mul 2 _, nI_add, nI_add, nI_add]
    rfl
  have f36 : (c / 4 = 0 ∨ k ≤ 4) → wX_behind_36 post (nI (c / 4)) (nI (s / 50)) (nI (s % 10 / 2 + c / 4 + c / 2 % 2)) (nI (s % 2 + c % 2)) a1 a2 a3 a4 a5 a6 a7 a8 a9 a10 a11 := by
    intro hr
    unfold wX_behind_36 wX_behind_41 wX_behind_64 wX_behind_65
    refine br_f (by decide) (pk_lt 3 (s % 10 / 2 + c / 4 + c / 2 % 2) (fun h => br_t rfl (nok (fun z => by omega))) (fun h => pk_lt 1 (s % 2 + c % 2) (fun h => br_t rfl (nok (fun z => by omega))) (fun h' => br_f (by decide) ?_)))
    rw [e4]
    exact h1 (th_ok_iff.mpr ⟨hr, h, h'⟩)
  unfold wpX_behind
  dsimp only
  refine ⟨by decide, nm_r e1 ⟨by decide, by decide, nm_r e2 ⟨by decide, nm_r e3 (pk_eq (c / 4) 0 (fun h => f36 (Or.inl h)) (fun h => pk_le 5 k (fun h5 => ?_) (fun h5 => f36 (Or.inr (by omega)))))⟩⟩⟩
  unfold wX_behind_41 wX_behind_64 wX_behind_65
  exact br_t rfl (br_t rfl (nok (fun z => by omega)))
theorem th_x_needs {s c : Nat} (hs : s < 250) (hc : c < 20) (v : SX) (post : Int32 → Prop) (hp : post (nI (th_nd s c))) :
    wpX_needs post v (nI s) (nI (c / 4)) (nI (c / 2 % 2)) (nI (c % 2)) := by
  obtain ⟨a1, a2, a3, a4, a5, a6, a7, a8, a9, a10, a11⟩ := v
  unfold wpX_needs
  dsimp only
  refine ⟨by decide, by decide, by decide, ?_⟩
  have e : nI s / 50 + (nI s - nI s / 50 * 50) / 10 + nI (c / 4) + 3 * nI (c / 2 % 2) + 2 * nI (c % 2) = nI (th_nd s c) := by
    rw [show nI s - nI s / 50 * 50 = nI (s % 50) from th_r (d := 50) (by omega) (by decide) (by decide), show nI s / 50 = nI (s / 50) from th_d (d := 50) (by omega) (by decide) (by decide), show nI (s % 50) / 10 = nI (s % 50 / 10) from th_d (d := 10) (by omega) (by decide) (by decide), show (3 : Int32) * nI (c / 2 % 2) = nI (3 * (c / 2 % 2)) from pk_mul 3 _, show (2 : Int32) * nI (c % 2) = nI (2 * (c % 2)) from pk_mul 2 _, nI_add, nI_add, nI_add, nI_add]
    rfl
  rw [e]
  exact hp
def th_ms (t : Nat → Nat) (s k c : Nat) : Nat := if th_nd s c ≤ 4 then th_nd s c - t k else 1000
section
variable {t : Nat → Nat} {S fo la : Int32} {ke nx me ma nm ny md : Nat → Int32}
theorem th_x_missing {s k c : Nat} (hs : s < 250) (hk : k < 9) (hc : c < 20) (ht : ∀ k, k < 9 → t k ≤ 4) (post : Int32 → Prop) (hp : post (nI (th_ms t s k c))) :
    wpX_missing post (S, fo, la, th_T t, ke, nx, me, ma, nm, ny, md) (nI s) (nI k) (nI c) := by
  have cl : (nI k).toNatClampNeg = k := nI_clamp (by omega)
  have vk : vp_in (nI k) 9 := vp_in_nI hk (by decide)
  have htk := ht k hk
  have nb := th_nd_lt hs hc
  unfold wpX_missing
  dsimp only
  rw [th_c_4 hc, th_c_2 hc, th_c_1 hc]
  refine ⟨by decide, by decide, by decide, by decide, th_x_needs hs hc _ _ ?_⟩
  unfold th_ms at hp
  rw [cl]
  refine pk_le (th_nd s c) 4 (fun h => ⟨vk, pk_le (th_nd s c) (t k) (fun h2 => ?_) (fun h2 => ⟨vk, ?_⟩)⟩) (fun h => ?_)
  · rw [if_pos h, show th_nd s c - t k = 0 by omega] at hp
    exact hp
  · rw [if_pos h] at hp
    have e : nI (th_nd s c) - th_T t k = nI (th_nd s c - t k) := pk_sub (by omega)
    rw [e]
    exact hp
  · rw [if_neg (by omega)] at hp
    exact hp
theorem th_x_clearNext (w : Int32) (post : SX → Prop) (hp : ∀ nx' : Nat → Int32, (∀ j, j < 250 → nx' j = w) → post (S, fo, la, th_T t, ke, nx', me, ma, nm, ny, md)) :
    wpX_clearNext post (S, fo, la, th_T t, ke, nx, me, ma, nm, ny, md) w := by
  unfold wpX_clearNext
  dsimp only
  refine loop_0 (fun n i (c : Nat → Int32) => wX_clearNext_2 post w S fo la n (nI i) (th_T t) ke c me ma nm ny md) (fun i c => ∀ k, k < i → c k = w) 250 nx (fun k hk => absurd hk (Nat.not_lt_zero k)) (fun n c I => ?_) (fun n i c hi I K => ?_)
  · rw [wX_clearNext_2]
    exact br_t (by decide) (hp c I)
  · rw [wX_clearNext_2]
    refine pk_le 250 i (fun h => by omega) (fun h => ⟨vp_in_nI hi (by decide), nm_r (e' := upd c i w) (by rw [nI_clamp (by omega)]) (nm_r (nI_1 i) (K _ ?_))⟩)
    intro k hk
    by_cases z : k = i
    · rw [z, pk_us]
    · rw [pk_un z]
      exact I k (by omega)
theorem th_x_takeNext (post : SX → Prop) (hp : ∀ ke' : Nat → Int32, (∀ j, j < 250 → ke' j = nx j) → post (S, fo, la, th_T t, ke', nx, me, ma, nm, ny, md)) :
    wpX_takeNext post (S, fo, la, th_T t, ke, nx, me, ma, nm, ny, md) := by
  unfold wpX_takeNext
  dsimp only
  refine loop_0 (fun n i (c : Nat → Int32) => wX_takeNext_2 post S fo la n (nI i) (th_T t) c nx me ma nm ny md) (fun i c => ∀ k, k < i → c k = nx k) 250 ke (fun k hk => absurd hk (Nat.not_lt_zero k)) (fun n c I => ?_) (fun n i c hi I K => ?_)
  · rw [wX_takeNext_2]
    exact br_t (by decide) (hp c I)
  · rw [wX_takeNext_2]
    refine pk_le 250 i (fun h => by omega) (fun h => ⟨vp_in_nI hi (by decide), vp_in_nI hi (by decide), nm_r (e' := upd c i (nx i)) (by rw [nI_clamp (by omega)]) (nm_r (nI_1 i) (K _ ?_))⟩)
    intro k hk
    by_cases z : k = i
    · rw [z, pk_us]
    · rw [pk_un z]
      exact I k (by omega)
end
def th_FD (t K : Nat → Nat) (k : Nat) (Q : Nat → Nat → Prop) (N : Nat → Nat) : Prop :=
  (∀ j, j < 250 → N j ≤ 1000) ∧ (∀ s c, Q s c → K s < 1000 → th_ok s k c = true → th_nd s c ≤ 4 → N (th_to s c) ≤ K s + (th_nd s c - t k)) ∧
    (∀ j, j < 250 → N j < 1000 → ∃ s c, Q s c ∧ K s < 1000 ∧ th_ok s k c = true ∧ th_nd s c ≤ 4 ∧ j = th_to s c ∧ N j = K s + (th_nd s c - t k))
theorem th_FD_skip {t K : Nat → Nat} {k : Nat} {Q Q' : Nat → Nat → Prop} {N : Nat → Nat} {s0 c0 : Nat} (h : th_FD t K k Q N) (h1 : ∀ s c, Q' s c → Q s c ∨ (s = s0 ∧ c = c0)) (h2 : ∀ s c, Q s c → Q' s c)
    (h3 : K s0 < 1000 → th_ok s0 k c0 = true → th_nd s0 c0 ≤ 4 → N (th_to s0 c0) ≤ K s0 + (th_nd s0 c0 - t k)) : th_FD t K k Q' N := by
  obtain ⟨a1, a2, a3⟩ := h
  refine ⟨a1, fun s c hq => ?_, fun j hj hn => ?_⟩
  · rcases h1 s c hq with z | ⟨z1, z2⟩
    · exact a2 s c z
    · rw [z1, z2]
      exact h3
  · obtain ⟨s, c, b1, b2⟩ := a3 j hj hn
    exact ⟨s, c, h2 s c b1, b2⟩
theorem th_FD_set {t K : Nat → Nat} {k : Nat} {Q Q' : Nat → Nat → Prop} {N : Nat → Nat} {s0 c0 : Nat} (h : th_FD t K k Q N) (h1 : ∀ s c, Q' s c → Q s c ∨ (s = s0 ∧ c = c0)) (h2 : ∀ s c, Q s c → Q' s c) (hq : Q' s0 c0)
    (g1 : K s0 < 1000) (g2 : th_ok s0 k c0 = true) (g3 : th_nd s0 c0 ≤ 4) (g4 : K s0 + (th_nd s0 c0 - t k) < N (th_to s0 c0)) (g5 : K s0 + (th_nd s0 c0 - t k) < 1000) :
    th_FD t K k Q' (fun j => if j = th_to s0 c0 then K s0 + (th_nd s0 c0 - t k) else N j) := by
  obtain ⟨a1, a2, a3⟩ := h
  refine ⟨fun j hj => ?_, fun s c hq' b1 b2 b3 => ?_, fun j hj hn => ?_⟩
  · dsimp only
    by_cases z : j = th_to s0 c0
    · rw [if_pos z]
      omega
    · rw [if_neg z]
      exact a1 j hj
  · dsimp only
    rcases h1 s c hq' with z | ⟨z1, z2⟩
    · have := a2 s c z b1 b2 b3
      by_cases y : th_to s c = th_to s0 c0
      · rw [if_pos y]
        rw [y] at this
        omega
      · rw [if_neg y]
        exact this
    · rw [z1, z2, if_pos rfl]
      exact Nat.le_refl _
  · dsimp only at hn ⊢
    by_cases z : j = th_to s0 c0
    · rw [if_pos z]
      exact ⟨s0, c0, hq, g1, g2, g3, z, rfl⟩
    · rw [if_neg z] at hn ⊢
      obtain ⟨s, c, b1, b2⟩ := a3 j hj hn
      exact ⟨s, c, h2 s c b1, b2⟩
section
variable {t : Nat → Nat} {S fo la : Int32} {ke nx me ma nm ny md : Nat → Int32}
theorem th_x_leastFrom {K N : Nat → Nat} {s k : Nat} {Q : Nat → Nat → Prop} (hs : s < 250) (hk : k < 9) (ht : ∀ k, k < 9 → t k ≤ 4) (hK : K s < 1000) (hke : ke s = nI (K s)) (hN : ∀ j, j < 250 → nx j = nI (N j)) (hF : th_FD t K k Q N) (post : SX → Prop)
    (hp : ∀ (nx' : Nat → Int32) (N' : Nat → Nat), (∀ j, j < 250 → nx' j = nI (N' j)) → th_FD t K k (fun a c => Q a c ∨ (a = s ∧ c < 20)) N' → post (S, fo, la, th_T t, ke, nx', me, ma, nm, ny, md)) :
    wpX_leastFrom post (S, fo, la, th_T t, ke, nx, me, ma, nm, ny, md) (nI s) (nI k) := by
  have cs : (nI s).toNatClampNeg = s := nI_clamp (by omega)
  have vs : vp_in (nI s) 250 := vp_in_nI hs (by decide)
  unfold wpX_leastFrom
  dsimp only
  refine loop_0 (fun n i (c : Nat → Int32) => wX_leastFrom_2 post (nI s) (nI k) S fo la n (nI i) (th_T t) ke c me ma nm ny md) (fun i c => ∃ N' : Nat → Nat, (∀ j, j < 250 → c j = nI (N' j)) ∧ th_FD t K k (fun a c => Q a c ∨ (a = s ∧ c < i)) N') 20 nx ⟨N, hN, ?_⟩ (fun n c I => ?_) (fun n i c hi I KK => ?_)
  · refine th_FD_skip (s0 := 0) (c0 := 20) hF (fun a c h => ?_) (fun a c h => Or.inl h) (fun _ h => ?_)
    · rcases h with h | ⟨_, h⟩
      · exact Or.inl h
      · exact absurd h (Nat.not_lt_zero c)
    · intro _
      have h2 := th_ok_iff.mp h
      exact absurd h2.2.1 (by decide)
  · obtain ⟨N', h1, h2⟩ := I
    rw [wX_leastFrom_2]
    exact br_t (by decide) (hp c N' h1 h2)
  · obtain ⟨N', h1, h2⟩ := I
    have q1 : ∀ a b, (Q a b ∨ (a = s ∧ b < i + 1)) → (Q a b ∨ (a = s ∧ b < i)) ∨ (a = s ∧ b = i) := by
      intro a b h
      rcases h with h | ⟨h, h'⟩
      · exact Or.inl (Or.inl h)
      · rcases Nat.lt_or_ge b i with z | z
        · exact Or.inl (Or.inr ⟨h, z⟩)
        · exact Or.inr ⟨h, by omega⟩
    have q2 : ∀ a b, (Q a b ∨ (a = s ∧ b < i)) → (Q a b ∨ (a = s ∧ b < i + 1)) := by
      intro a b h
      rcases h with h | ⟨h, h'⟩
      · exact Or.inl h
      · exact Or.inr ⟨h, by omega⟩
    have nb := th_nd_lt hs hi
    have msb : th_ms t s k i ≤ 1000 := by
      unfold th_ms
      split <;> omega
    have es : ke (nI s).toNatClampNeg + nI (th_ms t s k i) = nI (K s + th_ms t s k i) := by rw [cs, hke, nI_add]
    rw [wX_leastFrom_2]
    dsimp only
    rw [th_c_4 hi, th_c_2 hi, th_c_1 hi]
    refine pk_le 20 i (fun h => by omega) (fun _ => ⟨by decide, by decide, by decide, by decide, th_x_behind hs hk hi _ _ (fun ok => ⟨vs, th_x_missing hs hk hi ht _ (nm_r es ?_)⟩) (fun ok => ⟨vs, th_x_missing hs hk hi ht _ (nm_r es ?_)⟩)⟩)
    · have tl := th_to_lt hs hi ok
      have ct : (nI (th_to s i)).toNatClampNeg = th_to s i := nI_clamp (by omega)
      have vt : vp_in (nI (th_to s i)) 250 := vp_in_nI tl (by decide)
      have nle := h2.1 _ tl
      refine br_f (nI_pos (by omega)) (pk_le 1000 (K s + th_ms t s k i) (fun g => nm_r (nI_1 i) (KK _ ⟨N', h1, th_FD_skip h2 q1 q2 (fun _ _ h4 => ?_)⟩)) (fun g => ⟨vt, pk_le (N' (th_to s i)) (K s + th_ms t s k i) (fun g2 => nm_r (nI_1 i) (KK _ ⟨N', h1, th_FD_skip h2 q1 q2 (fun _ _ h4 => ?_)⟩)) (fun g2 => ⟨vt, nm_r (e' := upd c (th_to s i) (nI (K s + th_ms t s k i))) (by rw [ct]) (nm_r (nI_1 i) (KK _ ?_))⟩) (by rw [ct, h1 _ tl])⟩))
      · unfold th_ms at g
        rw [if_pos h4] at g
        omega
      · unfold th_ms at g2
        rw [if_pos h4] at g2
        exact g2
      · have h4 : th_nd s i ≤ 4 := by
          unfold th_ms at g
          by_cases z : th_nd s i ≤ 4
          · exact z
          · rw [if_neg z] at g
            omega
        have em : th_ms t s k i = th_nd s i - t k := if_pos h4
        rw [em] at g g2 ⊢
        refine ⟨_, ?_, th_FD_set h2 q1 q2 (Or.inr ⟨rfl, by omega⟩) hK ok h4 g2 g⟩
        intro j hj
        by_cases z : j = th_to s i
        · rw [z, pk_us, if_pos rfl]
        · rw [pk_un z, if_neg z, h1 j hj]
    · refine br_t (by decide) (nm_r (nI_1 i) (KK _ ⟨N', h1, th_FD_skip h2 q1 q2 (fun _ h4 => ?_)⟩))
      rw [ok] at h4
      exact absurd h4 (by decide)
end
end
section
def th_KD (t : Nat → Nat) (k : Nat) (K : Nat → Nat) : Prop :=
  (∀ s, s < 250 → K s ≤ 1000) ∧ (∀ s w, (s, w) ∈ th_P k → K s ≤ th_lk t k w) ∧ (∀ s, s < 250 → K s < 1000 → ∃ w, (s, w) ∈ th_P k ∧ K s = th_lk t k w)
theorem th_KD_0 (t : Nat → Nat) : th_KD t 0 (fun s => if s = 0 then 0 else 1000) := by
  refine ⟨fun s _ => ?_, fun s w h => ?_, fun s hs h => ?_⟩
  · dsimp only
    split <;> omega
  · have h' : (s, w) = (0, 0) := List.mem_singleton.mp h
    have e : s = 0 := congrArg Prod.fst h'
    dsimp only
    rw [if_pos e]
    exact Nat.zero_le _
  · dsimp only at h ⊢
    by_cases z : s = 0
    · rw [if_pos z, z]
      exact ⟨0, List.mem_singleton.mpr rfl, rfl⟩
    · rw [if_neg z] at h
      exact absurd h (by decide)
theorem th_KD_s {t K N : Nat → Nat} {k : Nat} (hk : k < 9) (h : th_KD t k K) (hF : th_FD t K k (fun s c => s < 250 ∧ c < 20) N) : th_KD t (k + 1) N := by
  obtain ⟨h1, h2, h3⟩ := h
  obtain ⟨f1, f2, f3⟩ := hF
  refine ⟨f1, fun s' w' hm => ?_, fun j hj hn => ?_⟩
  · obtain ⟨s, c, x, hp, hx, ok, n4, e1, e2⟩ := th_P_mem.mp hm
    have a := h2 s c hp
    have b := th_P_lk t k s c hp
    have sl := th_P_lt k s c hp
    have := f2 s x ⟨sl, hx⟩ (by omega) ok n4
    have d := th_dm (a := c) (b := th_nd s x) (by omega)
    show N s' ≤ th_lk t k (w' / 16) + (w' % 16 - t k)
    rw [e1, e2, d.1, d.2]
    omega
  · obtain ⟨s, c, ⟨q1, q2⟩, b1, b2, b3, b4, b5⟩ := f3 j hj hn
    obtain ⟨w, m, e⟩ := h3 s q1 b1
    have d := th_dm (a := w) (b := th_nd s c) (by omega)
    refine ⟨w * 16 + th_nd s c, th_P_mem.mpr ⟨s, w, c, m, q2, b2, b3, b4, rfl⟩, ?_⟩
    show N j = th_lk t k ((w * 16 + th_nd s c) / 16) + ((w * 16 + th_nd s c) % 16 - t k)
    rw [d.1, d.2, b5, e]
theorem th_KD_9 {t K : Nat → Nat} (h : th_KD t 9 K) : K 7 = th_D t := by
  obtain ⟨h1, h2, h3⟩ := h
  obtain ⟨w0, hw0⟩ := th_ex7
  have a0 := h2 7 w0 (th_LX_mem.mp hw0)
  have b0 := th_P_lk t 9 7 w0 (th_LX_mem.mp hw0)
  obtain ⟨w1, m1, e1⟩ := h3 7 (by decide) (by omega)
  have c1 : th_D t ≤ th_lk t 9 w1 := th_mn_le _ _ _ (th_LX_mem.mpr m1)
  rcases th_mn_att (th_lk t 9) (th_LX 7) with z | ⟨w2, m2, e2⟩
  · have : th_D t = 1000 := z
    omega
  · have e3 : th_D t = th_lk t 9 w2 := e2
    have := h2 7 w2 (th_LX_mem.mp m2)
    omega
section
variable {t : Nat → Nat} {S fo la : Int32} {ke nx me ma nm ny md : Nat → Int32}
theorem th_x_fd49 {K : Nat → Nat} {k : Nat} (hk : k < 9) (ht : ∀ k, k < 9 → t k ≤ 4) (hb : ∀ s, s < 250 → K s ≤ 1000) (hke : ∀ s, s < 250 → ke s = nI (K s)) (post : Int32 → SX → Prop) {J : Int32 → Int32 → Int32 → Int32 → (Nat → Int32) → (Nat → Int32) → (Nat → Int32) → (Nat → Int32) → (Nat → Int32) → (Nat → Int32) → (Nat → Int32) → (Nat → Int32) → Prop}
    (hJ : ∀ (ke' nx' : Nat → Int32) (N : Nat → Nat), (∀ s, s < 250 → ke' s = nI (N s)) → th_FD t K k (fun s c => s < 250 ∧ c < 20) N → J (nI (k + 1)) S fo la (th_T t) ke' nx' me ma nm ny md) :
    ∀ d s, s + d = 250 → ∀ n, d < n → ∀ (nx : Nat → Int32) (N : Nat → Nat), (∀ j, j < 250 → nx j = nI (N j)) → th_FD t K k (fun a c => a < s ∧ c < 20) N → wX_findDistance_49 post J (nI k) n (nI s) S fo la (th_T t) ke nx me ma nm ny md := by
  intro d
  induction d with
  | zero =>
    intro s hs n hn nx N hN hF
    obtain ⟨m, rfl⟩ : ∃ m, n = m + 1 := ⟨n - 1, by omega⟩
    have e : s = 250 := by omega
    subst e
    rw [wX_findDistance_49]
    refine br_t (by decide) (th_x_takeNext _ (fun ke' h' => nm_r (nI_1 k) (hJ ke' nx N (fun j hj => ?_) hF)))
    rw [h' j hj, hN j hj]
  | succ d ih =>
    intro s hs n hn nx N hN hF
    obtain ⟨m, rfl⟩ : ∃ m, n = m + 1 := ⟨n - 1, by omega⟩
    have h2 : s < 250 := by omega
    have cs : (nI s).toNatClampNeg = s := nI_clamp (by omega)
    have hbs := hb s h2
    rw [wX_findDistance_49]
    refine pk_le 250 s (fun h => by omega) (fun _ => ⟨vp_in_nI h2 (by decide), pk_le 1000 (K s) (fun g => nm_r (nI_1 s) (ih (s + 1) (by omega) m (by omega) nx N hN ?_)) (fun g => ?_) rfl (by rw [cs, hke s h2])⟩)
    · obtain ⟨f1, f2, f3⟩ := hF
      refine ⟨f1, fun a c q b => ?_, fun j hj hn => ?_⟩
      · rcases Nat.lt_or_ge a s with z | z
        · exact f2 a c ⟨z, q.2⟩ b
        · have : a = s := by omega
          subst this
          omega
      · obtain ⟨a, c, b1, b2⟩ := f3 j hj hn
        exact ⟨a, c, ⟨by omega, b1.2⟩, b2⟩
    · refine th_x_leastFrom h2 hk ht g (hke s h2) hN hF _ (fun nx' N' h1 h3 => nm_r (nI_1 s) (ih (s + 1) (by omega) m (by omega) nx' N' h1 ?_))
      have e : (fun a c => a < s + 1 ∧ c < 20) = (fun a c => (a < s ∧ c < 20) ∨ (a = s ∧ c < 20)) := by
        funext a c
        apply propext
        omega
      rw [e]
      exact h3
theorem th_x_find (ht : ∀ k, k < 9 → t k ≤ 4) (post : Int32 → SX → Prop)
    (hp : ∀ ke' nx' : Nat → Int32, post (nI (th_D t)) (S, fo, la, th_T t, ke', nx', me, ma, nm, ny, md)) :
    wpX_findDistance post (S, fo, la, th_T t, ke, nx, me, ma, nm, ny, md) := by
  have key : ∀ d k, k + d = 9 → ∀ n, d < n → ∀ (ke nx : Nat → Int32) (K : Nat → Nat), (∀ s, s < 250 → ke s = nI (K s)) → th_KD t k K → wX_findDistance_34 post n (nI k) S fo la (th_T t) ke nx me ma nm ny md := by
    intro d
    induction d with
    | zero =>
      intro k hk n hn ke nx K hke hD
      obtain ⟨m, rfl⟩ : ∃ m, n = m + 1 := ⟨n - 1, by omega⟩
      have e : k = 9 := by omega
      subst e
      rw [wX_findDistance_34]
      refine br_t (by decide) ?_
      rw [hke 7 (by decide), th_KD_9 hD]
      exact hp _ _
    | succ d ih =>
      intro k hk n hn ke nx K hke hD
      obtain ⟨m, rfl⟩ : ∃ m, n = m + 1 := ⟨n - 1, by omega⟩
      have h9 : k < 9 := by omega
      rw [wX_findDistance_34]
      refine pk_le 9 k (fun h => by omega) (fun _ => th_x_clearNext _ _ (fun nx' h' => ⟨251, ?_⟩))
      refine th_x_fd49 (K := K) h9 ht hD.1 hke post (fun ke' nx'' N h1 h2 => ih (k + 1) (by omega) m (by omega) ke' nx'' N h1 (th_KD_s h9 hD h2)) 250 0 rfl 251 (by omega) nx' (fun _ => 1000) h' ?_
      exact ⟨fun _ _ => Nat.le_refl _, fun a c q => absurd q.1 (Nat.not_lt_zero a), fun j _ h => absurd h (Nat.lt_irrefl 1000)⟩
  unfold wpX_findDistance
  dsimp only
  refine loop_0 (fun n i (c : Nat → Int32) => wX_findDistance_2 post S fo la n (nI i) (th_T t) c nx me ma nm ny md) (fun i c => ∀ k, k < i → c k = nI (if k = 0 then 0 else 1000)) 250 ke (fun k hk => absurd hk (Nat.not_lt_zero k)) (fun n c I => ?_) (fun n i c hi I K => ?_)
  · rw [wX_findDistance_2]
    exact br_t (by decide) ⟨10, key 9 0 rfl 10 (by omega) c nx (fun s => if s = 0 then 0 else 1000) I (th_KD_0 t)⟩
  · have ci : (nI i).toNatClampNeg = i := nI_clamp (by omega)
    have vi : vp_in (nI i) 250 := vp_in_nI hi (by decide)
    have nxt : ∀ x : Int32, x = nI (if i = 0 then 0 else 1000) → ∀ k, k < i + 1 → upd c i x k = nI (if k = 0 then 0 else 1000) := by
      intro x ex k hk
      by_cases z : k = i
      · rw [z, pk_us, ex]
      · rw [pk_un z]
        exact I k (by omega)
    rw [wX_findDistance_2]
    dsimp only
    rw [ci]
    refine pk_le 250 i (fun h => by omega) (fun _ => pk_eq i 0 (fun h => ⟨vi, nm_e (nm_r (nI_1 i) (K _ (nxt _ ?_)))⟩) (fun h => ⟨vi, nm_e (nm_r (nI_1 i) (K _ (nxt _ ?_)))⟩))
    · rw [if_pos h]
      rfl
    · rw [if_neg h]
      rfl
end
end
section
theorem th_by : ∀ x, x < 11 → vp_nar .byte (nI x).toInt8.toInt32 = nI x := by
  intro x hx
  rw [vp_nar_byte]
  exact (by decide +kernel : ∀ x, x < 11 → (nI x).toInt8.toInt32.toInt8.toInt32 = nI x) x hx
theorem th_by1 : ∀ x, x < 11 → vp_nar .byte (nI x) = nI x := by
  intro x hx
  rw [vp_nar_byte]
  exact (by decide +kernel : ∀ x, x < 11 → (nI x).toInt8.toInt32 = nI x) x hx
theorem th_X_up {t : Nat → Nat} {j : Nat} (hj : j < 9) (h : t j ≤ 4) : upd (th_T t) (nI j).toNatClampNeg (vp_nar .byte ((th_T t (nI j).toNatClampNeg + 1).toInt8.toInt32)) = th_T (th_bp t j) := by
  rw [nI_clamp (by omega), ← th_T_bp]
  show upd (th_T t) j (vp_nar .byte ((nI (t j) + 1).toInt8.toInt32)) = _
  rw [nI_1, th_by _ (by omega)]
theorem th_X_dn {t : Nat → Nat} {j : Nat} (hj : j < 9) (h0 : 0 < t j) (h : t j ≤ 5) : upd (th_T t) (nI j).toNatClampNeg (vp_nar .byte ((th_T t (nI j).toNatClampNeg - 1).toInt8.toInt32)) = th_T (th_dn t j) := by
  rw [nI_clamp (by omega), ← th_T_dn]
  show upd (th_T t) j (vp_nar .byte ((nI (t j) - 1).toInt8.toInt32)) = _
  obtain ⟨q, hq⟩ : ∃ q, t j = q + 1 := ⟨t j - 1, by omega⟩
  rw [hq, nI_pred, th_by _ (by omega), Nat.add_sub_cancel]
theorem th_bp_self (t : Nat → Nat) (i : Nat) : th_bp t i i = t i + 1 := if_pos rfl
theorem th_dn_self (t : Nat → Nat) (i : Nat) : th_dn t i i = t i - 1 := if_pos rfl
section
variable {t : Nat → Nat} {S fo la : Int32} {ke nx me ma nm ny md : Nat → Int32}
theorem th_x_wanted (ht : ∀ k, k < 9 → t k ≤ 4) (post : Int32 → SX → Prop)
    (hp : ∀ ke' nx' : Nat → Int32, post (th_wn t (th_D t) 9) (S, fo, la, th_T t, ke', nx', me, ma, nm, ny, md)) :
    wpX_findWanted post (S, fo, la, th_T t, ke, nx, me, ma, nm, ny, md) := by
  have key : ∀ d i, i + d = 9 → ∀ n, d < n → ∀ (ke nx : Nat → Int32), wX_findWanted_9 post (nI (th_D t)) n (th_wn t (th_D t) i) (nI i) S fo la (th_T t) ke nx me ma nm ny md := by
    intro d
    induction d with
    | zero =>
      intro i hi n hn ke nx
      obtain ⟨m, rfl⟩ : ∃ m, n = m + 1 := ⟨n - 1, by omega⟩
      have e : i = 9 := by omega
      subst e
      rw [wX_findWanted_9]
      exact br_t (by decide) (hp _ _)
    | succ d ih =>
      intro i hi n hn ke nx
      obtain ⟨m, rfl⟩ : ∃ m, n = m + 1 := ⟨n - 1, by omega⟩
      have h9 : i < 9 := by omega
      have cl : (nI i).toNatClampNeg = i := nI_clamp (by omega)
      have vi : vp_in (nI i) 9 := vp_in_nI h9 (by decide)
      have hti := ht i h9
      have d1 := th_D_11 t
      have d2 := th_D_11 (th_bp t i)
      have nxt : ∀ x : Int32, x = th_wn t (th_D t) (i + 1) → ∀ ke nx : Nat → Int32, wX_findWanted_9 post (nI (th_D t)) m x (nI (i + 1)) S fo la (th_T t) ke nx me ma nm ny md := by
        intro x ex
        subst ex
        exact ih (i + 1) (by omega) m (by omega)
      rw [wX_findWanted_9]
      refine pk_le 9 i (fun h => by omega) (fun _ => ⟨vi, pk_le 4 (t i) (fun h4 => nm_r (nI_1 i) (nxt _ ?_ _ _)) (fun h4 => ⟨vi, vi, nm_r (th_X_up h9 hti) (th_x_find (th_bp_4 ht h4) _ ?_)⟩) rfl (by rw [cl]; rfl)⟩)
      · rw [th_wn, if_neg (fun z => by omega)]
      · intro ke' nx'
        have e := th_X_dn (t := th_bp t i) h9 (by rw [th_bp_self]; omega) (by rw [th_bp_self]; omega)
        rw [th_dn_bp] at e
        refine ⟨vi, vi, nm_r e (pk_le (th_D t) (th_D (th_bp t i)) (fun g => nm_r (nI_1 i) (nxt _ ?_ _ _)) (fun g => nm_e (nm_r (nI_1 i) (nxt _ ?_ _ _))))⟩
        · rw [th_wn, if_neg (fun z => by omega)]
        · rw [th_wn, if_pos ⟨h4, g⟩]
  unfold wpX_findWanted
  dsimp only
  exact th_x_find ht _ (fun ke' nx' => ⟨10, key 9 0 rfl 10 (by omega) _ _⟩)
theorem th_x_hope (ht : ∀ k, k < 9 → t k ≤ 4) (post : Int32 → SX → Prop)
    (hp : ∀ ke' nx' : Nat → Int32, post (th_H t) (S, fo, la, th_T t, ke', nx', me, ma, nm, ny, md)) :
    wpX_findHope post (S, fo, la, th_T t, ke, nx, me, ma, nm, ny, md) := by
  unfold wpX_findHope
  dsimp only
  refine th_x_wanted ht _ (fun ke nx => ⟨10, ?_⟩)
  unfold th_H at hp
  generalize th_wn t (th_D t) 9 = W at *
  have key : ∀ d i, i + d = 9 → ∀ n, d < n → wX_findHope_9 post W S fo la (th_T t) ke nx me ma nm ny md n (th_hs W t i) (nI i) := by
    intro d
    induction d with
    | zero =>
      intro i hi n hn
      obtain ⟨m, rfl⟩ : ∃ m, n = m + 1 := ⟨n - 1, by omega⟩
      have e : i = 9 := by omega
      subst e
      rw [wX_findHope_9]
      exact br_t (by decide) (hp _ _)
    | succ d ih =>
      intro i hi n hn
      obtain ⟨m, rfl⟩ : ∃ m, n = m + 1 := ⟨n - 1, by omega⟩
      have h9 : i < 9 := by omega
      have cl : (nI i).toNatClampNeg = i := nI_clamp (by omega)
      rw [wX_findHope_9]
      have nxt := ih (i + 1) (by omega) m (by omega)
      rw [th_hs] at nxt
      refine pk_le 9 i (fun h => by omega) (fun _ => br_c (fun h1 => ⟨vp_in_nI h9 (by decide), ?_⟩) (fun h1 => nm_r (nI_1 i) ?_))
      · rw [if_pos h1] at nxt
        refine nm_r (e' := th_hs W t i + (4 - nI (t i))) ?_ (nm_r (nI_1 i) nxt)
        rw [cl]
        show th_hs W t i + 4 - nI (t i) = _
        rw [Int32.sub_eq_add_neg, Int32.sub_eq_add_neg, Int32.add_assoc]
      · rw [if_neg h1] at nxt
        exact nxt
  exact key 9 0 rfl 10 (by omega)
theorem th_x_best (ht : ∀ k, k < 9 → t k ≤ 4) (post : Int32 → SX → Prop)
    (hp : ∀ ke' nx' : Nat → Int32, post (th_bs t 1000 9).2.2 (S, fo, la, th_T t, ke', nx', me, ma, nm, ny, md)) :
    wpX_best post (S, fo, la, th_T t, ke, nx, me, ma, nm, ny, md) := by
  have key : ∀ d i, i + d = 9 → ∀ n, d < n → ∀ ke nx : Nat → Int32, wX_best_12 post n (nI (th_bs t 1000 i).1) (th_bs t 1000 i).2.1 (th_bs t 1000 i).2.2 (nI i) S fo la (th_T t) ke nx me ma nm ny md := by
    intro d
    induction d with
    | zero =>
      intro i hi n hn ke nx
      obtain ⟨m, rfl⟩ : ∃ m, n = m + 1 := ⟨n - 1, by omega⟩
      have e : i = 9 := by omega
      subst e
      rw [wX_best_12]
      exact br_t (by decide) (hp _ _)
    | succ d ih =>
      intro i hi n hn ke nx
      obtain ⟨m, rfl⟩ : ∃ m, n = m + 1 := ⟨n - 1, by omega⟩
      have h9 : i < 9 := by omega
      have cl : (nI i).toNatClampNeg = i := nI_clamp (by omega)
      have vi : vp_in (nI i) 9 := vp_in_nI h9 (by decide)
      have hti := ht i h9
      have hle := th_bs_le t 1000 i
      have nxt : ∀ q : Nat × Int32 × Int32, q = th_bn t i (th_bs t 1000 i) → ∀ ke nx : Nat → Int32, wX_best_12 post m (nI q.1) q.2.1 q.2.2 (nI (i + 1)) S fo la (th_T t) ke nx me ma nm ny md := by
        intro q eq
        subst eq
        exact ih (i + 1) (by omega) m (by omega)
      generalize th_bs t 1000 i = q at *
      obtain ⟨ql, qm, qb⟩ := q
      dsimp only at hle nxt ⊢
      rw [wX_best_12]
      refine pk_le 9 i (fun h => by omega) (fun _ => ⟨vi, pk_le (t i) 0 (fun h4 => nm_r (nI_1 i) (nxt (ql, qm, qb) ?_ _ _)) (fun h4 => ⟨vi, vi, nm_r (th_X_dn h9 h4 (by omega)) (th_x_find (th_dn_4 ht) _ ?_)⟩) (by rw [cl]; rfl) rfl⟩)
      · unfold th_bn
        rw [if_neg (by omega)]
      · intro ke nx
        have d11 := th_D_11 (th_dn t i)
        have eu := th_X_up (t := th_dn t i) h9 (by rw [th_dn_self]; omega)
        rw [th_bp_dn h4] at eu
        dsimp only
        refine pk_lt ql (th_D (th_dn t i)) (fun hl => ?_) (fun hl => ?_)
        · unfold wX_best_61
          refine ⟨vi, vi, nm_r eu (pk_lt (th_D (th_dn t i)) ql (fun h => by omega) (fun _ => pk_eq (th_D (th_dn t i)) ql (fun h => by omega) (fun _ => nm_r (nI_1 i) (nxt (ql, qm, qb) ?_ _ _))))⟩
          unfold th_bn
          rw [if_pos h4, if_neg (fun z => by
            have z' : th_D (th_dn t i) < ql ∨ (th_D (th_dn t i) = ql ∧ ¬ th_H (th_dn t i) ≤ qm) := z
            omega)]
        · refine th_x_hope (th_dn_4 ht) _ (fun ke nx => ?_)
          dsimp only
          unfold wX_best_61 wX_best_93
          refine ⟨vi, vi, nm_r eu (pk_lt (th_D (th_dn t i)) ql (fun h => nm_r (nI_1 i) (nxt (th_D (th_dn t i), th_H (th_dn t i), nI i) ?_ _ _)) (fun h => pk_eq (th_D (th_dn t i)) ql (fun he => br_c (fun hm => nm_r (nI_1 i) (nxt (ql, qm, qb) ?_ _ _)) (fun hm => nm_r (nI_1 i) (nxt (th_D (th_dn t i), th_H (th_dn t i), nI i) ?_ _ _))) (fun h => by omega)))⟩
          · unfold th_bn
            rw [if_pos h4, if_pos (Or.inl h)]
          · unfold th_bn
            rw [if_pos h4, if_neg (fun z => by
              have z' : th_D (th_dn t i) < ql ∨ (th_D (th_dn t i) = ql ∧ ¬ th_H (th_dn t i) ≤ qm) := z
              rcases z' with z' | z'
              · omega
              · exact z'.2 hm)]
          · unfold th_bn
            rw [if_pos h4, if_pos (Or.inr ⟨he, hm⟩)]
  unfold wpX_best
  dsimp only
  exact ⟨10, key 9 0 rfl 10 (by omega) _ _⟩
end
end
section
def th_fw (w : Bool) (n q : Nat) : Bool := cond w (Nat.beq n q) (Nat.ble n q)
def th_g (t : Nat → Nat) (w : Bool) (k : Nat) (K : Nat → Nat) (s c j : Nat) : Nat := if th_ok s k c = true ∧ th_fw w (th_nd s c) (t k) = true ∧ th_to s c = j then K s else 0
section
variable {t : Nat → Nat} {S fo la : Int32} {ke nx me ma nm ny md : Nat → Int32}
theorem th_x_fitsFrom {K B : Nat → Nat} {s k : Nat} {w : Bool} {wI : Int32} (hw : (wI = 0 ∧ w = false) ∨ (wI = 1 ∧ w = true)) (hs : s < 250) (hk : k < 9) (ht : ∀ k, k < 9 → t k ≤ 4) (hke : ke s = nI (K s)) (hN : ∀ j, j < 250 → nx j = nI (B j)) (post : SX → Prop)
    (hp : ∀ nx' : Nat → Int32, (∀ j, j < 250 → nx' j = nI (B j + th_s (fun c => th_g t w k K s c j) 20)) → post (S, fo, la, th_T t, ke, nx', me, ma, nm, ny, md)) :
    wpX_fitsFrom post (S, fo, la, th_T t, ke, nx, me, ma, nm, ny, md) (nI s) (nI k) wI := by
  have cs : (nI s).toNatClampNeg = s := nI_clamp (by omega)
  have vs : vp_in (nI s) 250 := vp_in_nI hs (by decide)
  have ck : (nI k).toNatClampNeg = k := nI_clamp (by omega)
  have vk : vp_in (nI k) 9 := vp_in_nI hk (by decide)
  have htk := ht k hk
  unfold wpX_fitsFrom
  dsimp only
  refine loop_0 (fun n i (c : Nat → Int32) => wX_fitsFrom_3 post (nI s) (nI k) wI S fo la n (nI i) (th_T t) ke c me ma nm ny md) (fun i c => ∀ j, j < 250 → c j = nI (B j + th_s (fun c => th_g t w k K s c j) i)) 20 nx (fun j hj => by rw [hN j hj]; rfl) (fun n c I => ?_) (fun n i c hi I KK => ?_)
  · rw [wX_fitsFrom_3]
    exact br_t (by decide) (hp c I)
  · have nb := th_nd_lt hs hi
    have skip : (th_ok s k i = true → th_fw w (th_nd s i) (t k) = true → False) → wX_fitsFrom_3 post (nI s) (nI k) wI S fo la n (nI (i + 1)) (th_T t) ke c me ma nm ny md := by
      intro hz
      refine KK c (fun j hj => ?_)
      rw [I j hj, th_s]
      have e : th_g t w k K s i j = 0 := if_neg (fun z => hz z.1 z.2.1)
      rw [e, Nat.add_zero]
    have f92 : ∀ x5 z0 : Int32, ((th_ok s k i = true ∧ x5 = nI (th_to s i)) ∨ (th_ok s k i = false ∧ x5 = -1)) → ((th_fw w (th_nd s i) (t k) = true ∧ z0 = 1) ∨ (th_fw w (th_nd s i) (t k) = false ∧ z0 = 0)) →
        wX_fitsFrom_92 post (wX_fitsFrom_3 post (nI s) (nI k) wI S fo la n) (nI s) (nI k) wI (nI i) x5 z0 S fo la (th_T t) ke c me ma nm ny md := by
      intro x5 z0 h5 h0
      unfold wX_fitsFrom_92
      rcases h5 with ⟨ok, rfl⟩ | ⟨ok, rfl⟩
      · have tl := th_to_lt hs hi ok
        have ct : (nI (th_to s i)).toNatClampNeg = th_to s i := nI_clamp (by omega)
        have vt : vp_in (nI (th_to s i)) 250 := vp_in_nI tl (by decide)
        refine br_f (nI_pos (by omega)) ?_
        rcases h0 with ⟨fw, rfl⟩ | ⟨fw, rfl⟩
        · refine br_f (by decide) ⟨vt, vs, vt, nm_r (e' := upd c (th_to s i) (nI (B (th_to s i) + th_s (fun c => th_g t w k K s c (th_to s i)) i + K s))) ?_ (nm_r (nI_1 i) (KK _ ?_))⟩
          · rw [ct, cs, I _ tl, hke, nI_add]
          · intro j hj
            rw [th_s]
            by_cases z : j = th_to s i
            · rw [z, pk_us]
              have e : th_g t w k K s i (th_to s i) = K s := if_pos ⟨ok, fw, rfl⟩
              rw [e, Nat.add_assoc]
            · rw [pk_un z, I j hj]
              have e : th_g t w k K s i j = 0 := if_neg (fun y => z y.2.2.symm)
              rw [e, Nat.add_zero]
        · refine br_t rfl (nm_r (nI_1 i) (skip (fun _ h => ?_)))
          rw [fw] at h
          exact absurd h (by decide)
      · refine br_t (by decide) (nm_r (nI_1 i) (skip (fun h _ => ?_)))
        rw [ok] at h
        exact absurd h (by decide)
    have fin : ∀ x5 : Int32, ((th_ok s k i = true ∧ x5 = nI (th_to s i)) ∨ (th_ok s k i = false ∧ x5 = -1)) →
        ((wI = 0 → (vp_in (nI k) 9 ∧ ((th_T t k < nI (th_nd s i) → wX_fitsFrom_92 post (wX_fitsFrom_3 post (nI s) (nI k) wI S fo la n) (nI s) (nI k) wI (nI i) x5 0 S fo la (th_T t) ke c me ma nm ny md) ∧ (¬ th_T t k < nI (th_nd s i) → wX_fitsFrom_92 post (wX_fitsFrom_3 post (nI s) (nI k) wI S fo la n) (nI s) (nI k) wI (nI i) x5 1 S fo la (th_T t) ke c me ma nm ny md)))) ∧
         (¬ wI = 0 → (vp_in (nI k) 9 ∧ ((nI (th_nd s i) = th_T t k → wX_fitsFrom_92 post (wX_fitsFrom_3 post (nI s) (nI k) wI S fo la n) (nI s) (nI k) wI (nI i) x5 1 S fo la (th_T t) ke c me ma nm ny md) ∧ (¬ nI (th_nd s i) = th_T t k → wX_fitsFrom_92 post (wX_fitsFrom_3 post (nI s) (nI k) wI S fo la n) (nI s) (nI k) wI (nI i) x5 0 S fo la (th_T t) ke c me ma nm ny md))))) := by
      intro x5 h5
      rcases hw with ⟨e1, e2⟩ | ⟨e1, e2⟩
      · refine br_t e1 ⟨vk, pk_lt (t k) (th_nd s i) (fun h => f92 x5 0 h5 (Or.inr ⟨?_, rfl⟩)) (fun h => f92 x5 1 h5 (Or.inl ⟨?_, rfl⟩))⟩
        · rw [e2]
          show Nat.ble (th_nd s i) (t k) = false
          cases q : Nat.ble (th_nd s i) (t k)
          · rfl
          · have := Nat.le_of_ble_eq_true q
            omega
        · rw [e2]
          exact Nat.ble_eq_true_of_le h
      · refine br_f (by rw [e1]; decide) ⟨vk, pk_eq (th_nd s i) (t k) (fun h => f92 x5 1 h5 (Or.inl ⟨?_, rfl⟩)) (fun h => f92 x5 0 h5 (Or.inr ⟨?_, rfl⟩))⟩
        · rw [e2, h]
          exact Nat.beq_refl _
        · rw [e2]
          show Nat.beq (th_nd s i) (t k) = false
          cases q : Nat.beq (th_nd s i) (t k)
          · rfl
          · exact absurd (Nat.eq_of_beq_eq_true q) h
    rw [wX_fitsFrom_3]
    dsimp only
    rw [th_c_4 hi, th_c_2 hi, th_c_1 hi, ck]
    exact pk_le 20 i (fun h => by omega) (fun _ => ⟨by decide, by decide, by decide, by decide, th_x_behind hs hk hi _ _ (fun ok => ⟨by decide, by decide, by decide, by decide, th_x_needs hs hi _ _ (fin _ (Or.inl ⟨ok, rfl⟩))⟩) (fun ok => ⟨by decide, by decide, by decide, by decide, th_x_needs hs hi _ _ (fin _ (Or.inr ⟨ok, rfl⟩))⟩)⟩)
def th_G (t : Nat → Nat) (w : Bool) (k : Nat) (K : Nat → Nat) (s j : Nat) : Nat := th_s (fun a => th_s (fun c => th_g t w k K a c j) 20) s
theorem th_x_ff45 {K : Nat → Nat} {k : Nat} {w : Bool} {wI : Int32} (hw : (wI = 0 ∧ w = false) ∨ (wI = 1 ∧ w = true)) (hk : k < 9) (ht : ∀ k, k < 9 → t k ≤ 4) (hb : ∀ s, s < 250 → K s ≤ 5000) (hke : ∀ s, s < 250 → ke s = nI (K s)) (post : SX → Prop) {J : Int32 → Int32 → Int32 → Int32 → (Nat → Int32) → (Nat → Int32) → (Nat → Int32) → (Nat → Int32) → (Nat → Int32) → (Nat → Int32) → (Nat → Int32) → (Nat → Int32) → Prop}
    (hJ : ∀ ke' nx' : Nat → Int32, (∀ s, s < 250 → ke' s = nI (th_G t w k K 250 s)) → J (nI (k + 1)) S fo la (th_T t) ke' nx' me ma nm ny md) :
    ∀ d s, s + d = 250 → ∀ n, d < n → ∀ nx : Nat → Int32, (∀ j, j < 250 → nx j = nI (th_G t w k K s j)) → wX_findFits_45 post J wI (nI k) n (nI s) S fo la (th_T t) ke nx me ma nm ny md := by
  intro d
  induction d with
  | zero =>
    intro s hs n hn nx hN
    obtain ⟨m, rfl⟩ : ∃ m, n = m + 1 := ⟨n - 1, by omega⟩
    have e : s = 250 := by omega
    subst e
    rw [wX_findFits_45]
    refine br_t (by decide) (th_x_takeNext _ (fun ke' h' => nm_r (nI_1 k) (hJ ke' nx (fun j hj => ?_))))
    rw [h' j hj, hN j hj]
  | succ d ih =>
    intro s hs n hn nx hN
    obtain ⟨m, rfl⟩ : ∃ m, n = m + 1 := ⟨n - 1, by omega⟩
    have h2 : s < 250 := by omega
    have cs : (nI s).toNatClampNeg = s := nI_clamp (by omega)
    have hbs := hb s h2
    rw [wX_findFits_45]
    refine pk_le 250 s (fun h => by omega) (fun _ => ⟨vp_in_nI h2 (by decide), pk_le (K s) 0 (fun g => nm_r (nI_1 s) (ih (s + 1) (by omega) m (by omega) nx (fun j hj => ?_))) (fun g => ?_) (by rw [cs, hke s h2]) rfl⟩)
    · rw [hN j hj]
      unfold th_G
      rw [th_s]
      have e : th_s (fun c => th_g t w k K s c j) 20 = 0 := th_s_zero 20 (fun c _ => by
        unfold th_g
        split <;> omega)
      rw [e, Nat.add_zero]
    · exact th_x_fitsFrom hw h2 hk ht (hke s h2) hN _ (fun nx' h1 => nm_r (nI_1 s) (ih (s + 1) (by omega) m (by omega) nx' h1))
theorem th_x_ff {C : Nat → Nat → Nat} {w : Bool} {wI : Int32} (hw : (wI = 0 ∧ w = false) ∨ (wI = 1 ∧ w = true)) (ht : ∀ k, k < 9 → t k ≤ 4) (hb : ∀ k s, k < 9 → s < 250 → C k s ≤ 5000) (hC0 : ∀ s, s < 250 → C 0 s = if s = 0 then 1 else 0) (hC : ∀ k, k < 9 → ∀ j, j < 250 → C (k + 1) j = th_G t w k (C k) 250 j) (post : SX → Prop)
    (hp : ∀ ke' nx' : Nat → Int32, (∀ s, s < 250 → ke' s = nI (C 9 s)) → post (S, fo, la, th_T t, ke', nx', me, ma, nm, ny, md)) :
    wpX_findFits post (S, fo, la, th_T t, ke, nx, me, ma, nm, ny, md) wI := by
  have key : ∀ d k, k + d = 9 → ∀ n, d < n → ∀ ke nx : Nat → Int32, (∀ s, s < 250 → ke s = nI (C k s)) → wX_findFits_32 post wI n (nI k) S fo la (th_T t) ke nx me ma nm ny md := by
    intro d
    induction d with
    | zero =>
      intro k hk n hn ke nx hke
      obtain ⟨m, rfl⟩ : ∃ m, n = m + 1 := ⟨n - 1, by omega⟩
      have e : k = 9 := by omega
      subst e
      rw [wX_findFits_32]
      exact br_t (by decide) (hp _ _ hke)
    | succ d ih =>
      intro k hk n hn ke nx hke
      obtain ⟨m, rfl⟩ : ∃ m, n = m + 1 := ⟨n - 1, by omega⟩
      have h9 : k < 9 := by omega
      rw [wX_findFits_32]
      refine pk_le 9 k (fun h => by omega) (fun _ => th_x_clearNext _ _ (fun nx' h' => ⟨251, ?_⟩))
      exact th_x_ff45 (K := C k) hw h9 ht (fun s hs => hb k s h9 hs) hke post (fun ke' nx'' h1 => ih (k + 1) (by omega) m (by omega) ke' nx'' (fun s hs => by rw [h1 s hs, hC k h9 s hs])) 250 0 rfl 251 (by omega) nx' (fun j hj => by rw [h' j hj]; rfl)
  unfold wpX_findFits
  dsimp only
  refine loop_0 (fun n i (c : Nat → Int32) => wX_findFits_2 post wI S fo la n (nI i) (th_T t) c nx me ma nm ny md) (fun i c => ∀ k, k < i → c k = nI (if k = 0 then 1 else 0)) 250 ke (fun k hk => absurd hk (Nat.not_lt_zero k)) (fun n c I => ?_) (fun n i c hi I K => ?_)
  · rw [wX_findFits_2]
    exact br_t (by decide) ⟨10, key 9 0 rfl 10 (by omega) c nx (fun s hs => by rw [I s hs, hC0 s hs])⟩
  · have ci : (nI i).toNatClampNeg = i := nI_clamp (by omega)
    have vi : vp_in (nI i) 250 := vp_in_nI hi (by decide)
    have nxt : ∀ x : Int32, x = nI (if i = 0 then 1 else 0) → ∀ k, k < i + 1 → upd c i x k = nI (if k = 0 then 1 else 0) := by
      intro x ex k hk
      by_cases z : k = i
      · rw [z, pk_us, ex]
      · rw [pk_un z]
        exact I k (by omega)
    rw [wX_findFits_2]
    dsimp only
    rw [ci]
    refine pk_le 250 i (fun h => by omega) (fun _ => pk_eq i 0 (fun h => ⟨vi, nm_e (nm_r (nI_1 i) (K _ (nxt _ ?_)))⟩) (fun h => ⟨vi, nm_e (nm_r (nI_1 i) (K _ (nxt _ ?_)))⟩))
    · rw [if_pos h]
      rfl
    · rw [if_neg h]
      rfl
def th_mx (f : Nat → Nat) : Nat → Nat
  | 0 => 0
  | i + 1 => if 0 < f i then i else th_mx f i
theorem th_x_groups {C : Nat → Nat → Nat} (ht : ∀ k, k < 9 → t k ≤ 4) (hb : ∀ k s, k < 10 → s < 250 → C k s ≤ 5000) (hC0 : ∀ s, s < 250 → C 0 s = if s = 0 then 1 else 0) (hC : ∀ k, k < 9 → ∀ j, j < 250 → C (k + 1) j = th_G t false k (C k) 250 j) (post : Int32 → SX → Prop)
    (hp : ∀ ke' nx' : Nat → Int32, post (nI (th_mx (fun g => C 9 (2 * g)) 4)) (S, fo, la, th_T t, ke', nx', me, ma, nm, ny, md)) :
    wpX_groups post (S, fo, la, th_T t, ke, nx, me, ma, nm, ny, md) := by
  unfold wpX_groups
  dsimp only
  refine th_x_ff (w := false) (Or.inl ⟨rfl, rfl⟩) ht (fun k s hk hs => hb k s (by omega) hs) hC0 hC _ (fun ke nx hke => ⟨5, ?_⟩)
  have key : ∀ d i, i + d = 4 → ∀ n, d < n → wX_groups_9 post S fo la (th_T t) ke nx me ma nm ny md n (nI (th_mx (fun g => C 9 (2 * g)) i)) (nI i) := by
    intro d
    induction d with
    | zero =>
      intro i hi n hn
      obtain ⟨m, rfl⟩ : ∃ m, n = m + 1 := ⟨n - 1, by omega⟩
      have e : i = 4 := by omega
      subst e
      rw [wX_groups_9]
      exact br_t (by decide) (hp _ _)
    | succ d ih =>
      intro i hi n hn
      obtain ⟨m, rfl⟩ : ∃ m, n = m + 1 := ⟨n - 1, by omega⟩
      have e2 : (2 : Int32) * nI i = nI (2 * i) := pk_mul 2 i
      have c2 : (nI (2 * i)).toNatClampNeg = 2 * i := nI_clamp (by omega)
      have hb2 := hb 9 (2 * i) (by decide) (by omega)
      have nxt := ih (i + 1) (by omega) m (by omega)
      rw [th_mx] at nxt
      rw [wX_groups_9]
      dsimp only
      rw [e2, c2, hke (2 * i) (by omega)]
      refine pk_lt 3 i (fun h => by omega) (fun _ => ⟨vp_in_nI (by omega) (by decide), pk_le (C 9 (2 * i)) 0 (fun g => nm_r (nI_1 i) ?_) (fun g => nm_r (nI_1 i) ?_)⟩)
      · rw [if_neg (by omega)] at nxt
        exact nxt
      · rw [if_pos g] at nxt
        exact nxt
  exact key 4 0 rfl 5 (by omega)
theorem th_x_ways {C : Nat → Nat → Nat} (ht : ∀ k, k < 9 → t k ≤ 4) (hb : ∀ k s, k < 10 → s < 250 → C k s ≤ 5000) (hC0 : ∀ s, s < 250 → C 0 s = if s = 0 then 1 else 0) (hC : ∀ k, k < 9 → ∀ j, j < 250 → C (k + 1) j = th_G t true k (C k) 250 j) (post : Int32 → SX → Prop)
    (hp : ∀ ke' nx' : Nat → Int32, post (nI (th_s (fun g => C 9 (2 * g + 1)) 4)) (S, fo, la, th_T t, ke', nx', me, ma, nm, ny, md)) :
    wpX_ways post (S, fo, la, th_T t, ke, nx, me, ma, nm, ny, md) := by
  unfold wpX_ways
  dsimp only
  refine th_x_ff (w := true) (Or.inr ⟨rfl, rfl⟩) ht (fun k s hk hs => hb k s (by omega) hs) hC0 hC _ (fun ke nx hke => ⟨5, ?_⟩)
  have key : ∀ d i, i + d = 4 → ∀ n, d < n → wX_ways_9 post S fo la (th_T t) ke nx me ma nm ny md n (nI (th_s (fun g => C 9 (2 * g + 1)) i)) (nI i) := by
    intro d
    induction d with
    | zero =>
      intro i hi n hn
      obtain ⟨m, rfl⟩ : ∃ m, n = m + 1 := ⟨n - 1, by omega⟩
      have e : i = 4 := by omega
      subst e
      rw [wX_ways_9]
      exact br_t (by decide) (hp _ _)
    | succ d ih =>
      intro i hi n hn
      obtain ⟨m, rfl⟩ : ∃ m, n = m + 1 := ⟨n - 1, by omega⟩
      have e2 : (2 : Int32) * nI i + 1 = nI (2 * i + 1) := by
        rw [show (2 : Int32) * nI i = nI (2 * i) from pk_mul 2 i, nI_1]
      have c2 : (nI (2 * i + 1)).toNatClampNeg = 2 * i + 1 := nI_clamp (by omega)
      have nxt := ih (i + 1) (by omega) m (by omega)
      rw [th_s] at nxt
      rw [wX_ways_9]
      dsimp only
      rw [e2, c2, hke (2 * i + 1) (by omega)]
      exact pk_lt 3 i (fun h => by omega) (fun _ => ⟨vp_in_nI (by omega) (by decide), nm_r (nI_add _ _) (nm_r (nI_1 i) nxt)⟩)
  exact key 4 0 rfl 5 (by omega)
end
end
section
theorem th_cp_range (q : Nat → Bool) : ∀ n, (List.range n).countP q = th_s (fun c => if q c = true then 1 else 0) n
  | 0 => rfl
  | n + 1 => by
    rw [List.range_succ, List.countP_append, th_cp_range q n, List.countP_singleton]
    rfl
theorem th_cp_fm {α : Type} (q : α → Bool) (f : Nat → List α) : ∀ n, ((List.range n).flatMap f).countP q = th_s (fun p => (f p).countP q) n
  | 0 => rfl
  | n + 1 => by
    rw [List.range_succ, List.flatMap_append, List.countP_append, th_cp_fm q f n, List.flatMap_singleton]
    rfl
def th_A (t : Nat → Nat) (w : Bool) : Nat → Nat → Bool := fun j d => th_fw w d (t j)
def th_CN (t : Nat → Nat) (w : Bool) (k s : Nat) : Nat := (th_P k).countP (fun e => Nat.beq e.1 s && th_all (th_A t w) k e.2)
theorem th_CN_b (t : Nat → Nat) (w : Bool) {k : Nat} (hk : k < 10) (s : Nat) : th_CN t w k s ≤ 5000 := Nat.le_trans List.countP_le_length (th_P_len hk)
theorem th_CN_0 (t : Nat → Nat) (w : Bool) (s : Nat) : th_CN t w 0 s = if s = 0 then 1 else 0 := by
  unfold th_CN
  show List.countP _ [(0, 0)] = _
  rw [List.countP_singleton]
  by_cases z : s = 0
  · subst z
    rfl
  · rw [if_neg z, if_neg]
    rw [Bool.and_eq_true, Nat.beq_eq]
    rintro ⟨h, _⟩
    exact z h.symm
theorem th_fw_le {w : Bool} {n q : Nat} (h : th_fw w n q = true) : n ≤ q := by
  unfold th_fw at h
  cases w
  · exact Nat.le_of_ble_eq_true h
  · exact Nat.le_of_eq (Nat.eq_of_beq_eq_true h)
def th_m (t : Nat → Nat) (w : Bool) (k s j : Nat) : Nat := th_s (fun c => if th_ok s k c = true ∧ th_fw w (th_nd s c) (t k) = true ∧ th_to s c = j then 1 else 0) 20
theorem th_stepcnt (t : Nat → Nat) (w : Bool) {k : Nat} (htk : t k ≤ 4) (e : Nat × Nat) (j : Nat) :
    (th_step k e).countP (fun e' => Nat.beq e'.1 j && th_all (th_A t w) (k + 1) e'.2) = if th_all (th_A t w) k e.2 = true then th_m t w k e.1 j else 0 := by
  unfold th_step
  rw [List.countP_map, List.countP_filter, th_cp_range]
  have key : ∀ c, ((((fun e' : Nat × Nat => Nat.beq e'.1 j && th_all (th_A t w) (k + 1) e'.2) ∘ fun c => (th_to e.1 c, e.2 * 16 + th_nd e.1 c)) c && (th_ok e.1 k c && Nat.ble (th_nd e.1 c) 4)) = true) ↔ (th_all (th_A t w) k e.2 = true ∧ th_ok e.1 k c = true ∧ th_fw w (th_nd e.1 c) (t k) = true ∧ th_to e.1 c = j) := by
    intro c
    show ((Nat.beq (th_to e.1 c) j && (th_fw w ((e.2 * 16 + th_nd e.1 c) % 16) (t k) && th_all (th_A t w) k ((e.2 * 16 + th_nd e.1 c) / 16))) && (th_ok e.1 k c && Nat.ble (th_nd e.1 c) 4)) = true ↔ _
    rw [Bool.and_eq_true, Bool.and_eq_true, Bool.and_eq_true, Bool.and_eq_true, Nat.beq_eq, Nat.ble_eq]
    constructor
    · rintro ⟨⟨h1, h2, h3⟩, h4, h5⟩
      have d := th_dm (a := e.2) (b := th_nd e.1 c) (by omega)
      rw [d.1] at h3
      rw [d.2] at h2
      exact ⟨h3, h4, h2, h1⟩
    · rintro ⟨h1, h2, h3, h4⟩
      have := th_fw_le h3
      have d := th_dm (a := e.2) (b := th_nd e.1 c) (by omega)
      rw [d.1, d.2]
      exact ⟨⟨h4, h3, h1⟩, h2, by omega⟩
  by_cases z : th_all (th_A t w) k e.2 = true
  · rw [if_pos z]
    unfold th_m
    refine th_s_congr 20 (fun c _ => ?_)
    by_cases y : th_ok e.1 k c = true ∧ th_fw w (th_nd e.1 c) (t k) = true ∧ th_to e.1 c = j
    · rw [if_pos y, if_pos ((key c).mpr ⟨z, y⟩)]
    · rw [if_neg y, if_neg (fun h => y ((key c).mp h).2)]
  · rw [if_neg z]
    exact th_s_zero 20 (fun c _ => if_neg (fun h => z ((key c).mp h).1))
theorem th_flat (t : Nat → Nat) (w : Bool) {k : Nat} (htk : t k ≤ 4) (j : Nat) : ∀ l : List (Nat × Nat), (∀ e, e ∈ l → e.1 < 250) →
    (l.flatMap (th_step k)).countP (fun e' => Nat.beq e'.1 j && th_all (th_A t w) (k + 1) e'.2) = th_s (fun a => l.countP (fun e => Nat.beq e.1 a && th_all (th_A t w) k e.2) * th_m t w k a j) 250
  | [], _ => by
    exact (th_s_zero 250 (fun a _ => Nat.zero_mul _)).symm
  | e :: l, h => by
    rw [List.flatMap_cons, List.countP_append, th_stepcnt t w htk e j, th_flat t w htk j l (fun x hx => h x (List.mem_cons_of_mem _ hx))]
    have he := h e List.mem_cons_self
    have s1 : th_s (fun a => (e :: l).countP (fun e => Nat.beq e.1 a && th_all (th_A t w) k e.2) * th_m t w k a j) 250 = th_s (fun a => l.countP (fun e => Nat.beq e.1 a && th_all (th_A t w) k e.2) * th_m t w k a j + (if a = e.1 then (if th_all (th_A t w) k e.2 = true then th_m t w k e.1 j else 0) else 0)) 250 := by
      refine th_s_congr 250 (fun a _ => ?_)
      rw [List.countP_cons, Nat.add_mul]
      congr 1
      by_cases z : a = e.1
      · rw [if_pos z, z, Nat.beq_refl, Bool.true_and]
        by_cases y : th_all (th_A t w) k e.2 = true
        · rw [if_pos y, if_pos y, Nat.one_mul]
        · rw [if_neg y, if_neg y, Nat.zero_mul]
      · rw [if_neg z]
        have q : Nat.beq e.1 a = false := by
          cases q : Nat.beq e.1 a
          · rfl
          · exact absurd (Nat.eq_of_beq_eq_true q).symm z
        rw [q, Bool.false_and, if_neg (by decide), Nat.zero_mul]
    rw [s1, th_s_add, th_s_one 250 he, Nat.add_comm]
theorem th_CN_s (t : Nat → Nat) (w : Bool) {k : Nat} (htk : t k ≤ 4) (j : Nat) : th_CN t w (k + 1) j = th_G t w k (th_CN t w k) 250 j := by
  unfold th_CN
  show List.countP _ ((th_P k).flatMap (th_step k)) = _
  rw [th_flat t w htk j (th_P k) (fun e he => th_P_lt k e.1 e.2 he)]
  unfold th_G
  refine th_s_congr 250 (fun a _ => ?_)
  unfold th_m
  rw [← th_s_mul]
  refine th_s_congr 20 (fun c _ => ?_)
  unfold th_g
  by_cases z : th_ok a k c = true ∧ th_fw w (th_nd a c) (t k) = true ∧ th_to a c = j
  · rw [if_pos z, if_pos z, Nat.mul_one]
  · rw [if_neg z, if_neg z, Nat.mul_zero]
theorem th_CN_9 (t : Nat → Nat) (w : Bool) (e : Nat) : th_CN t w 9 e = (th_LX e).countP (th_all (th_A t w) 9) := by
  unfold th_CN th_LX
  rw [List.countP_map, List.countP_filter]
  refine List.countP_congr (fun x _ => ?_)
  rw [Bool.and_comm]
  exact Iff.rfl
theorem th_CN_p (t : Nat → Nat) (w : Bool) {p g : Nat} (hg : g ≤ 3) : (th_LYp p g).countP (th_all (th_A t w) 9) = (th_lv g [] 14).countP (fun s => th_l4 (th_cd (th_vec p s) 9) && th_all (th_A t w) 9 (th_cd (th_vec p s) 9)) := by
  unfold th_LYp
  rw [List.countP_filter, List.countP_map]
  refine List.countP_congr (fun x _ => ?_)
  show (th_all (th_A t w) 9 (th_cd (th_vec p x) 9) && th_l4 (th_cd (th_vec p x) 9)) = true ↔ _
  rw [Bool.and_comm]
theorem th_CN_own {t : Nat → Nat} (ht : ∀ k, k < 9 → t k ≤ 4) {p g : Nat} (hg : g ≤ 3) : (th_LYp p g).countP (th_all (th_A t false) 9) = (th_lv g [] 14).countP (th_own t p) := by
  rw [th_CN_p t false hg]
  refine List.countP_congr (fun s hs => ?_)
  have l3 : s.length ≤ 3 := by
    rw [(th_lv_len hs).1]
    exact hg
  rw [Bool.and_eq_true, th_l4_iff l3, th_all_cd _ _ 9 (th_vec16 l3), th_own_iff, th_own_iff]
  constructor
  · rintro ⟨_, h⟩ k hk
    exact th_fw_le (h k hk)
  · intro h
    exact ⟨fun k hk => Nat.le_trans (h k hk) (ht k hk), fun k hk => Nat.ble_eq_true_of_le (h k hk)⟩
theorem th_CN_ex {t : Nat → Nat} (ht : ∀ k, k < 9 → t k ≤ 4) {p g : Nat} (hg : g ≤ 3) {s : List Nat} (hs : s ∈ th_lv g [] 14) : (th_l4 (th_cd (th_vec p s) 9) && th_all (th_A t true) 9 (th_cd (th_vec p s) 9)) = true ↔ ∀ k, k < 9 → th_vec p s k = t k := by
  have l3 : s.length ≤ 3 := by
    rw [(th_lv_len hs).1]
    exact hg
  rw [Bool.and_eq_true, th_l4_iff l3, th_all_cd _ _ 9 (th_vec16 l3), th_own_iff]
  constructor
  · rintro ⟨_, h⟩ k hk
    exact Nat.eq_of_beq_eq_true (h k hk)
  · intro h
    refine ⟨fun k hk => ?_, fun k hk => ?_⟩
    · rw [h k hk]
      exact ht k hk
    · show Nat.beq (th_vec p s k) (t k) = true
      rw [h k hk, Nat.beq_refl]
theorem th_mx_spec (f : Nat → Nat) : ∀ n, (∀ i, i < n → 0 < f i → i ≤ th_mx f n) ∧ (th_mx f n = 0 ∨ (th_mx f n < n ∧ 0 < f (th_mx f n)))
  | 0 => ⟨fun i hi => absurd hi (Nat.not_lt_zero i), Or.inl rfl⟩
  | n + 1 => by
    obtain ⟨a, b⟩ := th_mx_spec f n
    rw [th_mx]
    by_cases z : 0 < f n
    · rw [if_pos z]
      exact ⟨fun i hi _ => by omega, Or.inr ⟨by omega, z⟩⟩
    · rw [if_neg z]
      refine ⟨fun i hi hf => ?_, ?_⟩
      · rcases Nat.lt_or_ge i n with y | y
        · exact a i y hf
        · have : i = n := by omega
          rw [this] at hf
          exact absurd hf z
      · rcases b with b | ⟨b1, b2⟩
        · exact Or.inl b
        · exact Or.inr ⟨by omega, b2⟩
theorem th_CN_even {t : Nat → Nat} (ht : ∀ k, k < 9 → t k ≤ 4) {g : Nat} (hg : g < 4) : th_CN t false 9 (2 * g) = (th_lv g [] 14).countP (th_own t 9) := by
  rw [th_CN_9, ← th_CN_own ht (by omega)]
  match g, hg with
  | 0, _ => exact (th_perm_of th_T1_0).countP_eq _
  | 1, _ => exact (th_perm_of th_T1_2).countP_eq _
  | 2, _ => exact (th_perm_of th_T1_4).countP_eq _
  | 3, _ => exact (th_perm_of th_T1_6).countP_eq _
  | _ + 4, h => omega
theorem th_CN_odd {t : Nat → Nat} {g : Nat} (hg : g < 4) : th_CN t true 9 (2 * g + 1) = th_s (fun p => (th_LYp p g).countP (th_all (th_A t true) 9)) 9 := by
  rw [th_CN_9, ← th_cp_fm]
  match g, hg with
  | 0, _ => exact (th_perm_of th_T1_1).countP_eq _
  | 1, _ => exact (th_perm_of th_T1_3).countP_eq _
  | 2, _ => exact (th_perm_of th_T1_5).countP_eq _
  | 3, _ => exact (th_perm_of th_T1_7).countP_eq _
  | _ + 4, h => omega
theorem th_gr_eq {t : Nat → Nat} (ht : ∀ k, k < 9 → t k ≤ 4) : th_mx (fun g => th_CN t false 9 (2 * g)) 4 = th_gr t := by
  have own0 : th_own t 9 [] = true := by
    rw [th_own_iff]
    intro k hk
    show th_pv 9 k ≤ t k
    rw [th_pv9 k hk]
    exact Nat.zero_le _
  obtain ⟨a, b⟩ := th_mx_spec (fun g => th_CN t false 9 (2 * g)) 4
  have g3 := th_grp t 9 3 [] ⟨by decide, fun g hg => absurd hg List.not_mem_nil⟩ rfl 14 (Nat.le_refl _) 0 own0
  have g2 : th_gr t ≠ 0 → ∃ i s, i = th_gr t ∧ i ≤ 3 ∧ s ∈ th_lv i [] 14 ∧ th_own t 9 s = true := by
    intro h
    obtain ⟨i, s, e1, e2, e3, e4⟩ := g3.2.1 h
    rw [List.length_nil, Nat.zero_add] at e1 e2
    exact ⟨i, s, e1, e2, e3, e4⟩
  have g4 : ∀ i s, 1 ≤ i → i ≤ 3 → s ∈ th_lv i [] 14 → th_own t 9 s = true → i ≤ th_gr t := by
    intro i s h1 h2 h3 h4
    have := g3.2.2 i s h1 (by rw [List.length_nil]; omega) h3 h4
    rw [List.length_nil, Nat.zero_add] at this
    exact this
  clear g3
  apply Nat.le_antisymm
  · rcases b with b | ⟨b1, b2⟩
    · rw [b]
      exact Nat.zero_le _
    · rw [th_CN_even ht b1, List.countP_pos_iff] at b2
      obtain ⟨s, hs, ho⟩ := b2
      rcases Nat.eq_zero_or_pos (th_mx (fun g => th_CN t false 9 (2 * g)) 4) with z | z
      · rw [z]
        exact Nat.zero_le _
      · exact g4 _ s z (by omega) hs ho
  · rcases Nat.eq_zero_or_pos (th_gr t) with z | z
    · rw [z]
      exact Nat.zero_le _
    · obtain ⟨i, s, e1, e2, e3, e4⟩ := g2 (Nat.ne_of_gt z)
      rw [← e1]
      refine a i (by omega) ?_
      rw [th_CN_even ht (by omega), List.countP_pos_iff]
      exact ⟨s, e3, e4⟩
theorem th_s_eq {f g : Nat → Nat} : ∀ n, (∀ k, k < n → f k ≤ g k) → th_s f n = th_s g n → ∀ k, k < n → f k = g k
  | 0, _, _, k, hk => absurd hk (Nat.not_lt_zero k)
  | n + 1, h, e, k, hk => by
    have e' : th_s f n + f n = th_s g n + g n := e
    have a := th_s_le n (fun k hk => h k (Nat.lt_succ_of_lt hk))
    have b := h n (Nat.lt_succ_self n)
    rcases Nat.lt_or_ge k n with z | z
    · exact th_s_eq n (fun k hk => h k (Nat.lt_succ_of_lt hk)) (by omega) k z
    · have : k = n := by omega
      subst this
      omega
theorem th_cw_eq {t : Nat → Nat} {p m : Nat} (hm : m ≤ 3) (h2 : 2 ≤ t p) : th_cw t p m = (th_lv m [] 14).countP (th_own t p) := by
  have own0 : th_own t p [] = true := by
    rw [th_own_iff]
    intro k hk
    show th_pv p k ≤ t k
    rw [th_pv_if]
    by_cases z : k = p
    · rw [if_pos z, z]
      exact h2
    · rw [if_neg z]
      exact Nat.zero_le _
  unfold th_cw
  by_cases z : m = 0
  · rw [if_pos z, z, th_lv_0, List.countP_singleton, own0]
    rfl
  · rw [if_neg z]
    have := th_cntlaw t p m hm (fun _ => true) (vis := th_vc m (fun _ => true)) (deep := th_dc m) (fun a st => rfl) (fun a st h => decide_eq_true_iff.mp h) (fun a st s h hl => absurd hl (decide_eq_false_iff_not.mp h)) 3 [] ⟨by decide, fun g hg => absurd hg List.not_mem_nil⟩ rfl 14 (Nat.le_refl _) 0 own0 (by rw [List.length_nil]; omega)
    rw [this, List.length_nil, Nat.zero_add]
    refine List.countP_congr (fun s _ => ?_)
    rw [Bool.and_true]
theorem th_wy_eq {t : Nat → Nat} (ht : ∀ k, k < 9 → t k ≤ 4) (hS : th_s t 9 ≤ 11) : th_s (fun g => th_CN t true 9 (2 * g + 1)) 4 = th_wy t := by
  have no : ∀ g, g < 4 → 2 + 3 * g ≠ th_s t 9 → th_CN t true 9 (2 * g + 1) = 0 := by
    intro g hg hn
    rw [th_CN_odd hg]
    refine th_s_zero 9 (fun p hp => ?_)
    rw [th_CN_p t true (by omega), List.countP_eq_zero]
    intro s hs h
    have e := (th_CN_ex ht (by omega) hs).mp h
    obtain ⟨l1, l2⟩ := th_lv_len hs
    have q := th_vec_sum p s l2
    rw [th_s_congr 9 e, th_pv_sum p hp, l1] at q
    omega
  unfold th_wy
  by_cases z : th_s t 9 % 3 = 2
  · rw [if_pos z]
    have m3 : th_s t 9 / 3 < 4 := by omega
    have em : 2 + 3 * (th_s t 9 / 3) = th_s t 9 := by omega
    have e1 : th_s (fun g => th_CN t true 9 (2 * g + 1)) 4 = th_CN t true 9 (2 * (th_s t 9 / 3) + 1) := by
      rw [← th_s_one (j := th_s t 9 / 3) (a := th_CN t true 9 (2 * (th_s t 9 / 3) + 1)) 4 m3]
      refine th_s_congr 4 (fun g hg => ?_)
      by_cases y : g = th_s t 9 / 3
      · rw [if_pos y, y]
      · rw [if_neg y]
        exact no g hg (by omega)
    rw [e1, th_CN_odd m3]
    refine th_s_congr 9 (fun p hp => ?_)
    rw [th_CN_p t true (by omega)]
    by_cases y : 2 ≤ t p
    · rw [if_pos y, th_cw_eq (by omega) y]
      refine List.countP_congr (fun s hs => ?_)
      rw [th_CN_ex ht (by omega) hs, th_own_iff]
      constructor
      · intro h k hk
        exact Nat.le_of_eq (h k hk)
      · intro h
        obtain ⟨l1, l2⟩ := th_lv_len hs
        have q := th_vec_sum p s l2
        rw [th_pv_sum p hp, l1] at q
        exact th_s_eq 9 h (by omega)
    · rw [if_neg y, List.countP_eq_zero]
      intro s hs h
      have e := (th_CN_ex ht (by omega) hs).mp h p hp
      have := (th_lv_mem _ [] 14 (Nat.le_refl _) (fun g hg => absurd hg List.not_mem_nil) s hs).2.2 p p
      have e2 : th_vec p [] p = 2 := by
        show th_pv p p = 2
        rw [th_pv_if, if_pos rfl]
      omega
  · rw [if_neg z]
    exact th_s_zero 4 (fun g hg => no g hg (by omega))
end
section
def th_wd (M j : Nat) : Int32 := nI (M >>> (32 * j))
theorem th_bt_nI {n i : Nat} (hi : i < 32) : bt (nI n) i = n.testBit i := by
  unfold bt
  show (BitVec.ofNat 32 n).getLsbD i = _
  rw [BitVec.getLsbD_ofNat, decide_eq_true hi, Bool.true_and]
theorem th_bt_wd {M j i : Nat} (hi : i < 32) : bt (th_wd M j) i = M.testBit (32 * j + i) := by
  unfold th_wd
  rw [th_bt_nI hi, Nat.testBit_shiftRight]
theorem th_bt_1 (i : Nat) : bt 1 i = decide (i = 0) := by
  rcases Nat.lt_or_ge i 32 with h | h
  · exact (by decide +kernel : ∀ i, i < 32 → bt 1 i = decide (i = 0)) i h
  · rw [b_big h, decide_eq_false (by omega)]
theorem th_and1 (x : Int32) : x &&& 1 = 1 ↔ bt x 0 = true := by
  constructor
  · intro h
    have := congrArg (fun y => bt y 0) h
    rw [b_and, th_bt_1] at this
    cases z : bt x 0
    · rw [z] at this
      exact absurd this (by decide)
    · rfl
  · intro h
    refine b_ext (fun i _ => ?_)
    rw [b_and, th_bt_1]
    by_cases z : i = 0
    · rw [z, h]
      rfl
    · rw [decide_eq_false z, Bool.and_false]
theorem th_bit {M s : Nat} : ((th_wd M (s / 32) >>> (nI (s % 32) &&& 31)) &&& 1 = 1) ↔ M.testBit s = true := by
  have h32 : s % 32 < 32 := Nat.mod_lt _ (by decide)
  rw [th_and1, b_sshr _ h32 _ (by decide), if_pos (by omega), Nat.add_zero, th_bt_wd h32, show 32 * (s / 32) + s % 32 = s by omega]
theorem th_wd_or (M t : Nat) : th_wd (M ||| 2 ^ t) (t / 32) = th_wd M (t / 32) ||| ((1 : Int32) <<< (nI (t % 32) &&& 31)) := by
  have h32 : t % 32 < 32 := Nat.mod_lt _ (by decide)
  refine b_ext (fun i hi => ?_)
  rw [b_or, th_bt_wd hi, th_bt_wd hi, b_shl _ h32 _ hi, th_bt_1, Nat.testBit_or, Nat.testBit_two_pow]
  congr 1
  by_cases z : t = 32 * (t / 32) + i
  · rw [decide_eq_true z, decide_eq_true (show t % 32 ≤ i by omega), decide_eq_true (show i - t % 32 = 0 by omega)]
    rfl
  · rw [decide_eq_false z]
    by_cases y : t % 32 ≤ i
    · rw [decide_eq_false (show ¬ i - t % 32 = 0 by omega), Bool.and_false]
    · rw [decide_eq_false y, Bool.false_and]
theorem th_wd_ne {M t j : Nat} (h : j ≠ t / 32) : th_wd (M ||| 2 ^ t) j = th_wd M j := by
  refine b_ext (fun i hi => ?_)
  rw [th_bt_wd hi, th_bt_wd hi, Nat.testBit_or, Nat.testBit_two_pow, decide_eq_false (show ¬ t = 32 * j + i by omega), Bool.or_false]
theorem th_wd_ext {M M' : Nat} (h : M < 2 ^ 256) (h' : M' < 2 ^ 256) (e : ∀ j, j < 8 → th_wd M j = th_wd M' j) : M = M' := by
  refine Nat.eq_of_testBit_eq (fun i => ?_)
  rcases Nat.lt_or_ge i 256 with z | z
  · have := congrArg (fun y => bt y (i % 32)) (e (i / 32) (by omega))
    have h32 : i % 32 < 32 := Nat.mod_lt _ (by decide)
    rw [th_bt_wd h32, th_bt_wd h32, show 32 * (i / 32) + i % 32 = i by omega] at this
    exact this
  · have p : 2 ^ 256 ≤ 2 ^ i := Nat.pow_le_pow_right (by decide) z
    rw [Nat.testBit_lt_two_pow (Nat.lt_of_lt_of_le h p), Nat.testBit_lt_two_pow (Nat.lt_of_lt_of_le h' p)]
theorem th_wd_0 (j : Nat) : th_wd 0 j = 0 := by
  unfold th_wd
  rw [Nat.zero_shiftRight]
  rfl
theorem th_xf_lt {k n s m : Nat} (hs : s < 250) (hm : m < 2 ^ 256) : ∀ c, c ≤ 20 → th_xf k n s m c < 2 ^ 256
  | 0, _ => hm
  | c + 1, hc => by
    have ih := th_xf_lt (k := k) (n := n) hs hm c (by omega)
    rw [th_xf]
    cases z : (th_ok s k c && Nat.beq (th_nd s c) n)
    · rw [cond_false]
      exact ih
    · rw [cond_true]
      rw [Bool.and_eq_true] at z
      exact Nat.or_lt_two_pow ih (Nat.pow_lt_pow_right (by decide) (Nat.lt_trans (th_to_lt hs (by omega) z.1) (by decide)))
theorem th_sp_lt {k n M : Nat} : ∀ s, s ≤ 250 → th_sp k n M s < 2 ^ 256
  | 0, _ => Nat.two_pow_pos 256
  | s + 1, hs => by
    have ih := th_sp_lt (k := k) (n := n) (M := M) s (by omega)
    rw [th_sp]
    cases z : M.testBit s
    · rw [cond_false]
      exact ih
    · rw [cond_true]
      exact th_xf_lt (by omega) ih 20 (Nat.le_refl _)
theorem th_st_lt (k n M : Nat) : th_st k n M < 2 ^ 256 := th_sp_lt 250 (Nat.le_refl _)
theorem th_xf_bit {k n s m b : Nat} : ∀ c, (th_xf k n s m c).testBit b = true ↔ m.testBit b = true ∨ ∃ x, x < c ∧ th_ok s k x = true ∧ th_nd s x = n ∧ th_to s x = b
  | 0 => by
    constructor
    · exact Or.inl
    · rintro (h | ⟨x, hx, _⟩)
      · exact h
      · exact absurd hx (Nat.not_lt_zero x)
  | c + 1 => by
    have ih := th_xf_bit (k := k) (n := n) (s := s) (m := m) (b := b) c
    rw [th_xf]
    cases z : (th_ok s k c && Nat.beq (th_nd s c) n)
    · rw [cond_false, ih]
      constructor
      · rintro (h | ⟨x, hx, h⟩)
        · exact Or.inl h
        · exact Or.inr ⟨x, Nat.lt_succ_of_lt hx, h⟩
      · rintro (h | ⟨x, hx, h1, h2, h3⟩)
        · exact Or.inl h
        · rcases Nat.lt_or_ge x c with y | y
          · exact Or.inr ⟨x, y, h1, h2, h3⟩
          · have e : x = c := by omega
            rw [e] at h1 h2
            rw [h1, h2, Nat.beq_refl] at z
            exact absurd z (by decide)
    · rw [cond_true, Nat.testBit_or, Bool.or_eq_true, ih, Nat.testBit_two_pow, decide_eq_true_iff]
      rw [Bool.and_eq_true, Nat.beq_eq] at z
      constructor
      · rintro ((h | ⟨x, hx, h⟩) | h)
        · exact Or.inl h
        · exact Or.inr ⟨x, Nat.lt_succ_of_lt hx, h⟩
        · exact Or.inr ⟨c, Nat.lt_succ_self c, z.1, z.2, h⟩
      · rintro (h | ⟨x, hx, h1, h2, h3⟩)
        · exact Or.inl (Or.inl h)
        · rcases Nat.lt_or_ge x c with y | y
          · exact Or.inl (Or.inr ⟨x, y, h1, h2, h3⟩)
          · have e : x = c := by omega
            rw [e] at h3
            exact Or.inr h3
theorem th_sp_bit {k n M b : Nat} : ∀ s, (th_sp k n M s).testBit b = true ↔ ∃ a x, a < s ∧ M.testBit a = true ∧ x < 20 ∧ th_ok a k x = true ∧ th_nd a x = n ∧ th_to a x = b
  | 0 => by
    rw [th_sp, Nat.zero_testBit]
    constructor
    · intro h
      exact absurd h (by decide)
    · rintro ⟨a, x, ha, _⟩
      exact absurd ha (Nat.not_lt_zero a)
  | s + 1 => by
    have ih := th_sp_bit (k := k) (n := n) (M := M) (b := b) s
    rw [th_sp]
    cases z : M.testBit s
    · rw [cond_false, ih]
      constructor
      · rintro ⟨a, x, ha, h⟩
        exact ⟨a, x, Nat.lt_succ_of_lt ha, h⟩
      · rintro ⟨a, x, ha, h1, h⟩
        rcases Nat.lt_or_ge a s with y | y
        · exact ⟨a, x, y, h1, h⟩
        · have e : a = s := by omega
          rw [e, z] at h1
          exact absurd h1 (by decide)
    · rw [cond_true, th_xf_bit, ih]
      constructor
      · rintro (⟨a, x, ha, h⟩ | ⟨x, hx, h⟩)
        · exact ⟨a, x, Nat.lt_succ_of_lt ha, h⟩
        · exact ⟨s, x, Nat.lt_succ_self s, z, hx, h⟩
      · rintro ⟨a, x, ha, h1, hx, h⟩
        rcases Nat.lt_or_ge a s with y | y
        · exact Or.inl ⟨a, x, y, h1, hx, h⟩
        · have e : a = s := by omega
          rw [e] at h
          exact Or.inr ⟨x, hx, h⟩
end
section
section
variable {t : Nat → Nat} {S fo la : Int32} {ke nx me ma nm ny md : Nat → Int32}
theorem th_x_clearMade (post : SX → Prop) (hp : ∀ md' : Nat → Int32, (∀ j, j < 8 → md' j = th_wd 0 j) → post (S, fo, la, th_T t, ke, nx, me, ma, nm, ny, md')) :
    wpX_clearMade post (S, fo, la, th_T t, ke, nx, me, ma, nm, ny, md) := by
  unfold wpX_clearMade
  dsimp only
  refine loop_0 (fun n i (c : Nat → Int32) => wX_clearMade_2 post S fo la n (nI i) (th_T t) ke nx me ma nm ny c) (fun i c => ∀ k, k < i → c k = th_wd 0 k) 8 md (fun k hk => absurd hk (Nat.not_lt_zero k)) (fun n c I => ?_) (fun n i c hi I K => ?_)
  · rw [wX_clearMade_2]
    exact br_t (by decide) (hp c I)
  · rw [wX_clearMade_2]
    refine pk_le 8 i (fun h => by omega) (fun h => ⟨vp_in_nI hi (by decide), nm_r (e' := upd c i 0) (by rw [nI_clamp (by omega)]) (nm_r (nI_1 i) (K _ ?_))⟩)
    intro k hk
    by_cases z : k = i
    · rw [z, pk_us, th_wd_0]
    · rw [pk_un z]
      exact I k (by omega)
theorem th_sh5 {s : Nat} (hs : s < 1000) : nI s >>> ((5 : Int32) &&& 31) = nI (s / 32) := pk_shrN (by omega) _ 5 (by decide)
theorem th_an31 {s : Nat} (hs : s < 1000) : nI s &&& 31 = nI (s % 32) := pk_andN (by omega) 5 (by decide)
theorem th_x_exact {s k q m : Nat} (hs : s < 250) (hk : k < 9) (hq : q < 10) (hmd : ∀ j, j < 8 → md j = th_wd m j) (post : SX → Prop)
    (hp : ∀ md' : Nat → Int32, (∀ j, j < 8 → md' j = th_wd (th_xf k q s m 20) j) → post (S, fo, la, th_T t, ke, nx, me, ma, nm, ny, md')) :
    wpX_exactFrom post (S, fo, la, th_T t, ke, nx, me, ma, nm, ny, md) (nI s) (nI k) (nI q) := by
  unfold wpX_exactFrom
  dsimp only
  refine loop_0 (fun n i (c : Nat → Int32) => wX_exactFrom_3 post (nI s) (nI k) (nI q) S fo la n (nI i) (th_T t) ke nx me ma nm ny c) (fun i c => ∀ j, j < 8 → c j = th_wd (th_xf k q s m i) j) 20 md hmd (fun n c I => ?_) (fun n i c hi I KK => ?_)
  · rw [wX_exactFrom_3]
    exact br_t (by decide) (hp c I)
  · have nb := th_nd_lt hs hi
    have nbq : th_nd s i ≠ q → Nat.beq (th_nd s i) q = false := by
      intro h
      cases z : Nat.beq (th_nd s i) q
      · rfl
      · exact absurd (Nat.eq_of_beq_eq_true z) h
    rw [th_xf] at KK
    rw [wX_exactFrom_3]
    dsimp only
    rw [th_c_4 hi, th_c_2 hi, th_c_1 hi]
    refine pk_le 20 i (fun h => by omega) (fun _ => ⟨by decide, by decide, by decide, by decide, th_x_behind hs hk hi _ _ (fun ok => ⟨by decide, by decide, by decide, by decide, th_x_needs hs hi _ _ ?_⟩) (fun ok => ⟨by decide, by decide, by decide, by decide, th_x_needs hs hi _ _ ?_⟩)⟩)
    · have tl := th_to_lt hs hi ok
      have c5 : (nI (th_to s i / 32)).toNatClampNeg = th_to s i / 32 := nI_clamp (by omega)
      have v5 : vp_in (nI (th_to s i / 32)) 8 := vp_in_nI (by omega) (by decide)
      rw [th_sh5 (by omega), th_an31 (by omega), c5]
      refine br_f (nI_pos (by omega)) (pk_eq (th_nd s i) q (fun h => ⟨v5, v5, nm_r (e' := upd c (th_to s i / 32) (th_wd (th_xf k q s m i ||| 2 ^ th_to s i) (th_to s i / 32))) ?_ (nm_r (nI_1 i) (KK _ ?_))⟩) (fun h => nm_r (nI_1 i) (KK _ ?_)))
      · rw [th_wd_or, I _ (by omega)]
      · intro j hj
        rw [ok, h, Nat.beq_refl, Bool.true_and, cond_true]
        by_cases z : j = th_to s i / 32
        · rw [z, pk_us]
        · rw [pk_un z, th_wd_ne z, I j hj]
      · intro j hj
        rw [nbq h, Bool.and_false, cond_false]
        exact I j hj
    · refine br_t (by decide) (nm_r (nI_1 i) (KK _ (fun j hj => ?_)))
      rw [ok, Bool.false_and, cond_false]
      exact I j hj
theorem th_x_empty {M : Nat} (hM : M < 2 ^ 256) (hmd : ∀ j, j < 8 → md j = th_wd M j) (post : Int32 → Prop) (h1 : M = 0 → post 1) (h0 : M ≠ 0 → post 0) :
    wpX_isEmpty post (S, fo, la, th_T t, ke, nx, me, ma, nm, ny, md) := by
  unfold wpX_isEmpty
  dsimp only
  refine loop_0 (fun n i (x : Int32) => wX_isEmpty_4 post S fo la (th_T t) ke nx me ma nm ny md n x (nI i)) (fun i x => (x = 1 ∧ ∀ j, j < i → md j = 0) ∨ (x = 0 ∧ M ≠ 0)) 8 1 (Or.inl ⟨rfl, fun j hj => absurd hj (Nat.not_lt_zero j)⟩) (fun n x I => ?_) (fun n i x hi I K => ?_)
  · rw [wX_isEmpty_4]
    refine br_t (by decide) ?_
    rcases I with ⟨rfl, I⟩ | ⟨rfl, I⟩
    · refine ⟨rfl, h1 (th_wd_ext hM (Nat.two_pow_pos 256) (fun j hj => ?_))⟩
      rw [← hmd j hj, th_wd_0]
      exact I j hj
    · exact ⟨rfl, h0 I⟩
  · have ci : (nI i).toNatClampNeg = i := nI_clamp (by omega)
    rw [wX_isEmpty_4]
    dsimp only
    rw [ci]
    refine pk_le 8 i (fun h => by omega) (fun _ => ?_)
    rcases I with ⟨rfl, I⟩ | ⟨rfl, I⟩
    · refine br_f (by decide) ⟨vp_in_nI hi (by decide), br_c (fun h => nm_r (nI_1 i) (K _ (Or.inl ⟨rfl, fun j hj => ?_⟩))) (fun h => nm_r (nI_1 i) (K _ (Or.inr ⟨rfl, fun e => ?_⟩)))⟩
      · rcases Nat.lt_or_ge j i with z | z
        · exact I j z
        · have : j = i := by omega
          rw [this]
          exact h
      · rw [hmd i hi, e, th_wd_0] at h
        exact h rfl
    · exact br_t rfl (nm_r (nI_1 i) (K _ (Or.inr ⟨rfl, I⟩)))
theorem th_x_same {M N a : Nat} (ha : a < 200) (hM : M < 2 ^ 256) (hN : N < 2 ^ 256) (hmd : ∀ j, j < 8 → md j = th_wd M j) (hnm : ∀ j, j < 8 → nm (8 * a + j) = th_wd N j) (post : Int32 → Prop) (h1 : N = M → post 1) (h0 : N ≠ M → post 0) :
    wpX_sameAs post (S, fo, la, th_T t, ke, nx, me, ma, nm, ny, md) (nI a) := by
  unfold wpX_sameAs
  dsimp only
  refine loop_0 (fun n i (x : Int32) => wX_sameAs_4 post (nI a) S fo la (th_T t) ke nx me ma nm ny md n x (nI i)) (fun i x => (x = 1 ∧ ∀ j, j < i → th_wd N j = th_wd M j) ∨ (x = 0 ∧ N ≠ M)) 8 1 (Or.inl ⟨rfl, fun j hj => absurd hj (Nat.not_lt_zero j)⟩) (fun n x I => ?_) (fun n i x hi I K => ?_)
  · rw [wX_sameAs_4]
    refine br_t (by decide) ?_
    rcases I with ⟨rfl, I⟩ | ⟨rfl, I⟩
    · exact ⟨rfl, h1 (th_wd_ext hN hM I)⟩
    · exact ⟨rfl, h0 I⟩
  · have ci : (nI i).toNatClampNeg = i := nI_clamp (by omega)
    have e8 : (8 : Int32) * nI a + nI i = nI (8 * a + i) := by
      rw [show (8 : Int32) * nI a = nI (8 * a) from pk_mul 8 a, nI_add]
    have c8 : (nI (8 * a + i)).toNatClampNeg = 8 * a + i := nI_clamp (by omega)
    rw [wX_sameAs_4]
    dsimp only
    rw [e8, ci, c8, hmd i hi, hnm i hi]
    refine pk_le 8 i (fun h => by omega) (fun _ => ?_)
    rcases I with ⟨rfl, I⟩ | ⟨rfl, I⟩
    · refine br_f (by decide) ⟨vp_in_nI hi (by decide), vp_in_nI (by omega) (by decide), br_c (fun h => nm_r (nI_1 i) (K _ (Or.inl ⟨rfl, fun j hj => ?_⟩))) (fun h => nm_r (nI_1 i) (K _ (Or.inr ⟨rfl, fun e => ?_⟩)))⟩
      · rcases Nat.lt_or_ge j i with z | z
        · exact I j z
        · have : j = i := by omega
          rw [this]
          exact h.symm
      · rw [e] at h
        exact h rfl
    · exact br_t rfl (nm_r (nI_1 i) (K _ (Or.inr ⟨rfl, I⟩)))
end
def th_tab (l : Nat) (MA CA : Nat → Nat) (nm ny : Nat → Int32) : Prop :=
  (∀ i j, i < l → j < 8 → nm (8 * i + j) = th_wd (MA i) j) ∧ (∀ i, i < l → ny i = nI (CA i)) ∧ ∀ i, i < l → MA i < 2 ^ 256
def th_NX (R : List Nat) (f : Nat → Nat) (l : Nat) (MA CA : Nat → Nat) (V : Nat) : Prop :=
  (∀ i j, i < j → j < l → MA i ≠ MA j) ∧ (∀ i, i < l → MA i ∈ R) ∧ th_s (fun i => CA i * f (MA i)) l = V
theorem th_pig : ∀ (l : Nat) (R : List Nat) (MA : Nat → Nat), (∀ i j, i < j → j < l → MA i ≠ MA j) → (∀ i, i < l → MA i ∈ R) → l ≤ R.length
  | 0, _, _, _, _ => Nat.zero_le _
  | l + 1, R, MA, h1, h2 => by
    have m := h2 l (Nat.lt_succ_self l)
    have ih := th_pig l (R.erase (MA l)) MA (fun i j hij hj => h1 i j hij (Nat.lt_succ_of_lt hj)) (fun i hi => (List.mem_erase_of_ne (h1 i l hi (Nat.lt_succ_self l))).mpr (h2 i (Nat.lt_succ_of_lt hi)))
    rw [List.length_erase_of_mem m] at ih
    have := List.length_pos_of_mem m
    omega
theorem th_NX_len {R : List Nat} {f : Nat → Nat} {l : Nat} {MA CA : Nat → Nat} {V : Nat} (h : th_NX R f l MA CA V) : l ≤ R.length := th_pig l R MA h.1 h.2.1
section
variable {t : Nat → Nat} {S fo la : Int32} {ke nx me ma nm ny md : Nat → Int32}
theorem th_x_keep {R : List Nat} {f MA CA : Nat → Nat} {l M num V : Nat} (hR : R.length ≤ 100) (hM : M ∈ R) (hM2 : M < 2 ^ 256) (hT : th_tab l MA CA nm ny) (hX : th_NX R f l MA CA V) (hmd : ∀ j, j < 8 → md j = th_wd M j) (post : SX → Prop)
    (hp : ∀ (l' : Nat) (MA' CA' : Nat → Nat) (nm' ny' : Nat → Int32), th_tab l' MA' CA' nm' ny' → th_NX R f l' MA' CA' (V + num * f M) → post (S, fo, nI l', th_T t, ke, nx, me, ma, nm', ny', md)) :
    wpX_keepMade post (S, fo, nI l, th_T t, ke, nx, me, ma, nm, ny, md) (nI num) := by
  have hl := th_NX_len hX
  obtain ⟨T1, T2, T3⟩ := hT
  obtain ⟨X1, X2, X3⟩ := hX
  have key : ∀ d i, i + d = l → ∀ n, d < n → (∀ j, j < i → MA j ≠ M) → wX_keepMade_2 post (nI num) S fo (nI l) (th_T t) ke nx me ma nm ny md n (nI i) := by
    intro d
    induction d with
    | zero =>
      intro i hi n hn I
      obtain ⟨m, rfl⟩ : ∃ m, n = m + 1 := ⟨n - 1, by omega⟩
      have e : i = l := by omega
      subst e
      rw [wX_keepMade_2]
      refine br_t (Int32.le_refl _) (pk_le 200 i (fun h => by omega) (fun _ => ?_))
      refine loop_0 (fun n j (c : Nat → Int32) => wX_keepMade_49 post (nI num) S fo (nI i) n (nI j) (th_T t) ke nx me ma c ny md) (fun j c => (∀ a b, a < i → b < 8 → c (8 * a + b) = th_wd (MA a) b) ∧ ∀ b, b < j → c (8 * i + b) = th_wd M b) 8 nm ⟨T1, fun b hb => absurd hb (Nat.not_lt_zero b)⟩ (fun n c J => ?_) (fun n j c hj J K => ?_)
      · have ci : (nI i).toNatClampNeg = i := nI_clamp (by omega)
        rw [wX_keepMade_49]
        refine br_t (by decide) ⟨vp_in_nI (by omega) (by decide), nm_r (e' := upd ny i (nI num)) (by rw [ci]) (nm_r (nI_1 i) (hp (i + 1) (fun a => if a = i then M else MA a) (fun a => if a = i then num else CA a) c _ ⟨?_, ?_, ?_⟩ ⟨?_, ?_, ?_⟩))⟩
        · intro a b ha hb
          dsimp only
          by_cases z : a = i
          · rw [if_pos z, z]
            exact J.2 b hb
          · rw [if_neg z]
            exact J.1 a b (by omega) hb
        · intro a ha
          dsimp only
          by_cases z : a = i
          · rw [if_pos z, z, pk_us]
          · rw [if_neg z, pk_un z]
            exact T2 a (by omega)
        · intro a ha
          dsimp only
          by_cases z : a = i
          · rw [if_pos z]
            exact hM2
          · rw [if_neg z]
            exact T3 a (by omega)
        · intro a b hab hb
          dsimp only
          rw [if_neg (by omega)]
          by_cases z : b = i
          · rw [if_pos z]
            exact I a (by omega)
          · rw [if_neg z]
            exact X1 a b hab (by omega)
        · intro a ha
          dsimp only
          by_cases z : a = i
          · rw [if_pos z]
            exact hM
          · rw [if_neg z]
            exact X2 a (by omega)
        · rw [th_s]
          dsimp only
          rw [if_pos rfl, if_pos rfl, ← X3]
          congr 1
          refine th_s_congr i (fun a ha => ?_)
          rw [if_neg (by omega), if_neg (by omega)]
      · have cj : (nI j).toNatClampNeg = j := nI_clamp (by omega)
        have e8 : (8 : Int32) * nI i + nI j = nI (8 * i + j) := by
          rw [show (8 : Int32) * nI i = nI (8 * i) from pk_mul 8 i, nI_add]
        have c8 : (nI (8 * i + j)).toNatClampNeg = 8 * i + j := nI_clamp (by omega)
        rw [wX_keepMade_49]
        dsimp only
        rw [e8, cj, c8]
        refine pk_le 8 j (fun h => by omega) (fun _ => ⟨vp_in_nI hj (by decide), vp_in_nI (by omega) (by decide), nm_e (nm_r (nI_1 j) (K _ ⟨fun a b ha hb => ?_, fun b hb => ?_⟩))⟩)
        · rw [pk_un (by omega)]
          exact J.1 a b ha hb
        · by_cases z : b = j
          · rw [z, pk_us, hmd j hj]
          · rw [pk_un (by omega)]
            exact J.2 b (by omega)
    | succ d ih =>
      intro i hi n hn I
      obtain ⟨m, rfl⟩ : ∃ m, n = m + 1 := ⟨n - 1, by omega⟩
      have hil : i < l := by omega
      have ci : (nI i).toNatClampNeg = i := nI_clamp (by omega)
      have vi : vp_in (nI i) 200 := vp_in_nI (by omega) (by decide)
      rw [wX_keepMade_2]
      dsimp only
      rw [ci, T2 i hil, nI_add]
      refine pk_le l i (fun h => by omega) (fun _ => th_x_same (by omega) hM2 (T3 i hil) hmd (fun j hj => T1 i j hil hj) _ (fun h => ?_) (fun h => ?_))
      · refine br_f (by decide) ⟨vi, vi, nm_e (hp l MA (fun a => if a = i then CA a + num else CA a) nm _ ⟨T1, fun a ha => ?_, T3⟩ ⟨X1, X2, ?_⟩)⟩
        · dsimp only
          by_cases z : a = i
          · rw [if_pos z, z, pk_us]
          · rw [if_neg z, pk_un z]
            exact T2 a ha
        · have := th_s_pt (f := fun a => CA a * f (MA a)) (g := fun a => (if a = i then CA a + num else CA a) * f (MA a)) l hil (fun a _ hn => by rw [if_neg hn])
          rw [if_pos rfl, h, Nat.add_mul, X3] at this
          dsimp only
          omega
      · refine br_t rfl (nm_r (nI_1 i) (ih (i + 1) (by omega) m (by omega) (fun j hj => ?_)))
        rcases Nat.lt_or_ge j i with z | z
        · exact I j z
        · have : j = i := by omega
          rw [this]
          exact h
  unfold wpX_keepMade
  dsimp only
  exact ⟨l + 1, key l 0 (Nat.zero_add l) (l + 1) (by omega) (fun j hj => absurd hj (Nat.not_lt_zero j))⟩
end
end
section
def th_sf (f : Nat → Nat) (k M n : Nat) : Nat := if th_st k n M = 0 then 0 else f (th_st k n M)
def th_FC (t : Nat → Nat) : Nat → Nat → Nat
  | 0 => fun M => if M.testBit 7 = true then 1 else 0
  | d + 1 => fun M => th_s (fun n => if t (8 - d) ≤ n then th_sf (th_FC t d) (8 - d) M n else 0) 5
section
variable {t : Nat → Nat} {S fo la : Int32} {ke nx me ma nm ny md : Nat → Int32}
theorem th_x_sp19 {R : List Nat} {f MA CA : Nat → Nat} {l V k q a M ca : Nat} (hk : k < 9) (hq : q < 5) (ha : a < 200) (hR : R.length ≤ 100) (hcl : th_st k q M = 0 ∨ th_st k q M ∈ R) (hT : th_tab l MA CA nm ny) (hX : th_NX R f l MA CA V)
    (hme : ∀ j, j < 8 → me (8 * a + j) = th_wd M j) (hma : ma a = nI ca) (post : SX → Prop) {J : Int32 → Int32 → Int32 → Int32 → (Nat → Int32) → (Nat → Int32) → (Nat → Int32) → (Nat → Int32) → (Nat → Int32) → (Nat → Int32) → (Nat → Int32) → (Nat → Int32) → Prop}
    (hJ : ∀ (l' : Nat) (MA' CA' : Nat → Nat) (nm' ny' md' : Nat → Int32), th_tab l' MA' CA' nm' ny' → th_NX R f l' MA' CA' (V + ca * th_sf f k M q) → J (nI (q + 1)) S fo (nI l') (th_T t) ke nx me ma nm' ny' md') :
    ∀ d s, s + d = 250 → ∀ n, d < n → ∀ md : Nat → Int32, (∀ j, j < 8 → md j = th_wd (th_sp k q M s) j) → wX_spreadSet_19 post J (nI a) (nI k) (nI q) n (nI s) S fo (nI l) (th_T t) ke nx me ma nm ny md := by
  intro d
  induction d with
  | zero =>
    intro s hs n hn md hmd
    obtain ⟨m, rfl⟩ : ∃ m, n = m + 1 := ⟨n - 1, by omega⟩
    have e : s = 250 := by omega
    subst e
    have cA : (nI a).toNatClampNeg = a := nI_clamp (by omega)
    rw [wX_spreadSet_19]
    dsimp only
    rw [cA, hma]
    refine br_t (by decide) (th_x_empty (M := th_st k q M) (th_st_lt k q M) hmd _ (fun h => ?_) (fun h => ?_))
    · refine br_f (by decide) (nm_r (nI_1 q) (hJ l MA CA nm ny md hT ?_))
      have e0 : th_sf f k M q = 0 := if_pos h
      rw [e0, Nat.mul_zero, Nat.add_zero]
      exact hX
    · refine br_t rfl ⟨vp_in_nI ha (by decide), th_x_keep (num := ca) hR (hcl.resolve_left h) (th_st_lt k q M) hT hX hmd _ (fun l' MA' CA' nm' ny' g1 g2 => nm_r (nI_1 q) (hJ l' MA' CA' nm' ny' md g1 ?_))⟩
      have e0 : th_sf f k M q = f (th_st k q M) := if_neg h
      rw [e0]
      exact g2
  | succ d ih =>
    intro s hs n hn md hmd
    obtain ⟨m, rfl⟩ : ∃ m, n = m + 1 := ⟨n - 1, by omega⟩
    have hs2 : s < 250 := by omega
    have e8 : (8 : Int32) * nI a + nI s >>> ((5 : Int32) &&& 31) = nI (8 * a + s / 32) := by
      rw [th_sh5 (by omega), show (8 : Int32) * nI a = nI (8 * a) from pk_mul 8 a, nI_add]
    have c8 : (nI (8 * a + s / 32)).toNatClampNeg = 8 * a + s / 32 := nI_clamp (by omega)
    rw [wX_spreadSet_19]
    dsimp only
    rw [e8, c8, th_an31 (by omega), hme (s / 32) (by omega)]
    have bit := th_bit (M := M) (s := s)
    refine pk_le 250 s (fun h => by omega) (fun _ => ⟨vp_in_nI (by omega) (by decide), br_c (fun h => th_x_exact hs2 hk (by omega) hmd _ (fun md' h' => nm_r (nI_1 s) (ih (s + 1) (by omega) m (by omega) md' (fun j hj => ?_)))) (fun h => nm_r (nI_1 s) (ih (s + 1) (by omega) m (by omega) md (fun j hj => ?_)))⟩)
    · rw [th_sp, bit.mp h, cond_true]
      exact h' j hj
    · have e : M.testBit s = false := by
        cases z : M.testBit s
        · rfl
        · exact absurd (bit.mpr z) h
      rw [th_sp, e, cond_false]
      exact hmd j hj
theorem th_x_spread {R : List Nat} {f MA CA : Nat → Nat} {l V k a M ca : Nat} (hk : k < 9) (htk : t k ≤ 4) (ha : a < 200) (hR : R.length ≤ 100) (hcl : ∀ q, q < 5 → th_st k q M = 0 ∨ th_st k q M ∈ R) (hT : th_tab l MA CA nm ny) (hX : th_NX R f l MA CA V)
    (hme : ∀ j, j < 8 → me (8 * a + j) = th_wd M j) (hma : ma a = nI ca) (post : SX → Prop)
    (hp : ∀ (l' : Nat) (MA' CA' : Nat → Nat) (nm' ny' md' : Nat → Int32), th_tab l' MA' CA' nm' ny' → th_NX R f l' MA' CA' (V + ca * th_s (fun n => if t k ≤ n then th_sf f k M n else 0) 5) → post (S, fo, nI l', th_T t, ke, nx, me, ma, nm', ny', md')) :
    wpX_spreadSet post (S, fo, nI l, th_T t, ke, nx, me, ma, nm, ny, md) (nI a) (nI k) := by
  have key : ∀ d q, q + d = 5 → t k ≤ q → ∀ n, d < n → ∀ (l : Nat) (MA CA : Nat → Nat) (nm ny md : Nat → Int32), th_tab l MA CA nm ny → th_NX R f l MA CA (V + ca * th_s (fun n => if t k ≤ n then th_sf f k M n else 0) q) → wX_spreadSet_7 post (nI a) (nI k) n (nI q) S fo (nI l) (th_T t) ke nx me ma nm ny md := by
    intro d
    induction d with
    | zero =>
      intro q hq htq n hn l MA CA nm ny md hT hX
      obtain ⟨m, rfl⟩ : ∃ m, n = m + 1 := ⟨n - 1, by omega⟩
      have e : q = 5 := by omega
      subst e
      rw [wX_spreadSet_7]
      exact br_t (by decide) (hp l MA CA nm ny md hT hX)
    | succ d ih =>
      intro q hq htq n hn l MA CA nm ny md hT hX
      obtain ⟨m, rfl⟩ : ∃ m, n = m + 1 := ⟨n - 1, by omega⟩
      rw [wX_spreadSet_7]
      refine pk_lt 4 q (fun h => by omega) (fun _ => th_x_clearMade _ (fun md' h' => ⟨251, ?_⟩))
      refine th_x_sp19 hk (by omega) ha hR (hcl q (by omega)) hT hX hme hma post (fun l' MA' CA' nm' ny' md' g1 g2 => ih (q + 1) (by omega) (by omega) m (by omega) l' MA' CA' nm' ny' md' g1 ?_) 250 0 rfl 251 (by omega) md' h'
      rw [th_s, if_pos htq, Nat.mul_add, ← Nat.add_assoc]
      exact g2
  have ck : (nI k).toNatClampNeg = k := nI_clamp (by omega)
  unfold wpX_spreadSet
  dsimp only
  refine ⟨vp_in_nI hk (by decide), nm_r (e' := nI (t k)) (by rw [ck]; rfl) ⟨6, ?_⟩⟩
  refine key (5 - t k) (t k) (by omega) (Nat.le_refl _) 6 (by omega) l MA CA nm ny md hT ?_
  rw [th_s_zero (t k) (fun n hn => if_neg (by omega)), Nat.mul_zero, Nat.add_zero]
  exact hX
theorem th_x_takeSets {l : Nat} (hl : l ≤ 100) (post : SX → Prop)
    (hp : ∀ me' ma' : Nat → Int32, (∀ i, i < 8 * l → me' i = nm i) → (∀ i, i < l → ma' i = ny i) → post (S, nI l, nI l, th_T t, ke, nx, me', ma', nm, ny, md)) :
    wpX_takeSets post (S, fo, nI l, th_T t, ke, nx, me, ma, nm, ny, md) := by
  have e8 : (8 : Int32) * nI l = nI (8 * l) := pk_mul 8 l
  unfold wpX_takeSets
  dsimp only
  refine loop_0 (fun n i (c : Nat → Int32) => wX_takeSets_10 post S (nI l) (nI l) n (nI i) (th_T t) ke nx c ma nm ny md) (fun i c => ∀ k, k < i → c k = nm k) (8 * l) me (fun k hk => absurd hk (Nat.not_lt_zero k)) (fun n c I => ?_) (fun n i c hi I K => ?_)
  · rw [wX_takeSets_10, e8]
    refine br_t (Int32.le_refl _) ?_
    refine loop_0 (fun n i (c' : Nat → Int32) => wX_takeSets_41 post S (nI l) (nI l) n (nI i) (th_T t) ke nx c c' nm ny md) (fun i c' => ∀ k, k < i → c' k = ny k) l ma (fun k hk => absurd hk (Nat.not_lt_zero k)) (fun n c' I' => ?_) (fun n i c' hi I' K => ?_)
    · rw [wX_takeSets_41]
      exact br_t (Int32.le_refl _) (hp c c' I I')
    · have ci : (nI i).toNatClampNeg = i := nI_clamp (by omega)
      rw [wX_takeSets_41]
      dsimp only
      rw [ci]
      refine pk_le l i (fun h => by omega) (fun _ => ⟨vp_in_nI (by omega) (by decide), vp_in_nI (by omega) (by decide), nm_e (nm_r (nI_1 i) (K _ (fun k hk => ?_)))⟩)
      by_cases z : k = i
      · rw [z, pk_us]
      · rw [pk_un z]
        exact I' k (by omega)
  · have ci : (nI i).toNatClampNeg = i := nI_clamp (by omega)
    rw [wX_takeSets_10, e8]
    dsimp only
    rw [ci]
    refine pk_le (8 * l) i (fun h => by omega) (fun _ => ⟨vp_in_nI (by omega) (by decide), vp_in_nI (by omega) (by decide), nm_e (nm_r (nI_1 i) (K _ (fun k hk => ?_)))⟩)
    by_cases z : k = i
    · rw [z, pk_us]
    · rw [pk_un z]
      exact I k (by omega)
theorem th_x_cp56 {R : List Nat} {f MB CB : Nat → Nat} {L k : Nat} (hk : k < 9) (htk : t k ≤ 4) (hL : L ≤ 100) (hR : R.length ≤ 100) (hcl : ∀ a q, a < L → q < 5 → th_st k q (MB a) = 0 ∨ th_st k q (MB a) ∈ R) (hB : th_tab L MB CB me ma)
    (post : Int32 → SX → Prop) {J : Int32 → Int32 → Int32 → Int32 → (Nat → Int32) → (Nat → Int32) → (Nat → Int32) → (Nat → Int32) → (Nat → Int32) → (Nat → Int32) → (Nat → Int32) → (Nat → Int32) → Prop}
    (hJ : ∀ (l : Nat) (MA CA : Nat → Nat) (me' ma' nm' ny' md' : Nat → Int32), th_tab l MA CA me' ma' → th_NX R f l MA CA (th_s (fun a => CB a * th_s (fun n => if t k ≤ n then th_sf f k (MB a) n else 0) 5) L) → J (nI (k + 1)) S (nI l) (nI l) (th_T t) ke nx me' ma' nm' ny' md') :
    ∀ d a, a + d = L → ∀ n, d < n → ∀ (l : Nat) (MA CA : Nat → Nat) (nm ny md : Nat → Int32), th_tab l MA CA nm ny → th_NX R f l MA CA (th_s (fun a => CB a * th_s (fun n => if t k ≤ n then th_sf f k (MB a) n else 0) 5) a) → wX_completions_56 post J (nI k) n (nI a) S (nI L) (nI l) (th_T t) ke nx me ma nm ny md := by
  intro d
  induction d with
  | zero =>
    intro a ha n hn l MA CA nm ny md hT hX
    obtain ⟨m, rfl⟩ : ∃ m, n = m + 1 := ⟨n - 1, by omega⟩
    have e : a = L := by omega
    subst e
    have hl := th_NX_len hX
    rw [wX_completions_56]
    refine br_t (Int32.le_refl _) (th_x_takeSets (by omega) _ (fun me' ma' g1 g2 => nm_r (nI_1 k) (hJ l MA CA me' ma' nm ny md ⟨fun i j hi hj => ?_, fun i hi => ?_, hT.2.2⟩ hX)))
    · rw [g1 _ (by omega)]
      exact hT.1 i j hi hj
    · rw [g2 i hi]
      exact hT.2.1 i hi
  | succ d ih =>
    intro a ha n hn l MA CA nm ny md hT hX
    obtain ⟨m, rfl⟩ : ∃ m, n = m + 1 := ⟨n - 1, by omega⟩
    have haL : a < L := by omega
    rw [wX_completions_56]
    refine pk_le L a (fun h => by omega) (fun _ => th_x_spread hk htk (by omega) hR (fun q hq => hcl a q haL hq) hT hX (fun j hj => hB.1 a j haL hj) (hB.2.1 a haL) _ (fun l' MA' CA' nm' ny' md' g1 g2 => nm_r (nI_1 a) (ih (a + 1) (by omega) m (by omega) l' MA' CA' nm' ny' md' g1 ?_)))
    rw [th_s]
    exact g2
theorem th_x_comp (ht : ∀ k, k < 9 → t k ≤ 4) (post : Int32 → SX → Prop)
    (hp : ∀ (fo' la' : Int32) (me' ma' nm' ny' md' : Nat → Int32), post (nI (th_FC t 9 1)) (S, fo', la', th_T t, ke, nx, me', ma', nm', ny', md')) :
    wpX_completions post (S, fo, la, th_T t, ke, nx, me, ma, nm, ny, md) := by
  have key : ∀ d k, k + d = 9 → ∀ n, d < n → ∀ (L : Nat) (MB CB : Nat → Nat) (la : Int32) (me ma nm ny md : Nat → Int32), L ≤ 100 → th_tab L MB CB me ma → (∀ i, i < L → MB i ∈ th_R k) → th_s (fun i => CB i * th_FC t d (MB i)) L = th_FC t 9 1 → wX_completions_43 post n (nI k) S (nI L) la (th_T t) ke nx me ma nm ny md := by
    intro d
    induction d with
    | zero =>
      intro k hk n hn L MB CB la me ma nm ny md hL hB hM hV
      obtain ⟨m, rfl⟩ : ∃ m, n = m + 1 := ⟨n - 1, by omega⟩
      have e : k = 9 := by omega
      subst e
      rw [wX_completions_43]
      refine br_t (by decide) ?_
      rw [← hV] at hp
      have fin : ∀ d a, a + d = L → ∀ n, d < n → wX_completions_90 post S (nI L) la (th_T t) ke nx me ma nm ny md n (nI (th_s (fun i => CB i * th_FC t 0 (MB i)) a)) (nI a) := by
        intro d
        induction d with
        | zero =>
          intro a ha n hn
          obtain ⟨m, rfl⟩ : ∃ m, n = m + 1 := ⟨n - 1, by omega⟩
          have e : a = L := by omega
          subst e
          rw [wX_completions_90]
          exact br_t (Int32.le_refl _) (hp _ _ _ _ _ _ _)
        | succ d ih =>
          intro a ha n hn
          obtain ⟨m, rfl⟩ : ∃ m, n = m + 1 := ⟨n - 1, by omega⟩
          have haL : a < L := by omega
          have ca : (nI a).toNatClampNeg = a := nI_clamp (by omega)
          have e8 : (8 : Int32) * nI a = nI (8 * a) := pk_mul 8 a
          have c8 : (nI (8 * a)).toNatClampNeg = 8 * a := nI_clamp (by omega)
          have bit : ((th_wd (MB a) 0 >>> ((7 : Int32) &&& 31)) &&& 1 = 1) ↔ (MB a).testBit 7 = true := th_bit (M := MB a) (s := 7)
          have w0 : me (8 * a) = th_wd (MB a) 0 := hB.1 a 0 haL (by decide)
          have nxt := ih (a + 1) (by omega) m (by omega)
          rw [th_s] at nxt
          rw [wX_completions_90]
          dsimp only
          rw [e8, c8, ca, w0, hB.2.1 a haL]
          refine pk_le L a (fun h => by omega) (fun _ => ⟨vp_in_nI (by omega) (by decide), br_c (fun h => ⟨vp_in_nI (by omega) (by decide), nm_r (nI_add _ _) (nm_r (nI_1 a) ?_)⟩) (fun h => nm_r (nI_1 a) ?_)⟩)
          · have f1 : th_FC t 0 (MB a) = 1 := if_pos (bit.mp h)
            rw [f1, Nat.mul_one] at nxt
            exact nxt
          · have f1 : th_FC t 0 (MB a) = 0 := if_neg (fun z => h (bit.mpr z))
            rw [f1, Nat.mul_zero, Nat.add_zero] at nxt
            exact nxt
      exact ⟨L + 1, fin L 0 (Nat.zero_add L) (L + 1) (by omega)⟩
    | succ d ih =>
      intro k hk n hn L MB CB la me ma nm ny md hL hB hM hV
      obtain ⟨m, rfl⟩ : ∃ m, n = m + 1 := ⟨n - 1, by omega⟩
      have h9 : k < 9 := by omega
      have hR := th_R_len (k := k + 1) (by omega)
      have ek : 8 - d = k := by omega
      rw [wX_completions_43]
      refine pk_le 9 k (fun h => by omega) (fun _ => ⟨L + 1, ?_⟩)
      refine th_x_cp56 (R := th_R (k + 1)) (f := th_FC t d) h9 (ht k h9) hL hR (fun a q ha hq => th_R_cl h9 (hM a ha) hq) hB post (fun l MA CA me' ma' nm' ny' md' g1 g2 => ?_) L 0 (Nat.zero_add L) (L + 1) (by omega) 0 MB CB nm ny md ⟨fun i j hi => absurd hi (Nat.not_lt_zero i), fun i hi => absurd hi (Nat.not_lt_zero i), fun i hi => absurd hi (Nat.not_lt_zero i)⟩ ⟨fun i j _ hj => absurd hj (Nat.not_lt_zero j), fun i hi => absurd hi (Nat.not_lt_zero i), rfl⟩
      have hl := th_NX_len g2
      refine ih (k + 1) (by omega) m (by omega) l MA CA (nI l) me' ma' nm' ny' md' (by omega) g1 g2.2.1 ?_
      rw [g2.2.2, ← hV]
      refine th_s_congr L (fun a _ => ?_)
      rw [th_FC, ek]
  unfold wpX_completions
  dsimp only
  refine nm_e ?_
  refine loop_0 (fun n i (c : Nat → Int32) => wX_completions_14 post S 1 la n (nI i) (th_T t) ke nx c (upd ma 0 1) nm ny md) (fun i c => ∀ j, j < i → c j = th_wd 1 j) 8 me (fun k hk => absurd hk (Nat.not_lt_zero k)) (fun n c I => ?_) (fun n i c hi I K => ?_)
  · rw [wX_completions_14]
    refine br_t (by decide) ⟨10, key 9 0 rfl 10 (by omega) 1 (fun _ => 1) (fun _ => 1) la c (upd ma 0 1) nm ny md (by decide) ⟨fun i j hi hj => ?_, fun i hi => ?_, fun i hi => ?_⟩ (fun i hi => ?_) ?_⟩
    · have e : i = 0 := by omega
      rw [e, Nat.mul_zero, Nat.zero_add]
      exact I j hj
    · have e : i = 0 := by omega
      rw [e, pk_us]
      rfl
    · exact Nat.pow_lt_pow_right (by decide) (show 0 < 256 by decide)
    · show 1 ∈ th_R0
      decide
    · show 0 + 1 * th_FC t 9 1 = th_FC t 9 1
      omega
  · have ci : (nI i).toNatClampNeg = i := nI_clamp (by omega)
    have w1 : ∀ j, j < 8 → th_wd 1 j = if j = 0 then 1 else 0 := by decide +kernel
    have nxt : ∀ x : Int32, x = (if i = 0 then 1 else 0) → ∀ j, j < i + 1 → upd c i x j = th_wd 1 j := by
      intro x ex j hj
      by_cases z : j = i
      · rw [z, pk_us, ex, w1 i hi]
      · rw [pk_un z]
        exact I j (by omega)
    rw [wX_completions_14]
    dsimp only
    rw [ci]
    refine pk_le 8 i (fun h => by omega) (fun _ => pk_eq i 0 (fun h => ⟨vp_in_nI (by omega) (by decide), nm_e (nm_r (nI_1 i) (K _ (nxt _ ?_)))⟩) (fun h => ⟨vp_in_nI (by omega) (by decide), nm_e (nm_r (nI_1 i) (K _ (nxt _ ?_)))⟩))
    · rw [if_pos h]
    · rw [if_neg h]
end
end
section
def th_lo (t : Nat → Nat) : Nat → Nat → Bool
  | 0 => fun _ => true
  | d + 1 => fun w => Nat.ble (t (8 - d)) (w / 16 ^ d % 16) && th_lo t d w
theorem th_lo_iff (t : Nat → Nat) (w : Nat) : ∀ d, th_lo t d w = true ↔ ∀ i, i < d → t (8 - i) ≤ w / 16 ^ i % 16
  | 0 => ⟨fun _ i hi => absurd hi (Nat.not_lt_zero i), fun _ => rfl⟩
  | d + 1 => by
    show (Nat.ble (t (8 - d)) (w / 16 ^ d % 16) && th_lo t d w) = true ↔ _
    rw [Bool.and_eq_true, th_lo_iff t w d, Nat.ble_eq]
    constructor
    · rintro ⟨a, b⟩ i hi
      rcases Nat.lt_or_ge i d with z | z
      · exact b i z
      · have : i = d := by omega
        rw [this]
        exact a
    · intro h
      exact ⟨h d (Nat.lt_succ_self d), fun i hi => h i (Nat.lt_succ_of_lt hi)⟩
theorem th_cd_lt (v : Nat → Nat) : ∀ k, (∀ j, j < k → v j < 16) → th_cd v k < 16 ^ k
  | 0, _ => Nat.one_pos
  | k + 1, h => by
    have a := th_cd_lt v k (fun j hj => h j (Nat.lt_succ_of_lt hj))
    have b := h k (Nat.lt_succ_self k)
    show th_cd v k * 16 + v k < 16 ^ (k + 1)
    rw [Nat.pow_succ]
    omega
theorem th_W_mem {w : Nat} (h : w ∈ th_W) : ∃ p s, p < 9 ∧ s ∈ th_lv 3 [] 14 ∧ th_own th_c4 p s = true ∧ w = th_cd (th_vec p s) 9 := by
  unfold th_W at h
  rw [List.mem_flatMap] at h
  obtain ⟨p, hp, h⟩ := h
  unfold th_Wp at h
  rw [List.mem_map] at h
  obtain ⟨s, hs, e⟩ := h
  rw [List.mem_filter, Bool.and_eq_true] at hs
  exact ⟨p, s, List.mem_range.mp hp, hs.1, (th_l4_iff (by rw [(th_lv_len hs.1).1]; decide)).mp hs.2.1, e.symm⟩
theorem th_W_nd : th_W.Nodup := (th_sort_perm th_W).nodup_iff.mp (th_inc_nd _ th_T2_i)
theorem th_W_7 {c : Nat} : c ∈ th_W ↔ (7, c) ∈ th_P 9 := by
  rw [← th_LX_mem, ← (th_sort_perm th_W).mem_iff, ← th_eqb_eq _ _ th_T2_d, th_dd_mem, (th_sort_perm (th_LX 7)).mem_iff]
theorem th_cnt1 (c : Nat) : ∀ l : List Nat, l.Nodup → l.countP (fun w => Nat.beq (w / 16 ^ 0) c && true) = if c ∈ l then 1 else 0
  | [], _ => by
    rw [if_neg List.not_mem_nil]
    rfl
  | x :: l, h => by
    rw [List.nodup_cons] at h
    rw [List.countP_cons, th_cnt1 c l h.2, Nat.pow_zero, Nat.div_one, Bool.and_true]
    by_cases z : x = c
    · rw [z, Nat.beq_refl, if_pos rfl, if_pos List.mem_cons_self, if_neg (by rw [← z]; exact h.1)]
    · have e : Nat.beq x c = false := by
        cases q : Nat.beq x c
        · rfl
        · exact absurd (Nat.eq_of_beq_eq_true q) z
      rw [e, if_neg (show ¬ (false = true) by decide), Nat.add_zero]
      by_cases y : c ∈ l
      · rw [if_pos y, if_pos (List.mem_cons_of_mem _ y)]
      · rw [if_neg y, if_neg]
        intro hm
        rcases List.mem_cons.mp hm with q | q
        · exact z q.symm
        · exact y q
theorem th_swapc (p : Nat → Nat → Bool) (q : Nat → Bool) : ∀ l : List Nat, (∀ w, w ∈ l → th_s (fun n => if p n w = true then 1 else 0) 5 = if q w = true then 1 else 0) → th_s (fun n => l.countP (p n)) 5 = l.countP q
  | [], _ => th_s_zero 5 (fun _ _ => rfl)
  | x :: l, h => by
    have ih := th_swapc p q l (fun w hw => h w (List.mem_cons_of_mem _ hw))
    have hx := h x List.mem_cons_self
    rw [List.countP_cons, ← ih, ← hx, ← th_s_add]
    exact th_s_congr 5 (fun n _ => List.countP_cons)
theorem th_sp_0 (k n : Nat) : ∀ s, th_sp k n 0 s = 0
  | 0 => rfl
  | s + 1 => by
    rw [th_sp, Nat.zero_testBit, cond_false]
    exact th_sp_0 k n s
theorem th_FC_0 (t : Nat → Nat) : ∀ d, th_FC t d 0 = 0
  | 0 => rfl
  | d + 1 => by
    show th_s (fun n => if t (8 - d) ≤ n then th_sf (th_FC t d) (8 - d) 0 n else 0) 5 = 0
    refine th_s_zero 5 (fun n _ => ?_)
    have e : th_sf (th_FC t d) (8 - d) 0 n = 0 := if_pos (th_sp_0 _ _ _)
    rw [e]
    split <;> rfl
theorem th_FC_sf (t : Nat → Nat) (d k M n : Nat) : th_sf (th_FC t d) k M n = th_FC t d (th_st k n M) := by
  unfold th_sf
  by_cases z : th_st k n M = 0
  · rw [if_pos z, z, th_FC_0]
  · rw [if_neg z]
theorem th_FC_W (t : Nat → Nat) : ∀ d k M c, k + d = 9 → (∀ s, M.testBit s = true ↔ (s, c) ∈ th_P k) → th_FC t d M = th_W.countP (fun w => Nat.beq (w / 16 ^ d) c && th_lo t d w)
  | 0, k, M, c, hk, hM => by
    have e : k = 9 := by omega
    subst e
    show (if M.testBit 7 = true then 1 else 0) = th_W.countP (fun w => Nat.beq (w / 16 ^ 0) c && true)
    rw [th_cnt1 c th_W th_W_nd]
    by_cases z : M.testBit 7 = true
    · rw [if_pos z, if_pos (th_W_7.mpr ((hM 7).mp z))]
    · rw [if_neg z, if_neg (fun h => z ((hM 7).mpr (th_W_7.mp h)))]
  | d + 1, k, M, c, hk, hM => by
    have ek : 8 - d = k := by omega
    show th_s (fun n => if t (8 - d) ≤ n then th_sf (th_FC t d) (8 - d) M n else 0) 5 = _
    rw [ek]
    have step : ∀ n, n < 5 → th_FC t d (th_st k n M) = th_W.countP (fun w => Nat.beq (w / 16 ^ d) (c * 16 + n) && th_lo t d w) := by
      intro n hn
      refine th_FC_W t d (k + 1) (th_st k n M) (c * 16 + n) (by omega) (fun s' => ?_)
      unfold th_st
      rw [th_sp_bit, th_P_mem]
      constructor
      · rintro ⟨a, x, ha, h1, hx, h2, h3, h4⟩
        exact ⟨a, c, x, (hM a).mp h1, hx, h2, by omega, h4.symm, by rw [h3]⟩
      · rintro ⟨a, c', x, h1, hx, h2, h3, h4, h5⟩
        have ec : c' = c := by omega
        have en : th_nd a x = n := by omega
        rw [ec] at h1
        exact ⟨a, x, th_P_lt k a c h1, (hM a).mpr h1, hx, h2, en, h4.symm⟩
    have s1 : th_s (fun n => if t k ≤ n then th_sf (th_FC t d) k M n else 0) 5 = th_s (fun n => th_W.countP (fun w => Nat.ble (t k) n && (Nat.beq (w / 16 ^ d) (c * 16 + n) && th_lo t d w))) 5 := by
      refine th_s_congr 5 (fun n hn => ?_)
      by_cases z : t k ≤ n
      · rw [if_pos z, th_FC_sf, step n hn]
        refine List.countP_congr (fun w _ => ?_)
        rw [Nat.ble_eq_true_of_le z, Bool.true_and]
      · rw [if_neg z]
        have e : Nat.ble (t k) n = false := by
          cases q : Nat.ble (t k) n
          · rfl
          · exact absurd (Nat.le_of_ble_eq_true q) z
        symm
        rw [List.countP_eq_zero]
        intro w _
        rw [e, Bool.false_and]
        decide
    rw [s1]
    refine th_swapc (fun n w => Nat.ble (t k) n && (Nat.beq (w / 16 ^ d) (c * 16 + n) && th_lo t d w)) _ th_W (fun w hw => ?_)
    obtain ⟨p, s, hp, hs, ho, ew⟩ := th_W_mem hw
    have l3 : s.length ≤ 3 := by
      rw [(th_lv_len hs).1]
      decide
    have dg : w / 16 ^ d % 16 ≤ 4 := by
      rw [ew, th_dg_cd _ 9 (th_vec16 l3) d (by omega)]
      exact th_own_iff.mp ho _ (by omega)
    have dd : w / 16 ^ (d + 1) = w / 16 ^ d / 16 := by
      rw [Nat.pow_succ, Nat.div_div_eq_div_mul]
    have el : th_lo t (d + 1) w = (Nat.ble (t k) (w / 16 ^ d % 16) && th_lo t d w) := by
      rw [← ek]
      rfl
    rw [el, dd]
    generalize w / 16 ^ d = x at dg ⊢
    rw [← th_s_one (j := x % 16) (a := if (Nat.beq (x / 16) c && (Nat.ble (t k) (x % 16) && th_lo t d w)) = true then 1 else 0) 5 (by omega)]
    refine th_s_congr 5 (fun n hn => ?_)
    by_cases z : n = x % 16
    · rw [if_pos z, z]
      by_cases y : x / 16 = c
      · rw [y, Nat.beq_refl, show x = c * 16 + x % 16 by omega, show (c * 16 + x % 16) % 16 = x % 16 by omega, Nat.beq_refl, Bool.true_and, Bool.true_and]
      · have e1 : Nat.beq (x / 16) c = false := by
          cases q : Nat.beq (x / 16) c
          · rfl
          · exact absurd (Nat.eq_of_beq_eq_true q) y
        have e2 : Nat.beq x (c * 16 + x % 16) = false := by
          cases q : Nat.beq x (c * 16 + x % 16)
          · rfl
          · have := Nat.eq_of_beq_eq_true q
            omega
        rw [e1, e2, Bool.false_and, Bool.false_and, Bool.and_false]
    · rw [if_neg z]
      have e2 : Nat.beq x (c * 16 + n) = false := by
        cases q : Nat.beq x (c * 16 + n)
        · rfl
        · have := Nat.eq_of_beq_eq_true q
          omega
      rw [e2, Bool.false_and, Bool.and_false, if_neg (by decide)]
theorem th_lef_0 {t : Nat → Nat} {p : Nat} {s : List Nat} : th_lef t p s = 0 ↔ ∀ k, k < 9 → t k ≤ th_vec p s k := by
  unfold th_lef
  constructor
  · intro h k hk
    have := th_s_pos 9 h k hk
    omega
  · intro h
    exact th_s_zero 9 (fun k hk => by
      have := h k hk
      omega)
theorem th_cp_eq (t : Nat → Nat) {p : Nat} (hp : p < 9) : th_cp t p = (th_lv 3 [] 14).countP (fun s => th_own th_c4 p s && th_ec t p s) := by
  have := th_cntlaw th_c4 p 3 (Nat.le_refl _) (th_ec t p) (vis := th_vc 3 (th_ec t p)) (deep := th_dk t p) (fun a st => rfl) (fun a st h => Nat.lt_succ_of_le (decide_eq_true_iff.mp h).1) (fun a st s h hl h14 hs h14s hv => ?_) 3 [] ⟨by decide, fun g hg => absurd hg List.not_mem_nil⟩ rfl 14 (Nat.le_refl _) 0 (th_own0 p) (by decide)
  · rw [Nat.zero_add] at this
    exact this
  · have h := decide_eq_false_iff_not.mp h
    have e : Nat.beq (th_lef t p s) 0 = false := by
      cases q : Nat.beq (th_lef t p s) 0
      · rfl
      · have z := th_lef_0.mp (Nat.eq_of_beq_eq_true q)
        have a := th_vec_sum p s h14s
        have b := th_vec_sum p st h14
        have c := th_s_le (f := fun k => (t k - th_vec p st k) + th_vec p st k) (g := th_vec p s) 9 (fun k hk => by
          have := z k hk
          have := hv p k
          show t k - th_vec p st k + th_vec p st k ≤ th_vec p s k
          omega)
        rw [th_s_add] at c
        have d : th_s (fun k => t k - th_vec p st k) 9 = th_lef t p st := rfl
        have d2 : th_s (fun k => th_vec p st k) 9 = th_s (th_vec p st) 9 := rfl
        rw [hs] at a
        omega
    unfold th_ec
    rw [e, Bool.false_and]
theorem th_comp_eq {t : Nat → Nat} : th_FC t 9 1 = th_s (th_cp t) 9 := by
  rw [th_FC_W t 9 0 1 0 rfl (fun s => ?_)]
  · unfold th_W
    rw [th_cp_fm]
    refine th_s_congr 9 (fun p hp => ?_)
    rw [th_cp_eq t hp]
    unfold th_Wp
    rw [List.countP_map, List.countP_filter]
    refine List.countP_congr (fun s hs => ?_)
    have l3 : s.length ≤ 3 := by
      rw [(th_lv_len hs).1]
      decide
    show ((Nat.beq (th_cd (th_vec p s) 9 / 16 ^ 9) 0 && th_lo t 9 (th_cd (th_vec p s) 9)) && (th_l4 (th_cd (th_vec p s) 9) && th_cnt p s)) = true ↔ _
    rw [Nat.div_eq_of_lt (th_cd_lt _ 9 (th_vec16 l3)), Nat.beq_refl, Bool.true_and, Bool.and_eq_true, Bool.and_eq_true, Bool.and_eq_true, th_l4_iff l3, th_lo_iff]
    unfold th_ec
    rw [Bool.and_eq_true, Nat.beq_eq, th_lef_0]
    have q : (∀ i, i < 9 → t (8 - i) ≤ th_cd (th_vec p s) 9 / 16 ^ i % 16) ↔ ∀ k, k < 9 → t k ≤ th_vec p s k := by
      constructor
      · intro h k hk
        have := h (8 - k) (by omega)
        rw [th_dg_cd _ 9 (th_vec16 l3) (8 - k) (by omega), show 8 - (8 - k) = k by omega] at this
        exact this
      · intro h i hi
        rw [th_dg_cd _ 9 (th_vec16 l3) i hi]
        exact h (8 - i) (by omega)
    rw [q]
    constructor
    · rintro ⟨a, b, c⟩
      exact ⟨b, a, c⟩
    · rintro ⟨a, b, c⟩
      exact ⟨b, a, c⟩
  · have e : Nat.testBit 1 s = decide (0 = s) := Nat.testBit_two_pow (n := 0)
    rw [e, decide_eq_true_iff]
    constructor
    · intro h
      rw [← h]
      exact List.mem_singleton.mpr rfl
    · intro h
      have h' : (s, 0) = (0, 0) := List.mem_singleton.mp h
      exact (congrArg Prod.fst h').symm
end
section
def th_RX (t : Nat → Nat) (u : SX) : Prop := u.1 = nI (th_s t 9) ∧ u.2.2.2.1 = th_T t
def th_RY (t : Nat → Nat) (v : SY) : Prop := v.1 = nI (th_s t 9) ∧ v.2.2.2.2.1 = th_T t
/-- both hold the same tiles, at most four of a kind and at most eleven in all, and the size is their number -/
def i_Rel (_ : Nat) (u : SX) (v : SY) : Prop := ∃ t : Nat → Nat, (∀ k, k < 9 → t k ≤ 4) ∧ th_s t 9 ≤ 11 ∧ th_RX t u ∧ th_RY t v
theorem i_up {k : Nat} {u : SX} {v : SY} (h : i_Rel k u v) : i_Rel (k + 2) u v := h
theorem i_vc0 : wpX_init (fun u => wpY_init (fun v => i_Rel 0 u v)) :=
  ⟨fun _ => 0, fun _ _ => Nat.zero_le _, by decide, ⟨rfl, rfl⟩, ⟨rfl, rfl⟩⟩
theorem th_mk {k : Nat} {t : Nat → Nat} (ht : ∀ k, k < 9 → t k ≤ 4) (hS : th_s t 9 ≤ 11) {fo la : Int32} {ke nx me ma nm ny md : Nat → Int32} {L F lv : Int32} {ch gs rs : Nat → Int32} :
    i_Rel k (nI (th_s t 9), fo, la, th_T t, ke, nx, me, ma, nm, ny, md) (nI (th_s t 9), L, F, lv, th_T t, ch, gs, rs) := ⟨t, ht, hS, ⟨rfl, rfl⟩, ⟨rfl, rfl⟩⟩
theorem th_open {k : Nat} {P : SX → SY → Prop}
    (h : ∀ (t : Nat → Nat) (fo la : Int32) (ke nx me ma nm ny md : Nat → Int32) (L F lv : Int32) (ch gs rs : Nat → Int32), (∀ k, k < 9 → t k ≤ 4) → th_s t 9 ≤ 11 → P (nI (th_s t 9), fo, la, th_T t, ke, nx, me, ma, nm, ny, md) (nI (th_s t 9), L, F, lv, th_T t, ch, gs, rs))
    {u : SX} {v : SY} (I : i_Rel k u v) : P u v := by
  obtain ⟨t, ht, hS, ⟨a, b⟩, ⟨c, d⟩⟩ := I
  obtain ⟨u1, u2, u3, u4, u5, u6, u7, u8, u9, u10, u11⟩ := u
  obtain ⟨v1, v2, v3, v4, v5, v6, v7, v8⟩ := v
  have a : u1 = nI (th_s t 9) := a
  have b : u4 = th_T t := b
  have c : v1 = nI (th_s t 9) := c
  have d : v5 = th_T t := d
  subst a b c d
  exact h t u2 u3 u5 u6 u7 u8 u9 u10 u11 v2 v3 v4 v6 v7 v8 ht hS
theorem th_nb {x : Int32} (h : ¬ ∃ j, j < 9 ∧ x = nI j) (h0 : ¬ x < 0) : ¬ x < nI 9 := by
  intro h9
  obtain ⟨j, hj, rfl⟩ := nI_of h0
  rw [nI_ltI hj (by decide)] at h9
  exact h ⟨j, h9, rfl⟩
theorem th_x_bad1 {x : Int32} (h : ¬ ∃ j, j < 9 ∧ x = nI j) (u : SX) (post : Int32 → Prop) (hp : post 1) : wpX_badKind post u x := by
  obtain ⟨u1, u2, u3, u4, u5, u6, u7, u8, u9, u10, u11⟩ := u
  unfold wpX_badKind
  dsimp only
  exact br_c (fun _ => hp) (fun h0 => br_f (th_nb h h0) hp)
theorem th_x_bad0 {j : Nat} (h : j < 9) (u : SX) (post : Int32 → Prop) (hp : post 0) : wpX_badKind post u (nI j) := by
  obtain ⟨u1, u2, u3, u4, u5, u6, u7, u8, u9, u10, u11⟩ := u
  unfold wpX_badKind
  dsimp only
  exact br_f (nI_pos (by omega)) (br_t (nI_lt (b := 9) h (by decide)) hp)
theorem th_y_bad1 {x : Int32} (h : ¬ ∃ j, j < 9 ∧ x = nI j) (v : SY) (post : Int32 → Prop) (hp : post 1) : wpY_bad post v x := by
  obtain ⟨v1, v2, v3, v4, v5, v6, v7, v8⟩ := v
  unfold wpY_bad
  dsimp only
  refine br_c (fun _ => hp) (fun h0 => br_f (fun h8 => ?_) hp)
  obtain ⟨j, hj, e⟩ := nI_of2 (M := 8) (n := 8) (by decide) h0 h8
  exact h ⟨j, by omega, e⟩
theorem th_y_bad0 {j : Nat} (h : j < 9) (v : SY) (post : Int32 → Prop) (hp : post 0) : wpY_bad post v (nI j) := by
  obtain ⟨v1, v2, v3, v4, v5, v6, v7, v8⟩ := v
  unfold wpY_bad
  dsimp only
  exact br_f (nI_pos (by omega)) (br_t (nI_le (b := 8) (by omega) (by decide)) hp)
theorem th_Y_up {t : Nat → Nat} {j : Nat} (hj : j < 9) : upd (th_T t) (nI j).toNatClampNeg (th_T t (nI j).toNatClampNeg + 1) = th_T (th_bp t j) := by
  rw [nI_clamp (by omega), ← th_T_bp]
  show upd (th_T t) j (nI (t j) + 1) = _
  rw [nI_1]
theorem th_Y_dn {t : Nat → Nat} {j : Nat} (hj : j < 9) (h0 : 0 < t j) : upd (th_T t) (nI j).toNatClampNeg (th_T t (nI j).toNatClampNeg - 1) = th_T (th_dn t j) := by
  rw [nI_clamp (by omega), ← th_T_dn]
  show upd (th_T t) j (nI (t j) - 1) = _
  obtain ⟨q, hq⟩ : ∃ q, t j = q + 1 := ⟨t j - 1, by omega⟩
  rw [hq, nI_pred, Nat.add_sub_cancel]
theorem i_vc_add {k : Nat} {u : SX} {v : SY} (I : i_Rel k u v) (hk : k + 2 ≤ 1024) (v1 : Int32) : wpX_add (fun r u' => wpY_add (fun r' v' => r' = r ∧ i_Rel (k + 2) u' v') v v1) u v1 := by
  refine th_open (P := fun u v => wpX_add (fun r u' => wpY_add (fun r' v' => r' = r ∧ i_Rel (k + 2) u' v') v v1) u v1) ?_ I
  intro t fo la ke nx me ma nm ny md L F lv ch gs rs ht hS
  unfold wpX_add wpY_add
  dsimp only
  by_cases hb : ∃ j, j < 9 ∧ v1 = nI j
  · obtain ⟨j, hj, rfl⟩ := hb
    have htj := ht j hj
    have cl : (nI j).toNatClampNeg = j := nI_clamp (by omega)
    have vj : vp_in (nI j) 9 := vp_in_nI hj (by decide)
    have es : nI (th_s t 9) + 1 = nI (th_s (th_bp t j) 9) := by rw [nI_1, th_bp_s t hj]
    have e4 : th_T t (nI j).toNatClampNeg = nI (t j) := by rw [cl]; rfl
    refine th_x_bad0 hj _ _ (br_t rfl ⟨vj, pk_eq (t j) 4 (fun h4 => ?_) (fun h4 => pk_eq (th_s t 9) 11 (fun h11 => ?_) (fun h11 => ⟨vj, vj, nm_r (th_X_up hj htj) (nm_r es ?_)⟩)) e4⟩)
    · exact th_y_bad0 hj _ _ (br_t rfl ⟨vj, pk_eq (t j) 4 (fun _ => ⟨rfl, th_mk ht hS⟩) (fun h => absurd h4 h) e4⟩)
    · exact th_y_bad0 hj _ _ (br_t rfl ⟨vj, pk_eq (t j) 4 (fun h => absurd h h4) (fun h => pk_eq (th_s t 9) 11 (fun _ => ⟨rfl, th_mk ht hS⟩) (fun h => absurd h11 h)) e4⟩)
    · exact th_y_bad0 hj _ _ (br_t rfl ⟨vj, pk_eq (t j) 4 (fun h => absurd h h4) (fun h => pk_eq (th_s t 9) 11 (fun h => absurd h h11) (fun _ => ⟨vj, vj, nm_r (th_Y_up hj) (nm_r es ⟨rfl, th_mk (th_bp_4 ht (by omega)) (by rw [th_bp_s t hj]; omega)⟩)⟩)) e4⟩)
  · exact th_x_bad1 hb _ _ (br_f (by decide) (th_y_bad1 hb _ _ (br_f (by decide) ⟨rfl, th_mk ht hS⟩)))
theorem i_vc_drop {k : Nat} {u : SX} {v : SY} (I : i_Rel k u v) (hk : k + 2 ≤ 1024) (v1 : Int32) : wpX_drop (fun r u' => wpY_drop (fun r' v' => r' = r ∧ i_Rel (k + 2) u' v') v v1) u v1 := by
  refine th_open (P := fun u v => wpX_drop (fun r u' => wpY_drop (fun r' v' => r' = r ∧ i_Rel (k + 2) u' v') v v1) u v1) ?_ I
  intro t fo la ke nx me ma nm ny md L F lv ch gs rs ht hS
  unfold wpX_drop wpY_drop
  dsimp only
  by_cases hb : ∃ j, j < 9 ∧ v1 = nI j
  · obtain ⟨j, hj, rfl⟩ := hb
    have htj := ht j hj
    have cl : (nI j).toNatClampNeg = j := nI_clamp (by omega)
    have vj : vp_in (nI j) 9 := vp_in_nI hj (by decide)
    have e4 : th_T t (nI j).toNatClampNeg = nI (t j) := by rw [cl]; rfl
    refine th_x_bad0 hj _ _ (br_t rfl ⟨vj, pk_eq (t j) 0 (fun h4 => ?_) (fun h4 => ⟨vj, vj, nm_r (th_X_dn hj (by omega) (by omega)) (nm_r (e' := nI (th_s (th_dn t j) 9)) ?_ ?_)⟩) e4⟩)
    · exact th_y_bad0 hj _ _ (br_t rfl ⟨vj, pk_eq (t j) 0 (fun _ => ⟨rfl, th_mk ht hS⟩) (fun h => absurd h4 h) e4⟩)
    · rw [th_dn_s hj (by omega), nI_pred]
    · have es : nI (th_s t 9) - 1 = nI (th_s (th_dn t j) 9) := by rw [th_dn_s hj (by omega), nI_pred]
      have sl := th_dn_s (t := t) hj (by omega)
      exact th_y_bad0 hj _ _ (br_t rfl ⟨vj, pk_eq (t j) 0 (fun h => absurd h h4) (fun _ => ⟨vj, vj, nm_r (th_Y_dn hj (by omega)) (nm_r es ⟨rfl, th_mk (th_dn_4 ht) (by omega)⟩)⟩) e4⟩)
  · exact th_x_bad1 hb _ _ (br_f (by decide) (th_y_bad1 hb _ _ (br_f (by decide) ⟨rfl, th_mk ht hS⟩)))
def th_sw (t : Nat → Nat) (i : Nat) : Nat → Nat := fun k => if k = i then t (6 - i) else if k = 6 - i then t i else t k
def th_tu (t : Nat → Nat) : Nat → Nat → Nat
  | 0 => t
  | i + 1 => th_sw (th_tu t i) i
theorem th_sw_s (t : Nat → Nat) {i : Nat} (hi : i < 3) : th_s (th_sw t i) 9 = th_s t 9 := by
  have h : i = 0 ∨ i = 1 ∨ i = 2 := by omega
  rcases h with rfl | rfl | rfl
  · simp [th_s, th_sw]
    omega
  · simp [th_s, th_sw]
    omega
  · simp [th_s, th_sw]
    omega
theorem th_sw_4 {t : Nat → Nat} (ht : ∀ k, k < 9 → t k ≤ 4) {i : Nat} (hi : i < 3) : ∀ k, k < 9 → th_sw t i k ≤ 4 := by
  intro k hk
  unfold th_sw
  split
  · exact ht _ (by omega)
  · split
    · exact ht _ (by omega)
    · exact ht _ hk
theorem th_tu_s (t : Nat → Nat) : ∀ i, i ≤ 3 → th_s (th_tu t i) 9 = th_s t 9
  | 0, _ => rfl
  | i + 1, h => by
    rw [th_tu, th_sw_s _ (by omega), th_tu_s t i (by omega)]
theorem th_tu_4 {t : Nat → Nat} (ht : ∀ k, k < 9 → t k ≤ 4) : ∀ i, i ≤ 3 → ∀ k, k < 9 → th_tu t i k ≤ 4
  | 0, _ => ht
  | i + 1, h => by
    rw [th_tu]
    exact th_sw_4 (th_tu_4 ht i (by omega)) (by omega)
theorem th_sw_T (t : Nat → Nat) {i : Nat} (hi : i < 3) : upd (upd (th_T t) i (nI (t (6 - i)))) (6 - i) (nI (t i)) = th_T (th_sw t i) := by
  funext k
  unfold upd th_T th_sw
  by_cases z : k = 6 - i
  · rw [if_pos z, if_neg (by omega), if_pos z]
  · rw [if_neg z]
    by_cases y : k = i
    · rw [if_pos y, if_pos y]
    · rw [if_neg y, if_neg y, if_neg z]
theorem i_vc_turn {k : Nat} {u : SX} {v : SY} (I : i_Rel k u v) (hk : k + 2 ≤ 1024) : wpX_turn (fun r u' => wpY_turn (fun r' v' => r' = r ∧ i_Rel (k + 2) u' v') v) u := by
  refine th_open (P := fun u v => wpX_turn (fun r u' => wpY_turn (fun r' v' => r' = r ∧ i_Rel (k + 2) u' v') v) u) ?_ I
  intro t fo la ke nx me ma nm ny md L F lv ch gs rs ht hS
  unfold wpX_turn wpY_turn
  dsimp only
  have c6 : ∀ i, i < 3 → (6 : Int32) - nI i = nI (6 - i) := fun i hi => pk_sub (a := 6) (by omega)
  refine loop_0 (fun n i (_ : Unit) => wX_turn_2 _ (nI (th_s t 9)) fo la n (nI i) (th_T (th_tu t i)) ke nx me ma nm ny md) (fun _ _ => True) 3 () True.intro (fun n _ _ => ?_) (fun n i _ hi _ K => ?_)
  · rw [wX_turn_2]
    refine br_t (by decide) ?_
    refine loop_0 (fun n i (_ : Unit) => wY_turn_2 _ (nI (th_s t 9)) L F lv n (nI i) (th_T (th_tu t i)) ch gs rs) (fun _ _ => True) 3 () True.intro (fun n _ _ => ?_) (fun n i _ hi _ K => ?_)
    · rw [wY_turn_2]
      refine br_t (by decide) ⟨rfl, ?_⟩
      rw [← th_tu_s t 3 (Nat.le_refl _)]
      exact th_mk (th_tu_4 ht 3 (Nat.le_refl _)) (by rw [th_tu_s t 3 (Nat.le_refl _)]; exact hS)
    · have ci : (nI i).toNatClampNeg = i := nI_clamp (by omega)
      have cj : (nI (6 - i)).toNatClampNeg = 6 - i := nI_clamp (by omega)
      have vi : vp_in (nI i) 9 := vp_in_nI (by omega) (by decide)
      have vj : vp_in (nI (6 - i)) 9 := vp_in_nI (by omega) (by decide)
      rw [wY_turn_2]
      dsimp only
      rw [c6 i hi, ci, cj]
      refine pk_le 3 i (fun h => by omega) (fun _ => ⟨vi, nm_e ⟨vj, vi, nm_e ⟨vj, nm_r (th_sw_T (th_tu t i) hi) (nm_r (nI_1 i) (K () True.intro))⟩⟩⟩)
  · have ci : (nI i).toNatClampNeg = i := nI_clamp (by omega)
    have cj : (nI (6 - i)).toNatClampNeg = 6 - i := nI_clamp (by omega)
    have vi : vp_in (nI i) 9 := vp_in_nI (by omega) (by decide)
    have vj : vp_in (nI (6 - i)) 9 := vp_in_nI (by omega) (by decide)
    have b1 := th_tu_4 ht i (by omega) i (by omega)
    have b2 := th_tu_4 ht i (by omega) (6 - i) (by omega)
    have n1 : vp_nar .byte (th_T (th_tu t i) i) = nI (th_tu t i i) := th_by1 _ (by omega)
    have n2 : vp_nar .byte (th_T (th_tu t i) (6 - i)) = nI (th_tu t i (6 - i)) := th_by1 _ (by omega)
    rw [wX_turn_2]
    dsimp only
    rw [c6 i hi, ci, cj, n2]
    refine pk_le 3 i (fun h => by omega) (fun _ => ⟨vi, nm_e ⟨vj, vi, nm_e ⟨vj, nm_r (e' := th_T (th_sw (th_tu t i) i)) ?_ (nm_r (nI_1 i) (K () True.intro))⟩⟩⟩)
    rw [n1]
    exact th_sw_T (th_tu t i) hi
def th_cl (t : Nat → Nat) (i : Nat) : Nat → Nat := fun k => if k < i then 0 else t k
theorem th_cl_T (t : Nat → Nat) (i : Nat) : upd (th_T (th_cl t i)) i (nI 0) = th_T (th_cl t (i + 1)) := by
  funext k
  unfold upd th_T th_cl
  by_cases z : k = i
  · rw [if_pos z, if_pos (by omega)]
  · rw [if_neg z]
    by_cases y : k < i
    · rw [if_pos y, if_pos (by omega)]
    · rw [if_neg y, if_neg (by omega)]
theorem i_vc_clear {k : Nat} {u : SX} {v : SY} (I : i_Rel k u v) (hk : k + 2 ≤ 1024) : wpX_clear (fun r u' => wpY_clear (fun r' v' => r' = r ∧ i_Rel (k + 2) u' v') v) u := by
  refine th_open (P := fun u v => wpX_clear (fun r u' => wpY_clear (fun r' v' => r' = r ∧ i_Rel (k + 2) u' v') v) u) ?_ I
  intro t fo la ke nx me ma nm ny md L F lv ch gs rs ht hS
  unfold wpX_clear wpY_clear
  dsimp only
  have z9 : th_s (th_cl t 9) 9 = 0 := th_s_zero 9 (fun k hk => if_pos hk)
  refine loop_0 (fun n i (_ : Unit) => wX_clear_7 _ (nI (th_s t 9)) (nI (th_s t 9)) fo la n (nI i) (th_T (th_cl t i)) ke nx me ma nm ny md) (fun _ _ => True) 9 () True.intro (fun n _ _ => ?_) (fun n i _ hi _ K => ?_)
  · rw [wX_clear_7]
    refine br_t (by decide) ?_
    refine loop_0 (fun n i (_ : Unit) => wY_clear_7 _ (nI (th_s t 9)) (nI (th_s t 9)) L F lv n (nI i) (th_T (th_cl t i)) ch gs rs) (fun _ _ => True) 9 () True.intro (fun n _ _ => ?_) (fun n i _ hi _ K => ?_)
    · rw [wY_clear_7]
      refine br_t (by decide) ⟨rfl, th_cl t 9, fun k hk => ?_, by rw [z9]; decide, ⟨?_, rfl⟩, ⟨?_, rfl⟩⟩
      · have e : th_cl t 9 k = 0 := if_pos hk
        rw [e]
        decide
      · rw [z9]
        rfl
      · rw [z9]
        rfl
    · have ci : (nI i).toNatClampNeg = i := nI_clamp (by omega)
      rw [wY_clear_7]
      dsimp only
      rw [ci]
      exact pk_le 9 i (fun h => by omega) (fun _ => ⟨vp_in_nI hi (by decide), nm_r (th_cl_T t i) (nm_r (nI_1 i) (K () True.intro))⟩)
  · have ci : (nI i).toNatClampNeg = i := nI_clamp (by omega)
    have n0 : vp_nar .byte 0 = nI 0 := th_by1 0 (by decide)
    rw [wX_clear_7]
    dsimp only
    rw [ci, n0]
    exact pk_le 9 i (fun h => by omega) (fun _ => ⟨vp_in_nI hi (by decide), nm_r (th_cl_T t i) (nm_r (nI_1 i) (K () True.intro))⟩)
theorem i_vc_size {k : Nat} {u : SX} {v : SY} (I : i_Rel k u v) (hk : k + 2 ≤ 1024) : wpX_size (fun r => wpY_size (fun r' => r' = r ∧ i_Rel (k + 2) u v) v) u := by
  refine th_open (P := fun u v => wpX_size (fun r => wpY_size (fun r' => r' = r ∧ i_Rel (k + 2) u v) v) u) ?_ I
  intro t fo la ke nx me ma nm ny md L F lv ch gs rs ht hS
  exact ⟨rfl, th_mk ht hS⟩
theorem i_vc_have {k : Nat} {u : SX} {v : SY} (I : i_Rel k u v) (hk : k + 2 ≤ 1024) (v1 : Int32) : wpX_have (fun r => wpY_have (fun r' => r' = r ∧ i_Rel (k + 2) u v) v v1) u v1 := by
  refine th_open (P := fun u v => wpX_have (fun r => wpY_have (fun r' => r' = r ∧ i_Rel (k + 2) u v) v v1) u v1) ?_ I
  intro t fo la ke nx me ma nm ny md L F lv ch gs rs ht hS
  unfold wpX_have wpY_have
  dsimp only
  by_cases hb : ∃ j, j < 9 ∧ v1 = nI j
  · obtain ⟨j, hj, rfl⟩ := hb
    have vj : vp_in (nI j) 9 := vp_in_nI hj (by decide)
    exact th_x_bad0 hj _ _ (br_t rfl ⟨vj, th_y_bad0 hj _ _ (br_t rfl ⟨vj, rfl, th_mk ht hS⟩)⟩)
  · exact th_x_bad1 hb _ _ (br_f (by decide) (th_y_bad1 hb _ _ (br_f (by decide) ⟨rfl, th_mk ht hS⟩)))
theorem i_vc_distance {k : Nat} {u : SX} {v : SY} (I : i_Rel k u v) (hk : k + 2 ≤ 1024) : wpX_distance (fun r u' => wpY_distance (fun r' v' => r' = r ∧ i_Rel (k + 2) u' v') v) u := by
  refine th_open (P := fun u v => wpX_distance (fun r u' => wpY_distance (fun r' v' => r' = r ∧ i_Rel (k + 2) u' v') v) u) ?_ I
  intro t fo la ke nx me ma nm ny md L F lv ch gs rs ht hS
  unfold wpX_distance
  dsimp only
  refine th_x_find ht _ (fun ke' nx' => ?_)
  dsimp only
  exact th_y_dist ht _ (fun L F lv ch gs => ⟨rfl, th_mk ht hS⟩)
theorem i_vc_wanted {k : Nat} {u : SX} {v : SY} (I : i_Rel k u v) (hk : k + 2 ≤ 1024) : wpX_wanted (fun r u' => wpY_wanted (fun r' v' => r' = r ∧ i_Rel (k + 2) u' v') v) u := by
  refine th_open (P := fun u v => wpX_wanted (fun r u' => wpY_wanted (fun r' v' => r' = r ∧ i_Rel (k + 2) u' v') v) u) ?_ I
  intro t fo la ke nx me ma nm ny md L F lv ch gs rs ht hS
  have d := th_D_11 t
  unfold wpX_wanted
  dsimp only
  refine th_x_wanted ht _ (fun ke' nx' => ?_)
  dsimp only
  unfold wpY_wanted
  dsimp only
  refine th_y_dist ht _ (fun L F lv ch gs => ?_)
  dsimp only
  exact th_y_wf (by omega) ht _ (fun L F lv ch gs => ⟨rfl, th_mk ht hS⟩)
theorem i_vc_hope {k : Nat} {u : SX} {v : SY} (I : i_Rel k u v) (hk : k + 2 ≤ 1024) : wpX_hope (fun r u' => wpY_hope (fun r' v' => r' = r ∧ i_Rel (k + 2) u' v') v) u := by
  refine th_open (P := fun u v => wpX_hope (fun r u' => wpY_hope (fun r' v' => r' = r ∧ i_Rel (k + 2) u' v') v) u) ?_ I
  intro t fo la ke nx me ma nm ny md L F lv ch gs rs ht hS
  have d := th_D_11 t
  unfold wpX_hope
  dsimp only
  refine th_x_hope ht _ (fun ke' nx' => ?_)
  dsimp only
  unfold wpY_hope
  dsimp only
  refine th_y_dist ht _ (fun L F lv ch gs => ?_)
  dsimp only
  exact th_y_hf (by omega) ht _ (fun L F lv ch gs => ⟨rfl, th_mk ht hS⟩)
theorem i_vc_best {k : Nat} {u : SX} {v : SY} (I : i_Rel k u v) (hk : k + 2 ≤ 1024) : wpX_best (fun r u' => wpY_best (fun r' v' => r' = r ∧ i_Rel (k + 2) u' v') v) u := by
  refine th_open (P := fun u v => wpX_best (fun r u' => wpY_best (fun r' v' => r' = r ∧ i_Rel (k + 2) u' v') v) u) ?_ I
  intro t fo la ke nx me ma nm ny md L F lv ch gs rs ht hS
  have e : (th_bs t 12 9).2.2 = (th_bs t 1000 9).2.2 := by
    rcases th_bs_eq t 9 with ⟨a, b⟩ | a
    · rw [a, b]
    · rw [a]
  refine th_x_best ht _ (fun ke' nx' => ?_)
  exact th_y_best ht _ (fun L F lv ch gs => ⟨e, th_mk ht hS⟩)
theorem i_vc_groups {k : Nat} {u : SX} {v : SY} (I : i_Rel k u v) (hk : k + 2 ≤ 1024) : wpX_groups (fun r u' => wpY_groups (fun r' v' => r' = r ∧ i_Rel (k + 2) u' v') v) u := by
  refine th_open (P := fun u v => wpX_groups (fun r u' => wpY_groups (fun r' v' => r' = r ∧ i_Rel (k + 2) u' v') v) u) ?_ I
  intro t fo la ke nx me ma nm ny md L F lv ch gs rs ht hS
  refine th_x_groups (C := th_CN t false) ht (fun k s hk _ => th_CN_b t false hk s) (fun s _ => th_CN_0 t false s) (fun k hk j _ => th_CN_s t false (ht k hk) j) _ (fun ke' nx' => ?_)
  rw [th_gr_eq ht]
  exact th_y_groups ht _ (fun L F lv ch gs => ⟨rfl, th_mk ht hS⟩)
theorem i_vc_ways {k : Nat} {u : SX} {v : SY} (I : i_Rel k u v) (hk : k + 2 ≤ 1024) : wpX_ways (fun r u' => wpY_ways (fun r' v' => r' = r ∧ i_Rel (k + 2) u' v') v) u := by
  refine th_open (P := fun u v => wpX_ways (fun r u' => wpY_ways (fun r' v' => r' = r ∧ i_Rel (k + 2) u' v') v) u) ?_ I
  intro t fo la ke nx me ma nm ny md L F lv ch gs rs ht hS
  refine th_x_ways (C := th_CN t true) ht (fun k s hk _ => th_CN_b t true hk s) (fun s _ => th_CN_0 t true s) (fun k hk j _ => th_CN_s t true (ht k hk) j) _ (fun ke' nx' => ?_)
  rw [th_wy_eq ht hS]
  exact th_y_ways ht hS _ (fun L F lv ch gs => ⟨rfl, th_mk ht hS⟩)
theorem i_vc_completions {k : Nat} {u : SX} {v : SY} (I : i_Rel k u v) (hk : k + 2 ≤ 1024) : wpX_completions (fun r u' => wpY_completions (fun r' v' => r' = r ∧ i_Rel (k + 2) u' v') v) u := by
  refine th_open (P := fun u v => wpX_completions (fun r u' => wpY_completions (fun r' v' => r' = r ∧ i_Rel (k + 2) u' v') v) u) ?_ I
  intro t fo la ke nx me ma nm ny md L F lv ch gs rs ht hS
  refine th_x_comp ht _ (fun fo' la' me' ma' nm' ny' md' => ?_)
  rw [th_comp_eq]
  exact th_y_comp ht _ (fun L F lv ch gs rs => ⟨rfl, th_mk ht hS⟩)
end
