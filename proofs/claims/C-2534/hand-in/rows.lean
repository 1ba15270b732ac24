section
/-! pure rows to paste: stores, nI and lN arithmetic, masks, shifts, narrowing, branches by naturals (pk_le, pk_lt, pk_eq), loops (lp1 .. lp16: the measure of the state; rp1 ..: recursion), negatives. Take what you need -/
theorem pk_us {f : Nat → Int32} {k : Nat} {x : Int32} : upd f k x k = x := if_pos rfl
theorem pk_un {f : Nat → Int32} {k j : Nat} {x : Int32} (h : j ≠ k) : upd f k x j = f j := if_neg h
theorem pk_uLs {f : Nat → Int64} {k : Nat} {x : Int64} : vp_updL f k x k = x := if_pos rfl
theorem pk_uLn {f : Nat → Int64} {k j : Nat} {x : Int64} (h : j ≠ k) : vp_updL f k x j = f j := if_neg h
theorem pk_sub {a b : Nat} (h : b ≤ a) : nI a - nI b = nI (a - b) := by
  obtain ⟨c, rfl⟩ : ∃ c, a = c + b := ⟨a - b, by omega⟩
  rw [← nI_add, Int32.add_sub_cancel, Nat.add_sub_cancel]
theorem pk_m1 (n : Nat) : nI (n + 1) + (-1) = nI n := by
  rw [← nI_1, Int32.add_assoc, show (1 : Int32) + (-1) = 0 from rfl, Int32.add_zero]
theorem pk_mul (a b : Nat) : nI a * nI b = nI (a * b) := (Int32.ofNat_mul a b).symm
theorem pk_div {a d : Nat} (ha : a < 2 ^ 31) (h0 : 0 < d) (hd : d < 2 ^ 31) : nI a / nI d = nI (a / d) := by
  apply Int32.toInt_inj.mp
  rw [lg_idiv_nonneg (by rw [nI_toInt ha]; omega) (by rw [nI_toInt hd]; omega), nI_toInt ha, nI_toInt hd, nI_toInt (Nat.lt_of_le_of_lt (Nat.div_le_self a d) ha)]
  first | rfl | exact (Int.natCast_ediv _ _).symm
theorem pk_rem {a d : Nat} (ha : a < 2 ^ 31) (h0 : 0 < d) (hd : d < 2 ^ 31) : nI a - nI a / nI d * nI d = nI (a % d) := by
  rw [pk_div ha h0 hd, pk_mul, pk_sub (Nat.div_mul_le_self a d)]
  exact congrArg nI (by have := Nat.div_add_mod' a d; omega)
theorem pk_sub_toInt {a b : Nat} (ha : a < 2 ^ 30) (hb : b < 2 ^ 30) : (nI a - nI b).toInt = (a : Int) - b := by
  rw [Int32.toInt_sub, nI_toInt (by omega), nI_toInt (by omega)]
  exact Int.bmod_eq_of_le (by omega) (by omega)
theorem pk_sneg {a b : Nat} (hb : b < 2 ^ 30) (h : a < b) : nI a - nI b < 0 := by
  rw [Int32.lt_iff_toInt_lt, pk_sub_toInt (by omega) hb, show (0 : Int32).toInt = 0 from by decide]
  omega
theorem pk_ix (x : Int32) {n : Nat} (hn : n < 2 ^ 31) : x < 0 ∨ nI n ≤ x ∨ ∃ j : Nat, j < n ∧ x = nI j := by
  by_cases h : x < 0
  · exact Or.inl h
  · obtain ⟨j, hj, rfl⟩ := nI_of h
    by_cases h2 : j < n
    · exact Or.inr (Or.inr ⟨j, h2, rfl⟩)
    · exact Or.inr (Or.inl (nI_le (by omega) hj))
theorem pk_le {x y : Int32} {A B : Prop} (a b : Nat) (f : a ≤ b → A) (g : b < a → B) (hx : x = nI a := by rfl) (hy : y = nI b := by rfl) (ha : a < 2 ^ 31 := by omega) (hb : b < 2 ^ 31 := by omega) : (x ≤ y → A) ∧ (¬ x ≤ y → B) := by
  subst hx hy
  rw [nI_leI ha hb]
  exact ⟨f, fun z => g (by omega)⟩
theorem pk_lt {x y : Int32} {A B : Prop} (a b : Nat) (f : a < b → A) (g : b ≤ a → B) (hx : x = nI a := by rfl) (hy : y = nI b := by rfl) (ha : a < 2 ^ 31 := by omega) (hb : b < 2 ^ 31 := by omega) : (x < y → A) ∧ (¬ x < y → B) := by
  subst hx hy
  rw [nI_ltI ha hb]
  exact ⟨f, fun z => g (by omega)⟩
theorem pk_eq {x y : Int32} {A B : Prop} (a b : Nat) (f : a = b → A) (g : a ≠ b → B) (hx : x = nI a := by rfl) (hy : y = nI b := by rfl) (ha : a < 2 ^ 31 := by omega) (hb : b < 2 ^ 31 := by omega) : (x = y → A) ∧ (¬ x = y → B) := by
  subst hx hy
  rw [nI_eq ha hb]
  exact ⟨f, g⟩
theorem pk_in {x : Int32} (n N : Nat) (h : n < N) (hx : x = nI n := by rfl) (hN : N < 2 ^ 31 := by omega) : vp_in x N := by
  subst hx
  exact vp_in_nI h hN
theorem pk_cl {x : Int32} (n : Nat) (hx : x = nI n := by rfl) (h : n < 2 ^ 31 := by omega) : x.toNatClampNeg = n := by
  subst hx
  exact nI_clamp h
theorem pk_tn {n : Nat} (h : n < 2 ^ 32) : (nI n).toBitVec.toNat = n := Nat.mod_eq_of_lt h
theorem pk_and (x : Int32) {m : Int32} (k : Nat) (hm : m.toBitVec.toNat = 2 ^ k - 1) : x &&& m = nI (x.toBitVec.toNat % 2 ^ k) := by
  apply Int32.toBitVec_inj.mp
  apply BitVec.eq_of_toNat_eq
  rw [Int32.toBitVec_and, BitVec.toNat_and, hm, Nat.and_two_pow_sub_one_eq_mod]
  show _ = (BitVec.ofNat 32 _).toNat
  rw [BitVec.toNat_ofNat]
  exact (Nat.mod_eq_of_lt (Nat.lt_of_le_of_lt (Nat.mod_le _ _) x.toBitVec.isLt)).symm
theorem pk_andN {n : Nat} (h : n < 2 ^ 32) {m : Int32} (k : Nat) (hm : m.toBitVec.toNat = 2 ^ k - 1) : nI n &&& m = nI (n % 2 ^ k) := by
  rw [pk_and _ k hm, pk_tn h]
theorem pk_andE (x : Int32) {m : Int32} (k : Nat) (hm : m.toBitVec.toNat = 2 ^ k - 1) : ∃ j : Nat, j < 2 ^ k ∧ x &&& m = nI j := ⟨_, Nat.mod_lt _ (Nat.two_pow_pos k), pk_and x k hm⟩
theorem pk_andIn (x : Int32) {m : Int32} (k : Nat) (hm : m.toBitVec.toNat = 2 ^ k - 1) (hk : k ≤ 30) : vp_in (x &&& m) (2 ^ k) := by
  obtain ⟨j, hj, e⟩ := pk_andE x k hm
  rw [e]
  exact vp_in_nI hj (Nat.lt_of_le_of_lt (Nat.pow_le_pow_right (by decide) hk) (by decide))
theorem pk_shl (a s : Int32) (k : Nat) (hs : (s.toBitVec.smod 32).toNat = k) : (a <<< s).toBitVec.toNat = a.toBitVec.toNat * 2 ^ k % 2 ^ 32 := by
  show (a.toBitVec <<< (s.toBitVec.smod 32).toNat).toNat = _
  rw [hs, BitVec.toNat_shiftLeft, Nat.shiftLeft_eq]
theorem pk_shlN {n : Nat} (s : Int32) (k : Nat) (hs : (s.toBitVec.smod 32).toNat = k) (h : n * 2 ^ k < 2 ^ 32) : nI n <<< s = nI (n * 2 ^ k) := by
  apply Int32.toBitVec_inj.mp
  apply BitVec.eq_of_toNat_eq
  have hn : n < 2 ^ 32 := Nat.lt_of_le_of_lt (Nat.le_mul_of_pos_right n (Nat.two_pow_pos k)) h
  rw [pk_shl _ _ k hs, pk_tn hn, pk_tn h, Nat.mod_eq_of_lt h]
theorem pk_shr (a s : Int32) (k : Nat) (hs : (s.toBitVec.smod 32).toNat = k) : (a >>> s).toInt = a.toInt >>> k := by
  show (a.toBitVec.sshiftRight (s.toBitVec.smod 32).toNat).toInt = _
  rw [hs, BitVec.toInt_sshiftRight]
  rfl
theorem pk_shrN {n : Nat} (h : n < 2 ^ 31) (s : Int32) (k : Nat) (hs : (s.toBitVec.smod 32).toNat = k) : nI n >>> s = nI (n / 2 ^ k) := by
  apply Int32.toInt_inj.mp
  have h2 : n / 2 ^ k ≤ n := Nat.div_le_self _ _
  rw [pk_shr _ _ k hs, nI_toInt h, nI_toInt (by omega), Int.shiftRight_eq_div_pow]
  rfl
theorem pk_ushr (x s : Int32) (k : Nat) (hs : ((s.toUInt32 &&& Int32.toUInt32 31).toBitVec % 32).toNat = k) : (x.toUInt32 >>> (s.toUInt32 &&& Int32.toUInt32 31)).toInt32.toBitVec.toNat = x.toBitVec.toNat / 2 ^ k := by
  have e : (x.toUInt32 >>> (s.toUInt32 &&& Int32.toUInt32 31)).toInt32.toBitVec = x.toBitVec >>> k := by
    rw [← hs]
    exact UInt32.toBitVec_shiftRight _ _
  rw [e, BitVec.toNat_ushiftRight, Nat.shiftRight_eq_div_pow]
theorem pk_ushrN {n : Nat} (hn : n < 2 ^ 32) (s : Int32) (k : Nat) (hs : ((s.toUInt32 &&& Int32.toUInt32 31).toBitVec % 32).toNat = k) : ((nI n).toUInt32 >>> (s.toUInt32 &&& Int32.toUInt32 31)).toInt32 = nI (n / 2 ^ k) := by
  apply Int32.toBitVec_inj.mp
  apply BitVec.eq_of_toNat_eq
  rw [pk_ushr _ s k hs, pk_tn hn, pk_tn (Nat.lt_of_le_of_lt (Nat.div_le_self _ _) hn)]
theorem pk_nb (z : Int32) : narrow .byte (.int z.toInt8.toInt32) = .int z.toInt8.toInt32 := congrArg Value.int (by simp)
theorem pk_ns (z : Int32) : narrow .short (.int z.toInt16.toInt32) = .int z.toInt16.toInt32 := congrArg Value.int (by simp)
theorem pk_fb (r : Int32) : fits .byte (.int r.toInt8.toInt32) = true := by
  have ⟨a, b⟩ := lg_i2b_range r
  have h1 : (-128 : Int32).toInt = -128 := by decide
  have h2 : (127 : Int32).toInt = 127 := by decide
  simp only [fits, Bool.and_eq_true, decide_eq_true_eq, Int32.le_iff_toInt_le, h1, h2]
  omega
theorem pk_fs (r : Int32) : fits .short (.int r.toInt16.toInt32) = true := by
  have ⟨a, b⟩ := lg_i2s_range r
  have h1 : (-32768 : Int32).toInt = -32768 := by decide
  have h2 : (32767 : Int32).toInt = 32767 := by decide
  simp only [fits, Bool.and_eq_true, decide_eq_true_eq, Int32.le_iff_toInt_le, h1, h2]
  omega
theorem pk_charN {q : Nat} (hq : q < 65536) : narrow .char (.int (nI q)) = .int (nI q) ∧ fits .char (.int (nI q)) = true := by
  constructor
  · have e : (nI q).toUInt32.toUInt16.toUInt32.toInt32 = nI q := by
      apply Int32.toBitVec_inj.mp
      apply BitVec.eq_of_toNat_eq
      show (nI q).toUInt32.toUInt16.toUInt32.toNat = q % 2 ^ 32
      rw [UInt16.toNat_toUInt32, UInt32.toNat_toUInt16, show (nI q).toUInt32.toNat = q % 2 ^ 32 from rfl]
      omega
    exact congrArg Value.int e
  · have a : (0 : Int32) ≤ nI q := nI_pos' (by omega)
    have b : nI q ≤ 65535 := nI_le (b := 65535) (by omega) (by decide)
    show (decide ((0 : Int32) ≤ nI q) && decide (nI q ≤ 65535)) = true
    rw [decide_eq_true a, decide_eq_true b]
    rfl
theorem pk_char (x : Int32) : (x.toUInt32 % 65536).toInt32 = nI (x.toBitVec.toNat % 65536) := by
  apply Int32.toBitVec_inj.mp
  apply BitVec.eq_of_toNat_eq
  rw [pk_tn (by omega)]
  show (x.toUInt32 % 65536).toNat = _
  rw [UInt32.toNat_mod]
  rfl
theorem pk_nc (x : Int32) : narrow .char (.int (x.toUInt32 % 65536).toInt32) = .int (x.toUInt32 % 65536).toInt32 := by
  rw [pk_char]
  exact (pk_charN (Nat.mod_lt _ (by decide))).1
theorem pk_fc (x : Int32) : fits .char (.int (x.toUInt32 % 65536).toInt32) = true := by
  rw [pk_char]
  exact (pk_charN (Nat.mod_lt _ (by decide))).2
theorem pk_vb (z : Int32) : vp_nar .byte z.toInt8.toInt32 = z.toInt8.toInt32 := by rw [vp_nar_byte]; simp
theorem pk_vs (z : Int32) : vp_nar .short z.toInt16.toInt32 = z.toInt16.toInt32 := by rw [vp_nar_short]; simp
theorem pk_vc (z : Int32) : vp_nar .char (z.toUInt32 % 65536).toInt32 = (z.toUInt32 % 65536).toInt32 := Value.int.inj (pk_nc z)
theorem pk_lT {n : Nat} (h : n < 2 ^ 63) : (lN n).toInt = (n : Int) := lg_ofNat_toInt h
theorem pk_lLT {a b : Nat} (ha : a < 2 ^ 63) (hb : b < 2 ^ 63) : lN a < lN b ↔ a < b := by
  rw [Int64.lt_iff_toInt_lt, pk_lT ha, pk_lT hb]; omega
theorem pk_lLE {a b : Nat} (ha : a < 2 ^ 63) (hb : b < 2 ^ 63) : lN a ≤ lN b ↔ a ≤ b := by
  rw [Int64.le_iff_toInt_le, pk_lT ha, pk_lT hb]; omega
theorem pk_lEQ {a b : Nat} (ha : a < 2 ^ 63) (hb : b < 2 ^ 63) : lN a = lN b ↔ a = b := by
  rw [← Int64.toInt_inj, pk_lT ha, pk_lT hb]; omega
theorem pk_lOf {x : Int64} (h : ¬ x < 0) : ∃ k : Nat, k < 2 ^ 63 ∧ x = lN k := by
  rw [Int64.lt_iff_toInt_lt] at h
  have h0 : (0 : Int64).toInt = 0 := by decide
  have hx := Int64.toInt_lt x
  refine ⟨x.toInt.toNat, by omega, Int64.toInt_inj.mp ?_⟩
  rw [pk_lT (by omega)]
  omega
theorem pk_lDiv {a b : Nat} (ha : a < 2 ^ 63) (h0 : 0 < b) (hb : b < 2 ^ 63) : lN a / lN b = lN (a / b) := by
  apply Int64.toInt_inj.mp
  rw [lg_ldiv_nonneg (by rw [pk_lT ha]; omega) (by rw [pk_lT hb]; omega), pk_lT ha, pk_lT hb, pk_lT (Nat.lt_of_le_of_lt (Nat.div_le_self a b) ha)]
  rfl
theorem pk_lRem {a b : Nat} (ha : a < 2 ^ 63) (h0 : 0 < b) (hb : b < 2 ^ 63) : lN a - lN a / lN b * lN b = lN (a % b) := by
  rw [pk_lDiv ha h0 hb, lN_mul, lN_sub (Nat.div_mul_le_self a b)]
  exact congrArg lN (by have := Nat.div_add_mod' a b; omega)
theorem pk_loop {σ : Type} (W : Nat → Nat → σ → Prop) (I : Nat → σ → Prop) (e i0 : Nat) (s : σ) (hi : i0 ≤ e) (h0 : I i0 s) (hx : ∀ n s, I e s → W (n + 1) e s)
    (hs : ∀ n i s, i < e → I i s → (∀ s', I (i + 1) s' → W n (i + 1) s') → W (n + 1) i s) : ∃ n, W n i0 s :=
  ⟨e + 1, loop_i W I e hx hs (e + 1) i0 s hi (by omega) h0⟩
theorem pk_loopD {σ : Type} (W : Nat → Nat → σ → Prop) (I : Nat → σ → Prop) (hx : ∀ n s, I 0 s → W (n + 1) 0 s)
    (hs : ∀ n i s, I (i + 1) s → (∀ s', I i s' → W n i s') → W (n + 1) (i + 1) s) : ∀ (e : Nat) (s : σ), I e s → W (e + 1) e s := by
  intro e
  induction e with
  | zero => exact fun s h => hx 0 s h
  | succ e ih => exact fun s h => hs (e + 1) e s h (fun s' h' => ih s' h')
theorem pk_least (P : Nat → Prop) (h : ∃ k, P k) : ∃ k, P k ∧ ∀ j, j < k → ¬ P j := by
  obtain ⟨k, hk⟩ := h
  induction k using Nat.strongRecOn with
  | ind k ih =>
    by_cases e : ∃ j, j < k ∧ P j
    · obtain ⟨j, hj, pj⟩ := e
      exact ih j hj pj
    · exact ⟨k, hk, fun j hj pj => e ⟨j, hj, pj⟩⟩
end
section
/-! determinants over Int: the stages of fraction-free elimination, their law, bounds and signs -/
def mz_2 (a b c d : Int) : Int := a * d - b * c
def mz_3 (a b c d e f g h i : Int) : Int := a * (e * i - f * h) - b * (d * i - f * g) + c * (d * h - e * g)
def mz_4 (a0 a1 a2 a3 b0 b1 b2 b3 c0 c1 c2 c3 d0 d1 d2 d3 : Int) : Int :=
  a0 * mz_3 b1 b2 b3 c1 c2 c3 d1 d2 d3 - a1 * mz_3 b0 b2 b3 c0 c2 c3 d0 d2 d3 + a2 * mz_3 b0 b1 b3 c0 c1 c3 d0 d1 d3 - a3 * mz_3 b0 b1 b2 c0 c1 c2 d0 d1 d2
theorem mz_i10 (a b x c d y : Int) : x * mz_2 a b c d - b * mz_2 a x c y = a * mz_2 x b y d := by
  unfold mz_2; grind
theorem mz_i12 (a b x c d y e f z : Int) : mz_2 a x e z * mz_2 a b c d - mz_2 a b e f * mz_2 a x c y = a * mz_3 a b x c d y e f z := by
  unfold mz_2 mz_3; grind
theorem mz_i20 (a b c x d e f y g h i z : Int) : mz_2 x b y e * mz_3 a b c d e f g h i - mz_2 c b f e * mz_3 a b x d e y g h z = mz_2 a b d e * mz_3 x b c y e f z h i := by
  unfold mz_2 mz_3; grind
theorem mz_i21 (a b c x d e f y g h i z : Int) : mz_2 a x d y * mz_3 a b c d e f g h i - mz_2 a c d f * mz_3 a b x d e y g h z = mz_2 a b d e * mz_3 a x c d y f g z i := by
  unfold mz_2 mz_3; grind
theorem mz_i23 (a0 a1 a2 x0 b0 b1 b2 x1 c0 c1 c2 x2 d0 d1 d2 x3 : Int) : mz_3 a0 a1 x0 b0 b1 x1 d0 d1 x3 * mz_3 a0 a1 a2 b0 b1 b2 c0 c1 c2 - mz_3 a0 a1 a2 b0 b1 b2 d0 d1 d2 * mz_3 a0 a1 x0 b0 b1 x1 c0 c1 x2 = mz_2 a0 a1 b0 b1 * mz_4 a0 a1 a2 x0 b0 b1 b2 x1 c0 c1 c2 x2 d0 d1 d2 x3 := by
  unfold mz_4 mz_2 mz_3; grind
theorem mz_i30 (a0 a1 a2 a3 x0 b0 b1 b2 b3 x1 c0 c1 c2 c3 x2 d0 d1 d2 d3 x3 : Int) : mz_3 x0 a1 a2 x1 b1 b2 x2 c1 c2 * mz_4 a0 a1 a2 a3 b0 b1 b2 b3 c0 c1 c2 c3 d0 d1 d2 d3 - mz_3 a3 a1 a2 b3 b1 b2 c3 c1 c2 * mz_4 a0 a1 a2 x0 b0 b1 b2 x1 c0 c1 c2 x2 d0 d1 d2 x3 = mz_3 a0 a1 a2 b0 b1 b2 c0 c1 c2 * mz_4 x0 a1 a2 a3 x1 b1 b2 b3 x2 c1 c2 c3 x3 d1 d2 d3 := by
  unfold mz_4 mz_3; grind
theorem mz_i31 (a0 a1 a2 a3 x0 b0 b1 b2 b3 x1 c0 c1 c2 c3 x2 d0 d1 d2 d3 x3 : Int) : mz_3 a0 x0 a2 b0 x1 b2 c0 x2 c2 * mz_4 a0 a1 a2 a3 b0 b1 b2 b3 c0 c1 c2 c3 d0 d1 d2 d3 - mz_3 a0 a3 a2 b0 b3 b2 c0 c3 c2 * mz_4 a0 a1 a2 x0 b0 b1 b2 x1 c0 c1 c2 x2 d0 d1 d2 x3 = mz_3 a0 a1 a2 b0 b1 b2 c0 c1 c2 * mz_4 a0 x0 a2 a3 b0 x1 b2 b3 c0 x2 c2 c3 d0 x3 d2 d3 := by
  unfold mz_4 mz_3; grind
theorem mz_i32 (a0 a1 a2 a3 x0 b0 b1 b2 b3 x1 c0 c1 c2 c3 x2 d0 d1 d2 d3 x3 : Int) : mz_3 a0 a1 x0 b0 b1 x1 c0 c1 x2 * mz_4 a0 a1 a2 a3 b0 b1 b2 b3 c0 c1 c2 c3 d0 d1 d2 d3 - mz_3 a0 a1 a3 b0 b1 b3 c0 c1 c3 * mz_4 a0 a1 a2 x0 b0 b1 b2 x1 c0 c1 c2 x2 d0 d1 d2 x3 = mz_3 a0 a1 a2 b0 b1 b2 c0 c1 c2 * mz_4 a0 a1 x0 a3 b0 b1 x1 b3 c0 c1 x2 c3 d0 d1 x3 d3 := by
  unfold mz_4 mz_3; grind
theorem mz_c0 (a0 a1 a2 a3 x0 b0 b1 b2 b3 x1 c0 c1 c2 c3 x2 d0 d1 d2 d3 x3 : Int) : a0 * mz_4 x0 a1 a2 a3 x1 b1 b2 b3 x2 c1 c2 c3 x3 d1 d2 d3 + a1 * mz_4 a0 x0 a2 a3 b0 x1 b2 b3 c0 x2 c2 c3 d0 x3 d2 d3 + a2 * mz_4 a0 a1 x0 a3 b0 b1 x1 b3 c0 c1 x2 c3 d0 d1 x3 d3 + a3 * mz_4 a0 a1 a2 x0 b0 b1 b2 x1 c0 c1 c2 x2 d0 d1 d2 x3 = x0 * mz_4 a0 a1 a2 a3 b0 b1 b2 b3 c0 c1 c2 c3 d0 d1 d2 d3 := by
  unfold mz_4 mz_3; grind
theorem mz_c1 (a0 a1 a2 a3 x0 b0 b1 b2 b3 x1 c0 c1 c2 c3 x2 d0 d1 d2 d3 x3 : Int) : b0 * mz_4 x0 a1 a2 a3 x1 b1 b2 b3 x2 c1 c2 c3 x3 d1 d2 d3 + b1 * mz_4 a0 x0 a2 a3 b0 x1 b2 b3 c0 x2 c2 c3 d0 x3 d2 d3 + b2 * mz_4 a0 a1 x0 a3 b0 b1 x1 b3 c0 c1 x2 c3 d0 d1 x3 d3 + b3 * mz_4 a0 a1 a2 x0 b0 b1 b2 x1 c0 c1 c2 x2 d0 d1 d2 x3 = x1 * mz_4 a0 a1 a2 a3 b0 b1 b2 b3 c0 c1 c2 c3 d0 d1 d2 d3 := by
  unfold mz_4 mz_3; grind
theorem mz_c2 (a0 a1 a2 a3 x0 b0 b1 b2 b3 x1 c0 c1 c2 c3 x2 d0 d1 d2 d3 x3 : Int) : c0 * mz_4 x0 a1 a2 a3 x1 b1 b2 b3 x2 c1 c2 c3 x3 d1 d2 d3 + c1 * mz_4 a0 x0 a2 a3 b0 x1 b2 b3 c0 x2 c2 c3 d0 x3 d2 d3 + c2 * mz_4 a0 a1 x0 a3 b0 b1 x1 b3 c0 c1 x2 c3 d0 d1 x3 d3 + c3 * mz_4 a0 a1 a2 x0 b0 b1 b2 x1 c0 c1 c2 x2 d0 d1 d2 x3 = x2 * mz_4 a0 a1 a2 a3 b0 b1 b2 b3 c0 c1 c2 c3 d0 d1 d2 d3 := by
  unfold mz_4 mz_3; grind
theorem mz_c3 (a0 a1 a2 a3 x0 b0 b1 b2 b3 x1 c0 c1 c2 c3 x2 d0 d1 d2 d3 x3 : Int) : d0 * mz_4 x0 a1 a2 a3 x1 b1 b2 b3 x2 c1 c2 c3 x3 d1 d2 d3 + d1 * mz_4 a0 x0 a2 a3 b0 x1 b2 b3 c0 x2 c2 c3 d0 x3 d2 d3 + d2 * mz_4 a0 a1 x0 a3 b0 b1 x1 b3 c0 c1 x2 c3 d0 d1 x3 d3 + d3 * mz_4 a0 a1 a2 x0 b0 b1 b2 x1 c0 c1 c2 x2 d0 d1 d2 x3 = x3 * mz_4 a0 a1 a2 a3 b0 b1 b2 b3 c0 c1 c2 c3 d0 d1 d2 d3 := by
  unfold mz_4 mz_3; grind
end
section
/-! the stages of the elimination of a 4 x 5 matrix M (cell r, c at 5 r + c) -/
def mz_D2 (M : Nat → Int) (r a b : Nat) : Int := mz_2 (M a) (M b) (M (5 * r + a)) (M (5 * r + b))
def mz_D3 (M : Nat → Int) (r a b c : Nat) : Int := mz_3 (M a) (M b) (M c) (M (5 + a)) (M (5 + b)) (M (5 + c)) (M (5 * r + a)) (M (5 * r + b)) (M (5 * r + c))
def mz_D4 (M : Nat → Int) (a b c d : Nat) : Int := mz_4 (M a) (M b) (M c) (M d) (M (5 + a)) (M (5 + b)) (M (5 + c)) (M (5 + d)) (M (10 + a)) (M (10 + b)) (M (10 + c)) (M (10 + d)) (M (15 + a)) (M (15 + b)) (M (15 + c)) (M (15 + d))
def mz_st (M : Nat → Int) : Nat → Nat → Nat → Int
  | 0, r, c => M (5 * r + c)
  | 1, 0, c => M c
  | 1, r, c => mz_D2 M r 0 c
  | 2, 0, c => mz_D2 M 1 c 1
  | 2, 1, c => mz_D2 M 1 0 c
  | 2, r, c => mz_D3 M r 0 1 c
  | 3, 0, c => mz_D3 M 2 c 1 2
  | 3, 1, c => mz_D3 M 2 0 c 2
  | 3, 2, c => mz_D3 M 2 0 1 c
  | 3, _, c => mz_D4 M 0 1 2 c
  | _, 0, c => mz_D4 M c 1 2 3
  | _, 1, c => mz_D4 M 0 c 2 3
  | _, 2, c => mz_D4 M 0 1 c 3
  | _, _, c => mz_D4 M 0 1 2 c
def mz_bf (M : Nat → Int) : Nat → Int
  | 0 => 1
  | 1 => M 0
  | 2 => mz_D2 M 1 0 1
  | 3 => mz_D3 M 2 0 1 2
  | _ => mz_D4 M 0 1 2 3
theorem mz_lt4 {P : Nat → Prop} (h0 : P 0) (h1 : P 1) (h2 : P 2) (h3 : P 3) : ∀ i, i < 4 → P i := by
  intro i hi
  match i, hi with
  | 0, _ => exact h0
  | 1, _ => exact h1
  | 2, _ => exact h2
  | 3, _ => exact h3
theorem mz_h2 (M : Nat → Int) (c : Nat) : ∀ k, k < 4 → mz_st M (k + 1) k c = mz_st M k k c := by
  apply mz_lt4
  · show M c = M (5 * 0 + c)
    rw [Nat.mul_zero, Nat.zero_add]
  · rfl
  · rfl
  · rfl
theorem mz_h4 (M : Nat → Int) : ∀ k, k < 4 → mz_bf M (k + 1) = mz_st M (k + 1) k k := by
  apply mz_lt4 <;> rfl
theorem mz_h1 (M : Nat → Int) (c : Nat) : ∀ k, k < 4 → ∀ r, r < 4 → r ≠ k → mz_st M k r c * mz_st M k k k - mz_st M k r k * mz_st M k k c = mz_bf M k * mz_st M (k + 1) r c := by
  have e0 : 5 * 0 + c = c := by omega
  apply mz_lt4
  · apply mz_lt4
    · intro h; exact absurd rfl h
    all_goals
      intro _
      simp only [mz_st, mz_bf, mz_D2, mz_2, e0, Nat.mul_zero, Nat.add_zero]
      grind
  · apply mz_lt4
    · intro _
      exact mz_i10 (M 0) (M 1) (M c) (M 5) (M 6) (M (5 + c))
    · intro h; exact absurd rfl h
    · intro _
      exact mz_i12 (M 0) (M 1) (M c) (M 5) (M 6) (M (5 + c)) (M 10) (M 11) (M (10 + c))
    · intro _
      exact mz_i12 (M 0) (M 1) (M c) (M 5) (M 6) (M (5 + c)) (M 15) (M 16) (M (15 + c))
  · apply mz_lt4
    · intro _
      exact mz_i20 (M 0) (M 1) (M 2) (M c) (M 5) (M 6) (M 7) (M (5 + c)) (M 10) (M 11) (M 12) (M (10 + c))
    · intro _
      exact mz_i21 (M 0) (M 1) (M 2) (M c) (M 5) (M 6) (M 7) (M (5 + c)) (M 10) (M 11) (M 12) (M (10 + c))
    · intro h; exact absurd rfl h
    · intro _
      exact mz_i23 (M 0) (M 1) (M 2) (M c) (M 5) (M 6) (M 7) (M (5 + c)) (M 10) (M 11) (M 12) (M (10 + c)) (M 15) (M 16) (M 17) (M (15 + c))
  · apply mz_lt4
    · intro _
      exact mz_i30 (M 0) (M 1) (M 2) (M 3) (M c) (M 5) (M 6) (M 7) (M 8) (M (5 + c)) (M 10) (M 11) (M 12) (M 13) (M (10 + c)) (M 15) (M 16) (M 17) (M 18) (M (15 + c))
    · intro _
      exact mz_i31 (M 0) (M 1) (M 2) (M 3) (M c) (M 5) (M 6) (M 7) (M 8) (M (5 + c)) (M 10) (M 11) (M 12) (M 13) (M (10 + c)) (M 15) (M 16) (M 17) (M 18) (M (15 + c))
    · intro _
      exact mz_i32 (M 0) (M 1) (M 2) (M 3) (M c) (M 5) (M 6) (M 7) (M 8) (M (5 + c)) (M 10) (M 11) (M 12) (M 13) (M (10 + c)) (M 15) (M 16) (M 17) (M 18) (M (15 + c))
    · intro h; exact absurd rfl h
/-! bounds -/
theorem mz_bm {x y : Int} {a b : Nat} (h : x.natAbs ≤ a) (k : y.natAbs ≤ b) : (x * y).natAbs ≤ a * b := by
  rw [Int.natAbs_mul]; exact Nat.mul_le_mul h k
theorem mz_ba {x y : Int} {a b : Nat} (h : x.natAbs ≤ a) (k : y.natAbs ≤ b) : (x + y).natAbs ≤ a + b := Nat.le_trans (Int.natAbs_add_le x y) (Nat.add_le_add h k)
theorem mz_bs {x y : Int} {a b : Nat} (h : x.natAbs ≤ a) (k : y.natAbs ≤ b) : (x - y).natAbs ≤ a + b := Nat.le_trans (Int.natAbs_sub_le x y) (Nat.add_le_add h k)
theorem mz_b2 {a b c d : Int} {p q : Nat} (ha : a.natAbs ≤ p) (hb : b.natAbs ≤ q) (hc : c.natAbs ≤ p) (hd : d.natAbs ≤ q) : (mz_2 a b c d).natAbs ≤ 2 * (p * q) := by
  have h := mz_bs (mz_bm ha hd) (mz_bm hb hc)
  rw [Nat.mul_comm q p] at h
  unfold mz_2; omega
theorem mz_b3 {a b c d e f g h i : Int} {p q r : Nat} (ha : a.natAbs ≤ p) (hb : b.natAbs ≤ q) (hc : c.natAbs ≤ r) (hd : d.natAbs ≤ p) (he : e.natAbs ≤ q) (hf : f.natAbs ≤ r) (hg : g.natAbs ≤ p) (hh : h.natAbs ≤ q) (hi : i.natAbs ≤ r) : (mz_3 a b c d e f g h i).natAbs ≤ 6 * (p * q * r) := by
  have k := mz_ba (mz_bs (mz_bm ha (mz_bs (mz_bm he hi) (mz_bm hf hh))) (mz_bm hb (mz_bs (mz_bm hd hi) (mz_bm hf hg)))) (mz_bm hc (mz_bs (mz_bm hd hh) (mz_bm he hg)))
  have e : p * (q * r + r * q) + q * (p * r + r * p) + r * (p * q + q * p) = 6 * (p * q * r) := by grind
  rw [e] at k
  exact k
theorem mz_b4 {a0 a1 a2 a3 b0 b1 b2 b3 c0 c1 c2 c3 d0 d1 d2 d3 : Int} {p q r s : Nat} (ha0 : a0.natAbs ≤ p) (ha1 : a1.natAbs ≤ q) (ha2 : a2.natAbs ≤ r) (ha3 : a3.natAbs ≤ s) (hb0 : b0.natAbs ≤ p) (hb1 : b1.natAbs ≤ q) (hb2 : b2.natAbs ≤ r) (hb3 : b3.natAbs ≤ s) (hc0 : c0.natAbs ≤ p) (hc1 : c1.natAbs ≤ q) (hc2 : c2.natAbs ≤ r) (hc3 : c3.natAbs ≤ s) (hd0 : d0.natAbs ≤ p) (hd1 : d1.natAbs ≤ q) (hd2 : d2.natAbs ≤ r) (hd3 : d3.natAbs ≤ s) : (mz_4 a0 a1 a2 a3 b0 b1 b2 b3 c0 c1 c2 c3 d0 d1 d2 d3).natAbs ≤ 24 * (p * q * r * s) := by
  have k := mz_bs (mz_ba (mz_bs (mz_bm ha0 (mz_b3 hb1 hb2 hb3 hc1 hc2 hc3 hd1 hd2 hd3)) (mz_bm ha1 (mz_b3 hb0 hb2 hb3 hc0 hc2 hc3 hd0 hd2 hd3))) (mz_bm ha2 (mz_b3 hb0 hb1 hb3 hc0 hc1 hc3 hd0 hd1 hd3))) (mz_bm ha3 (mz_b3 hb0 hb1 hb2 hc0 hc1 hc2 hd0 hd1 hd2))
  have e : p * (6 * (q * r * s)) + q * (6 * (p * r * s)) + r * (6 * (p * q * s)) + s * (6 * (p * q * r)) = 24 * (p * q * r * s) := by grind
  rw [e] at k
  exact k
/-- cells: coefficients at most 8, the right side at most 160 -/
def mz_Bd (M : Nat → Int) : Prop := ∀ r, r < 4 → (∀ c, c < 4 → (M (5 * r + c)).natAbs ≤ 8) ∧ (∀ c, c < 5 → (M (5 * r + c)).natAbs ≤ 160)
theorem mz_bst {M : Nat → Int} (B : mz_Bd M) {c : Nat} (hc : c < 5) : ∀ k r, k < 5 → r < 4 → (mz_st M k r c).natAbs ≤ 1966080 := by
  have x0 : (M c).natAbs ≤ 160 := by have h := (B 0 (by omega)).2 c hc; rwa [Nat.mul_zero, Nat.zero_add] at h
  have x1 : (M (5 + c)).natAbs ≤ 160 := (B 1 (by omega)).2 c hc
  have x2 : (M (10 + c)).natAbs ≤ 160 := (B 2 (by omega)).2 c hc
  have x3 : (M (15 + c)).natAbs ≤ 160 := (B 3 (by omega)).2 c hc
  have a0 : (M 0).natAbs ≤ 8 := (B 0 (by omega)).1 0 (by omega)
  have a1 : (M 1).natAbs ≤ 8 := (B 0 (by omega)).1 1 (by omega)
  have a2 : (M 2).natAbs ≤ 8 := (B 0 (by omega)).1 2 (by omega)
  have a3 : (M 3).natAbs ≤ 8 := (B 0 (by omega)).1 3 (by omega)
  have b0 : (M 5).natAbs ≤ 8 := (B 1 (by omega)).1 0 (by omega)
  have b1 : (M 6).natAbs ≤ 8 := (B 1 (by omega)).1 1 (by omega)
  have b2 : (M 7).natAbs ≤ 8 := (B 1 (by omega)).1 2 (by omega)
  have b3 : (M 8).natAbs ≤ 8 := (B 1 (by omega)).1 3 (by omega)
  have c0 : (M 10).natAbs ≤ 8 := (B 2 (by omega)).1 0 (by omega)
  have c1 : (M 11).natAbs ≤ 8 := (B 2 (by omega)).1 1 (by omega)
  have c2 : (M 12).natAbs ≤ 8 := (B 2 (by omega)).1 2 (by omega)
  have c3 : (M 13).natAbs ≤ 8 := (B 2 (by omega)).1 3 (by omega)
  have d0 : (M 15).natAbs ≤ 8 := (B 3 (by omega)).1 0 (by omega)
  have d1 : (M 16).natAbs ≤ 8 := (B 3 (by omega)).1 1 (by omega)
  have d2 : (M 17).natAbs ≤ 8 := (B 3 (by omega)).1 2 (by omega)
  have d3 : (M 18).natAbs ≤ 8 := (B 3 (by omega)).1 3 (by omega)
  have t2 : ∀ {x : Int}, x.natAbs ≤ 2 * (8 * 160) → x.natAbs ≤ 1966080 := fun h => Nat.le_trans h (by decide)
  have t2' : ∀ {x : Int}, x.natAbs ≤ 2 * (160 * 8) → x.natAbs ≤ 1966080 := fun h => Nat.le_trans h (by decide)
  have t3 : ∀ {x : Int}, x.natAbs ≤ 6 * (8 * 8 * 160) → x.natAbs ≤ 1966080 := fun h => Nat.le_trans h (by decide)
  have t3' : ∀ {x : Int}, x.natAbs ≤ 6 * (160 * 8 * 8) → x.natAbs ≤ 1966080 := fun h => Nat.le_trans h (by decide)
  have t3'' : ∀ {x : Int}, x.natAbs ≤ 6 * (8 * 160 * 8) → x.natAbs ≤ 1966080 := fun h => Nat.le_trans h (by decide)
  have q0 : (mz_D4 M c 1 2 3).natAbs ≤ 1966080 := mz_b4 (p := 160) (q := 8) (r := 8) (s := 8) x0 a1 a2 a3 x1 b1 b2 b3 x2 c1 c2 c3 x3 d1 d2 d3
  have q1 : (mz_D4 M 0 c 2 3).natAbs ≤ 1966080 := mz_b4 (p := 8) (q := 160) (r := 8) (s := 8) a0 x0 a2 a3 b0 x1 b2 b3 c0 x2 c2 c3 d0 x3 d2 d3
  have q2 : (mz_D4 M 0 1 c 3).natAbs ≤ 1966080 := mz_b4 (p := 8) (q := 8) (r := 160) (s := 8) a0 a1 x0 a3 b0 b1 x1 b3 c0 c1 x2 c3 d0 d1 x3 d3
  have q3 : (mz_D4 M 0 1 2 c).natAbs ≤ 1966080 := mz_b4 (p := 8) (q := 8) (r := 8) (s := 160) a0 a1 a2 x0 b0 b1 b2 x1 c0 c1 c2 x2 d0 d1 d2 x3
  intro k r hk hr
  match k, hk with
  | 0, _ => exact Nat.le_trans ((B r hr).2 c hc) (by decide)
  | 1, _ =>
    revert r
    apply mz_lt4
    · exact Nat.le_trans x0 (by decide)
    · exact t2 (mz_b2 a0 x0 b0 x1)
    · exact t2 (mz_b2 a0 x0 c0 x2)
    · exact t2 (mz_b2 a0 x0 d0 x3)
  | 2, _ =>
    revert r
    apply mz_lt4
    · exact t2' (mz_b2 x0 a1 x1 b1)
    · exact t2 (mz_b2 a0 x0 b0 x1)
    · exact t3 (mz_b3 a0 a1 x0 b0 b1 x1 c0 c1 x2)
    · exact t3 (mz_b3 a0 a1 x0 b0 b1 x1 d0 d1 x3)
  | 3, _ =>
    revert r
    apply mz_lt4
    · exact t3' (mz_b3 x0 a1 a2 x1 b1 b2 x2 c1 c2)
    · exact t3'' (mz_b3 a0 x0 a2 b0 x1 b2 c0 x2 c2)
    · exact t3 (mz_b3 a0 a1 x0 b0 b1 x1 c0 c1 x2)
    · exact q3
  | 4, _ =>
    revert r
    apply mz_lt4
    · exact q0
    · exact q1
    · exact q2
    · exact q3
end
section
/-! signs: a matrix with no positive entry off the diagonal and positive row sums has positive leading minors -/
theorem mz_np {a b : Int} (h : 0 ≤ a) (k : b ≤ 0) : a * b ≤ 0 := Int.mul_nonpos_of_nonneg_of_nonpos h k
theorem mz_nn {a b : Int} (h : a ≤ 0) (k : b ≤ 0) : 0 ≤ a * b := Int.mul_nonneg_of_nonpos_of_nonpos h k
theorem mz_posl {a b : Int} (h : 0 < a) (k : 0 < a * b) : 0 < b := by
  apply Int.lt_of_not_ge
  intro hb
  have := mz_np (Int.le_of_lt h) hb
  omega
theorem mz_nonl {a b : Int} (h : 0 < a) (k : a * b ≤ 0) : b ≤ 0 := by
  apply Int.le_of_not_gt
  intro hb
  have := Int.mul_pos h hb
  omega
/-- two by two -/
theorem mz_p2 {p q r s : Int} (hq : q ≤ 0) (hr : r ≤ 0) (h1 : 0 < p + q) (h2 : 0 < r + s) : 0 < p * s - q * r := by
  have h3 : 0 ≤ (p + q) * (-r) := Int.mul_nonneg (by omega) (by omega)
  have h4 : 0 < p * (r + s) := Int.mul_pos (by omega) h2
  have e : p * s - q * r = (p + q) * (-r) + p * (r + s) := by grind
  omega
/-- the row sum after a step, the sum of what is left: f the pivot row's sum, g the row's own -/
theorem mz_rs {p u f g : Int} (hp : 0 < p) (hu : u ≤ 0) (hf : 0 < f) (hg : 0 < g) : 0 < p * g - u * f := by
  have h1 := Int.mul_pos hp hg
  have h2 : u * f ≤ 0 := by rw [Int.mul_comm]; exact mz_np (Int.le_of_lt hf) hu
  omega
theorem mz_po {a0 a1 a2 a3 b0 b1 b2 b3 c0 c1 c2 c3 d0 d1 d2 d3 : Int}
    (ha1 : a1 ≤ 0) (ha2 : a2 ≤ 0) (ha3 : a3 ≤ 0) (hb0 : b0 ≤ 0) (hb2 : b2 ≤ 0) (hb3 : b3 ≤ 0)
    (hc0 : c0 ≤ 0) (hc1 : c1 ≤ 0) (hc3 : c3 ≤ 0) (hd0 : d0 ≤ 0) (hd1 : d1 ≤ 0) (hd2 : d2 ≤ 0)
    (sa : a0 + a1 + a2 + a3 = 4) (sb : b0 + b1 + b2 + b3 = 4) (sc : c0 + c1 + c2 + c3 = 4) (sd : d0 + d1 + d2 + d3 = 4) :
    0 < a0 ∧ 0 < mz_2 a0 a1 b0 b1 ∧ 0 < mz_3 a0 a1 a2 b0 b1 b2 c0 c1 c2 ∧ 0 < mz_4 a0 a1 a2 a3 b0 b1 b2 b3 c0 c1 c2 c3 d0 d1 d2 d3 := by
  have pa : 0 < a0 := by omega
  have off : ∀ {x y z : Int}, x ≤ 0 → y ≤ 0 → z ≤ 0 → mz_2 a0 x y z ≤ 0 := by
    intro x y z hx hy hz
    have h1 := mz_np (Int.le_of_lt pa) hz
    have h2 := mz_nn hx hy
    unfold mz_2; omega
  have m12 := off ha2 hb0 hb2
  have m13 := off ha3 hb0 hb3
  have m21 := off ha1 hc0 hc1
  have m23 := off ha3 hc0 hc3
  have m31 := off ha1 hd0 hd1
  have m32 := off ha2 hd0 hd2
  have rs : ∀ {y0 y1 y2 y3 : Int}, y0 ≤ 0 → y0 + y1 + y2 + y3 = 4 → 0 < mz_2 a0 a1 y0 y1 + mz_2 a0 a2 y0 y2 + mz_2 a0 a3 y0 y3 := by
    intro y0 y1 y2 y3 h0 hs
    have e : mz_2 a0 a1 y0 y1 + mz_2 a0 a2 y0 y2 + mz_2 a0 a3 y0 y3 = 4 * a0 - 4 * y0 := by
      have e1 : a3 = 4 - a0 - a1 - a2 := by omega
      have e2 : y3 = 4 - y0 - y1 - y2 := by omega
      unfold mz_2; rw [e1, e2]; grind
    omega
  have r1 := rs hb0 sb
  have r2 := rs hc0 sc
  have r3 := rs hd0 sd
  have p1 : 0 < mz_2 a0 a1 b0 b1 := by omega
  have off2 : ∀ {x1 xt yt y0 y1 : Int}, mz_2 a0 a1 y0 y1 ≤ 0 → mz_2 a0 xt b0 x1 ≤ 0 → mz_2 a0 xt y0 yt ≤ 0 → mz_3 a0 a1 xt b0 b1 x1 y0 y1 yt ≤ 0 := by
    intro x1 xt yt y0 y1 h1 h2 h3
    refine mz_nonl pa ?_
    rw [← mz_i12]
    have k1 : mz_2 a0 xt y0 yt * mz_2 a0 a1 b0 b1 ≤ 0 := by rw [Int.mul_comm]; exact mz_np (Int.le_of_lt p1) h3
    have k2 := mz_nn h1 h2
    omega
  have n23 : mz_3 a0 a1 a3 b0 b1 b3 c0 c1 c3 ≤ 0 := off2 m21 m13 m23
  have n32 : mz_3 a0 a1 a2 b0 b1 b2 d0 d1 d2 ≤ 0 := off2 m31 m12 m32
  have rs2 : ∀ {y0 y1 y2 y3 : Int}, mz_2 a0 a1 y0 y1 ≤ 0 → 0 < mz_2 a0 a1 y0 y1 + mz_2 a0 a2 y0 y2 + mz_2 a0 a3 y0 y3 → 0 < mz_3 a0 a1 a2 b0 b1 b2 y0 y1 y2 + mz_3 a0 a1 a3 b0 b1 b3 y0 y1 y3 := by
    intro y0 y1 y2 y3 h1 h2
    refine mz_posl pa ?_
    have k := mz_rs p1 h1 r1 h2
    have i2 := mz_i12 a0 a1 a2 b0 b1 b2 y0 y1 y2
    have i3 := mz_i12 a0 a1 a3 b0 b1 b3 y0 y1 y3
    rw [Int.mul_add, ← i2, ← i3]
    generalize mz_2 a0 a1 b0 b1 = u at *
    generalize mz_2 a0 a2 b0 b2 = v at *
    generalize mz_2 a0 a3 b0 b3 = w at *
    generalize mz_2 a0 a1 y0 y1 = x at *
    generalize mz_2 a0 a2 y0 y2 = y at *
    generalize mz_2 a0 a3 y0 y3 = z at *
    have e : u * (x + y + z) - x * (u + v + w) = y * u - x * v + (z * u - x * w) := by grind
    omega
  have s2 := rs2 m21 r2
  have s3 := rs2 m31 r3
  have p2 : 0 < mz_3 a0 a1 a2 b0 b1 b2 c0 c1 c2 := by omega
  refine ⟨pa, p1, p2, mz_posl p1 ?_⟩
  rw [← mz_i23]
  have k := mz_p2 n23 n32 s2 s3
  rw [Int.mul_comm (mz_3 a0 a1 a3 b0 b1 b3 d0 d1 d3), Int.mul_comm (mz_3 a0 a1 a2 b0 b1 b2 d0 d1 d2)]
  exact k
end
section
/-! the process: rewards rh, shares sg (ints); policies by their bits; values T / D -/
def mz_bit (p s : Nat) : Nat := p / 2 ^ s % 2
theorem mz_bit2 (p s : Nat) : mz_bit p s < 2 := Nat.mod_lt _ (by decide)
def mz_ac (p s : Nat) : Nat := 2 * s + mz_bit p s
theorem mz_ac8 (p : Nat) {s : Nat} (h : s < 4) : mz_ac p s < 8 := by
  have := mz_bit2 p s
  unfold mz_ac; omega
def mz_M (rh sg : Nat → Int) (p j : Nat) : Int :=
  if j % 5 = 4 then 8 * rh (mz_ac p (j / 5)) else (if j / 5 = j % 5 then 8 else 0) - sg (4 * mz_ac p (j / 5) + j % 5)
def mz_PD (rh sg : Nat → Int) : Prop :=
  (∀ k, k < 8 → -20 ≤ rh k ∧ rh k ≤ 20) ∧ (∀ k, k < 8 → 0 ≤ sg (4 * k) ∧ 0 ≤ sg (4 * k + 1) ∧ 0 ≤ sg (4 * k + 2) ∧ 0 ≤ sg (4 * k + 3) ∧ sg (4 * k) + sg (4 * k + 1) + sg (4 * k + 2) + sg (4 * k + 3) = 4)
def mz_T (rh sg : Nat → Int) (p s : Nat) : Int := mz_st (mz_M rh sg p) 4 s 4
def mz_D (rh sg : Nat → Int) (p : Nat) : Int := mz_D4 (mz_M rh sg p) 0 1 2 3
/-- the shares of action k times w -/
def mz_sw (sg w : Nat → Int) (k : Nat) : Int := sg (4 * k) * w 0 + sg (4 * k + 1) * w 1 + sg (4 * k + 2) * w 2 + sg (4 * k + 3) * w 3
def mz_g (rh sg : Nat → Int) (p s a : Nat) : Int := 8 * rh (2 * s + a) * mz_D rh sg p + mz_sw sg (mz_T rh sg p) (2 * s + a)
section
variable {rh sg : Nat → Int}
theorem mz_Mc (p : Nat) {r c : Nat} (hc : c < 4) : mz_M rh sg p (5 * r + c) = (if r = c then 8 else 0) - sg (4 * mz_ac p r + c) := by
  have e1 : (5 * r + c) % 5 = c := by omega
  have e2 : (5 * r + c) / 5 = r := by omega
  unfold mz_M
  rw [e1, e2, if_neg (by omega)]
theorem mz_Mr (p : Nat) (r : Nat) : mz_M rh sg p (5 * r + 4) = 8 * rh (mz_ac p r) := by
  have e1 : (5 * r + 4) % 5 = 4 := by omega
  have e2 : (5 * r + 4) / 5 = r := by omega
  unfold mz_M
  rw [e1, e2, if_pos rfl]
theorem mz_sg4 (P : mz_PD rh sg) {k t : Nat} (hk : k < 8) (ht : t < 4) : 0 ≤ sg (4 * k + t) ∧ sg (4 * k + t) ≤ 4 := by
  obtain ⟨h0, h1, h2, h3, h⟩ := P.2 k hk
  revert t
  apply mz_lt4
  · show 0 ≤ sg (4 * k) ∧ sg (4 * k) ≤ 4
    omega
  · omega
  · omega
  · omega
theorem mz_bdM (P : mz_PD rh sg) (p : Nat) : mz_Bd (mz_M rh sg p) := by
  intro r hr
  have hc : ∀ c, c < 4 → (mz_M rh sg p (5 * r + c)).natAbs ≤ 8 := by
    intro c hc
    rw [mz_Mc p hc]
    have h := mz_sg4 P (mz_ac8 p hr) hc
    split <;> omega
  refine ⟨hc, fun c h => ?_⟩
  by_cases h4 : c < 4
  · exact Nat.le_trans (hc c h4) (by decide)
  · have e : c = 4 := by omega
    rw [e, mz_Mr p r]
    have h := P.1 _ (mz_ac8 p hr)
    omega
theorem mz_bT (P : mz_PD rh sg) (p : Nat) {s : Nat} (hs : s < 4) : (mz_T rh sg p s).natAbs ≤ 1966080 := mz_bst (mz_bdM P p) (by decide) 4 s (by decide) hs
theorem mz_bD (P : mz_PD rh sg) (p : Nat) : (mz_D rh sg p).natAbs ≤ 1966080 := mz_bst (mz_bdM P p) (c := 3) (by decide) 4 3 (by decide) (by decide)
theorem mz_pM (P : mz_PD rh sg) (p : Nat) : ∀ k, k < 5 → 0 < mz_bf (mz_M rh sg p) k := by
  have off : ∀ r c, r < 4 → c < 4 → r ≠ c → mz_M rh sg p (5 * r + c) ≤ 0 := by
    intro r c hr hc hn
    rw [mz_Mc p hc, if_neg hn]
    have h := mz_sg4 P (mz_ac8 p hr) hc
    omega
  have sm : ∀ r, r < 4 → mz_M rh sg p (5 * r + 0) + mz_M rh sg p (5 * r + 1) + mz_M rh sg p (5 * r + 2) + mz_M rh sg p (5 * r + 3) = 4 := by
    intro r hr
    obtain ⟨-, -, -, -, h⟩ := P.2 _ (mz_ac8 p hr)
    rw [mz_Mc p (by decide), mz_Mc p (by decide), mz_Mc p (by decide), mz_Mc p (by decide), Nat.add_zero]
    revert r
    apply mz_lt4
    all_goals
      intro h
      simp only [if_true, if_false, reduceCtorEq, Nat.reduceEqDiff]
      omega
  have h := mz_po (a0 := mz_M rh sg p 0) (off 0 1 (by decide) (by decide) (by decide)) (off 0 2 (by decide) (by decide) (by decide)) (off 0 3 (by decide) (by decide) (by decide)) (off 1 0 (by decide) (by decide) (by decide)) (off 1 2 (by decide) (by decide) (by decide)) (off 1 3 (by decide) (by decide) (by decide)) (off 2 0 (by decide) (by decide) (by decide)) (off 2 1 (by decide) (by decide) (by decide)) (off 2 3 (by decide) (by decide) (by decide)) (off 3 0 (by decide) (by decide) (by decide)) (off 3 1 (by decide) (by decide) (by decide)) (off 3 2 (by decide) (by decide) (by decide)) (sm 0 (by decide)) (sm 1 (by decide)) (sm 2 (by decide)) (sm 3 (by decide))
  intro k hk
  match k, hk with
  | 0, _ => exact Int.zero_lt_one
  | 1, _ => exact h.1
  | 2, _ => exact h.2.1
  | 3, _ => exact h.2.2.1
  | 4, _ => exact h.2.2.2
theorem mz_Dp (P : mz_PD rh sg) (p : Nat) : 0 < mz_D rh sg p := mz_pM P p 4 (by decide)
/-- the values solve the policy's equations -/
theorem mz_eqn (p : Nat) : ∀ s, s < 4 → 8 * mz_T rh sg p s - mz_sw sg (mz_T rh sg p) (mz_ac p s) = 8 * rh (mz_ac p s) * mz_D rh sg p := by
  have hM : ∀ r, r < 4 → mz_M rh sg p (5 * r + 0) * mz_T rh sg p 0 + mz_M rh sg p (5 * r + 1) * mz_T rh sg p 1 + mz_M rh sg p (5 * r + 2) * mz_T rh sg p 2 + mz_M rh sg p (5 * r + 3) * mz_T rh sg p 3 = mz_M rh sg p (5 * r + 4) * mz_D rh sg p := by
    generalize hm : mz_M rh sg p = m
    unfold mz_T mz_D
    rw [hm]
    apply mz_lt4
    · exact mz_c0 (m 0) (m 1) (m 2) (m 3) (m 4) (m 5) (m 6) (m 7) (m 8) (m 9) (m 10) (m 11) (m 12) (m 13) (m 14) (m 15) (m 16) (m 17) (m 18) (m 19)
    · exact mz_c1 (m 0) (m 1) (m 2) (m 3) (m 4) (m 5) (m 6) (m 7) (m 8) (m 9) (m 10) (m 11) (m 12) (m 13) (m 14) (m 15) (m 16) (m 17) (m 18) (m 19)
    · exact mz_c2 (m 0) (m 1) (m 2) (m 3) (m 4) (m 5) (m 6) (m 7) (m 8) (m 9) (m 10) (m 11) (m 12) (m 13) (m 14) (m 15) (m 16) (m 17) (m 18) (m 19)
    · exact mz_c3 (m 0) (m 1) (m 2) (m 3) (m 4) (m 5) (m 6) (m 7) (m 8) (m 9) (m 10) (m 11) (m 12) (m 13) (m 14) (m 15) (m 16) (m 17) (m 18) (m 19)
  intro s hs
  have h := hM s hs
  rw [mz_Mc p (by decide), mz_Mc p (by decide), mz_Mc p (by decide), mz_Mc p (by decide), mz_Mr, Nat.add_zero] at h
  unfold mz_sw
  rw [← h]
  generalize mz_T rh sg p = w
  generalize sg (4 * mz_ac p s) = q0
  generalize sg (4 * mz_ac p s + 1) = q1
  generalize sg (4 * mz_ac p s + 2) = q2
  generalize sg (4 * mz_ac p s + 3) = q3
  revert s
  apply mz_lt4
  all_goals
    intro _
    simp only [if_true, if_false, reduceCtorEq, Nat.reduceEqDiff]
    grind
theorem mz_own (p : Nat) {s : Nat} (hs : s < 4) : mz_g rh sg p s (mz_bit p s) = 8 * mz_T rh sg p s := by
  have h := mz_eqn (rh := rh) (sg := sg) p s hs
  unfold mz_g
  unfold mz_ac at h
  omega
/-- the maximum principle -/
theorem mz_max (P : mz_PD rh sg) (q : Nat) (w : Nat → Int) (h : ∀ s, s < 4 → 0 ≤ 8 * w s - mz_sw sg w (mz_ac q s)) : ∀ s, s < 4 → 0 ≤ w s := by
  have key : ∀ m, m < 4 → (∀ s, s < 4 → w m ≤ w s) → 0 ≤ w m := by
    intro m hm hmin
    obtain ⟨h0, h1, h2, h3, hs⟩ := P.2 _ (mz_ac8 q hm)
    have k := h m hm
    have k0 := Int.mul_nonneg h0 (Int.sub_nonneg_of_le (hmin 0 (by decide)))
    have k1 := Int.mul_nonneg h1 (Int.sub_nonneg_of_le (hmin 1 (by decide)))
    have k2 := Int.mul_nonneg h2 (Int.sub_nonneg_of_le (hmin 2 (by decide)))
    have k3 := Int.mul_nonneg h3 (Int.sub_nonneg_of_le (hmin 3 (by decide)))
    unfold mz_sw at k
    generalize sg (4 * mz_ac q m) = q0 at *
    generalize sg (4 * mz_ac q m + 1) = q1 at *
    generalize sg (4 * mz_ac q m + 2) = q2 at *
    generalize sg (4 * mz_ac q m + 3) = q3 at *
    have e : q0 * w m + q1 * w m + q2 * w m + q3 * w m = 4 * w m := by
      rw [← hs]; grind
    rw [Int.mul_sub] at k0 k1 k2 k3
    omega
  have ex : ∃ m, m < 4 ∧ ∀ s, s < 4 → w m ≤ w s := by
    have ex2 : ∀ a b : Nat, a < 4 → b < 4 → ∃ m, m < 4 ∧ w m ≤ w a ∧ w m ≤ w b := by
      intro a b ha hb
      by_cases c : w a ≤ w b
      · exact ⟨a, ha, Int.le_refl _, c⟩
      · exact ⟨b, hb, by omega, Int.le_refl _⟩
    obtain ⟨a, ha, a0, a1⟩ := ex2 0 1 (by decide) (by decide)
    obtain ⟨b, hb, b2, b3⟩ := ex2 2 3 (by decide) (by decide)
    obtain ⟨m, hm, ma, mb⟩ := ex2 a b ha hb
    exact ⟨m, hm, mz_lt4 (by omega) (by omega) (by omega) (by omega)⟩
  obtain ⟨m, hm, hmin⟩ := ex
  have h0 := key m hm hmin
  intro s hs
  have := hmin s hs
  omega
/-- what policy q's equations say of the difference of the values -/
theorem mz_cmp (p q : Nat) {s : Nat} (hs : s < 4) : 8 * (mz_T rh sg q s * mz_D rh sg p - mz_T rh sg p s * mz_D rh sg q) - mz_sw sg (fun t => mz_T rh sg q t * mz_D rh sg p - mz_T rh sg p t * mz_D rh sg q) (mz_ac q s) = mz_D rh sg q * (mz_g rh sg p s (mz_bit q s) - 8 * mz_T rh sg p s) := by
  have h := mz_eqn (rh := rh) (sg := sg) q s hs
  unfold mz_g
  show 8 * (mz_T rh sg q s * mz_D rh sg p - mz_T rh sg p s * mz_D rh sg q) - mz_sw sg (fun t => mz_T rh sg q t * mz_D rh sg p - mz_T rh sg p t * mz_D rh sg q) (mz_ac q s) = mz_D rh sg q * (8 * rh (mz_ac q s) * mz_D rh sg p + mz_sw sg (mz_T rh sg p) (mz_ac q s) - 8 * mz_T rh sg p s)
  have e1 : 8 * rh (mz_ac q s) * mz_D rh sg p * mz_D rh sg q = (8 * mz_T rh sg q s - mz_sw sg (mz_T rh sg q) (mz_ac q s)) * mz_D rh sg p := by
    rw [h]; grind
  unfold mz_sw at *
  grind
theorem mz_ge (P : mz_PD rh sg) (p q : Nat) (h : ∀ s, s < 4 → 8 * mz_T rh sg p s ≤ mz_g rh sg p s (mz_bit q s)) : ∀ s, s < 4 → mz_T rh sg p s * mz_D rh sg q ≤ mz_T rh sg q s * mz_D rh sg p := by
  have k := mz_max P q (fun t => mz_T rh sg q t * mz_D rh sg p - mz_T rh sg p t * mz_D rh sg q) (fun s hs => by
    show 0 ≤ 8 * (mz_T rh sg q s * mz_D rh sg p - mz_T rh sg p s * mz_D rh sg q) - _
    rw [mz_cmp p q hs]
    exact Int.mul_nonneg (Int.le_of_lt (mz_Dp P q)) (Int.sub_nonneg_of_le (h s hs)))
  intro s hs
  exact Int.le_of_sub_nonneg (k s hs)
theorem mz_le (P : mz_PD rh sg) (p q : Nat) (h : ∀ s, s < 4 → mz_g rh sg p s (mz_bit q s) ≤ 8 * mz_T rh sg p s) : ∀ s, s < 4 → mz_T rh sg q s * mz_D rh sg p ≤ mz_T rh sg p s * mz_D rh sg q := by
  have k := mz_max P q (fun t => mz_T rh sg p t * mz_D rh sg q - mz_T rh sg q t * mz_D rh sg p) (fun s hs => by
    have e := mz_cmp (rh := rh) (sg := sg) p q hs
    have e2 := Int.mul_nonneg (Int.le_of_lt (mz_Dp P q)) (Int.sub_nonneg_of_le (h s hs))
    have e3 : 8 * (mz_T rh sg p s * mz_D rh sg q - mz_T rh sg q s * mz_D rh sg p) - mz_sw sg (fun t => mz_T rh sg p t * mz_D rh sg q - mz_T rh sg q t * mz_D rh sg p) (mz_ac q s) = - (8 * (mz_T rh sg q s * mz_D rh sg p - mz_T rh sg p s * mz_D rh sg q) - mz_sw sg (fun t => mz_T rh sg q t * mz_D rh sg p - mz_T rh sg p t * mz_D rh sg q) (mz_ac q s)) := by
      unfold mz_sw; grind
    show 0 ≤ 8 * (mz_T rh sg p s * mz_D rh sg q - mz_T rh sg q s * mz_D rh sg p) - _
    rw [e3, e, ← Int.mul_neg, Int.neg_sub]
    exact e2)
  intro s hs
  exact Int.le_of_sub_nonneg (k s hs)
theorem mz_eqg (P : mz_PD rh sg) (p q : Nat) (h : ∀ s, s < 4 → mz_T rh sg q s * mz_D rh sg p = mz_T rh sg p s * mz_D rh sg q) : ∀ s, s < 4 → mz_g rh sg p s (mz_bit q s) = 8 * mz_T rh sg p s := by
  intro s hs
  have e := mz_cmp (rh := rh) (sg := sg) p q hs
  have z : ∀ t, t < 4 → mz_T rh sg q t * mz_D rh sg p - mz_T rh sg p t * mz_D rh sg q = 0 := fun t ht => by rw [h t ht]; exact Int.sub_self _
  have e0 : mz_sw sg (fun t => mz_T rh sg q t * mz_D rh sg p - mz_T rh sg p t * mz_D rh sg q) (mz_ac q s) = 0 := by
    unfold mz_sw
    dsimp only
    rw [z 0 (by decide), z 1 (by decide), z 2 (by decide), z 3 (by decide)]
    simp only [Int.mul_zero, Int.add_zero]
  rw [e0, z s hs] at e
  have hp := mz_Dp P q
  have e2 : mz_D rh sg q * (mz_g rh sg p s (mz_bit q s) - 8 * mz_T rh sg p s) = 0 := by rw [← e]; rfl
  have e3 := (Int.mul_eq_zero.mp e2).resolve_left (by omega)
  omega
end
end
section
/-! the order of the policies, improving, counting, the best -/
def mz_cn (f : Nat → Bool) : Nat → Nat
  | 0 => 0
  | n + 1 => mz_cn f n + (if f n = true then 1 else 0)
theorem mz_cn_le {f g : Nat → Bool} : ∀ n, (∀ i, i < n → f i = true → g i = true) → mz_cn f n ≤ mz_cn g n := by
  intro n
  induction n with
  | zero => intro _; exact Nat.le_refl _
  | succ n ih =>
    intro h
    have k := ih (fun i hi => h i (by omega))
    have hn := h n (by omega)
    unfold mz_cn
    by_cases c : f n = true
    · rw [if_pos c, if_pos (hn c)]; omega
    · rw [if_neg c]; omega
theorem mz_cn_lt {f g : Nat → Bool} {j : Nat} (gj : g j = true) (fj : ¬ f j = true) : ∀ n, j < n → (∀ i, i < n → f i = true → g i = true) → mz_cn f n < mz_cn g n := by
  intro n
  induction n with
  | zero => intro h; omega
  | succ n ih =>
    intro hj h
    unfold mz_cn
    by_cases e : j = n
    · have k := mz_cn_le (f := f) (g := g) n (fun i hi => h i (by omega))
      rw [← e] at k ⊢
      rw [if_neg fj, if_pos gj]; omega
    · have k := ih (by omega) (fun i hi => h i (by omega))
      have hn := h n (by omega)
      by_cases c : f n = true
      · rw [if_pos c, if_pos (hn c)]; omega
      · rw [if_neg c]; omega
theorem mz_cn_n (f : Nat → Bool) : ∀ n, mz_cn f n ≤ n := by
  intro n
  induction n with
  | zero => exact Nat.le_refl _
  | succ n ih => unfold mz_cn; split <;> omega
/-- q does at least as well as p in every state -/
def mz_ok (rh sg : Nat → Int) (p q : Nat) : Prop := ∀ s, s < 4 → mz_T rh sg p s * mz_D rh sg q ≤ mz_T rh sg q s * mz_D rh sg p
noncomputable def mz_mu (rh sg : Nat → Int) (p : Nat) : Nat := mz_cn (fun q => @decide (mz_ok rh sg p q) (Classical.propDecidable _)) 16
section
variable {rh sg : Nat → Int}
theorem mz_tr1 {a b c x y z : Int} (hx : 0 < x) (hy : 0 < y) (hz : 0 < z) (h1 : a * y ≤ b * x) (h2 : b * z ≤ c * y) : a * z ≤ c * x := by
  have k1 : (a * y) * z ≤ (b * x) * z := Int.mul_le_mul_of_nonneg_right h1 (Int.le_of_lt hz)
  have k2 : (b * z) * x ≤ (c * y) * x := Int.mul_le_mul_of_nonneg_right h2 (Int.le_of_lt hx)
  have e : y * (a * z) ≤ y * (c * x) := by
    have e1 : y * (a * z) = (a * y) * z := by grind
    have e2 : y * (c * x) = (c * y) * x := by grind
    have e3 : (b * x) * z = (b * z) * x := by grind
    omega
  exact Int.le_of_mul_le_mul_left e hy
theorem mz_tr (P : mz_PD rh sg) {p q r : Nat} (h1 : mz_ok rh sg p q) (h2 : mz_ok rh sg q r) : mz_ok rh sg p r :=
  fun s hs => mz_tr1 (mz_Dp P p) (mz_Dp P q) (mz_Dp P r) (h1 s hs) (h2 s hs)
theorem mz_mu_lt (P : mz_PD rh sg) {p q : Nat} (hp : p < 16) (h : ∀ s, s < 4 → 8 * mz_T rh sg p s ≤ mz_g rh sg p s (mz_bit q s)) (hx : ∃ s, s < 4 ∧ 8 * mz_T rh sg p s < mz_g rh sg p s (mz_bit q s)) : mz_mu rh sg q < mz_mu rh sg p := by
  have hq : mz_ok rh sg p q := mz_ge P p q h
  refine mz_cn_lt (j := p) ?_ ?_ 16 hp ?_
  · exact @decide_eq_true _ (_) (fun s _ => Int.le_refl _)
  · intro c
    have c' : mz_ok rh sg q p := @of_decide_eq_true _ (_) c
    obtain ⟨s, hs, k⟩ := hx
    have e := mz_eqg P p q (fun t ht => by have := hq t ht; have := c' t ht; omega) s hs
    omega
  · intro i _ hi
    have hi' : mz_ok rh sg q i := @of_decide_eq_true _ (_) hi
    exact @decide_eq_true _ (_) (mz_tr P hq hi')
theorem mz_mu_16 (p : Nat) : mz_mu rh sg p ≤ 16 := mz_cn_n _ 16
theorem mz_cn_pos {f : Nat → Bool} {j : Nat} (fj : f j = true) : ∀ n, j < n → 0 < mz_cn f n := by
  intro n
  induction n with
  | zero => intro h; omega
  | succ n ih =>
    intro hj
    unfold mz_cn
    by_cases e : j = n
    · rw [← e, if_pos fj]; omega
    · have := ih (by omega); omega
theorem mz_mu_pos {p : Nat} (hp : p < 16) : 0 < mz_mu rh sg p := by
  refine mz_cn_pos (j := p) ?_ 16 hp
  exact @decide_eq_true _ (_) (fun s _ => Int.le_refl _)
end
/-- no action gives more than the value -/
def mz_no (rh sg : Nat → Int) (p : Nat) : Prop := ∀ s, s < 4 → ∀ a, a < 2 → mz_g rh sg p s a ≤ 8 * mz_T rh sg p s
def mz_best (rh sg : Nat → Int) (q : Nat) : Prop := ∀ i, i < 16 → mz_ok rh sg i q
def mz_gm (rh sg : Nat → Int) (p s : Nat) : Nat := (if mz_g rh sg p s 0 = 8 * mz_T rh sg p s then 1 else 0) + (if mz_g rh sg p s 1 = 8 * mz_T rh sg p s then 2 else 0)
section
variable {rh sg : Nat → Int}
theorem mz_gm_bit (p s : Nat) : ∀ a, a < 2 → (mz_gm rh sg p s / 2 ^ a % 2 = 1 ↔ mz_g rh sg p s a = 8 * mz_T rh sg p s) := by
  intro a ha
  match a, ha with
  | 0, _ => unfold mz_gm; split <;> split <;> simp_all
  | 1, _ => unfold mz_gm; split <;> split <;> simp_all
theorem mz_gm4 (p s : Nat) : mz_gm rh sg p s < 4 := by
  unfold mz_gm; split <;> split <;> decide
theorem mz_gm1 (p : Nat) {s : Nat} (hs : s < 4) : 1 ≤ mz_gm rh sg p s := by
  have h := (mz_gm_bit (rh := rh) (sg := sg) p s _ (mz_bit2 p s)).mpr (mz_own p hs)
  apply Nat.pos_of_ne_zero
  intro e
  rw [e, Nat.zero_div] at h
  exact absurd h (by decide)
theorem mz_best_iff (P : mz_PD rh sg) {p : Nat} (hp : p < 16) (hn : mz_no rh sg p) (q : Nat) : mz_best rh sg q ↔ ∀ s, s < 4 → mz_gm rh sg p s / 2 ^ mz_bit q s % 2 = 1 := by
  have up : ∀ i, mz_ok rh sg i p := fun i => mz_le P p i (fun s hs => hn s hs _ (mz_bit2 i s))
  constructor
  · intro h s hs
    refine (mz_gm_bit p s _ (mz_bit2 q s)).mpr (mz_eqg P p q (fun t ht => ?_) s hs)
    have h1 := h p hp t ht
    have h2 := up q t ht
    omega
  · intro h i _
    have h1 : mz_ok rh sg p q := mz_ge P p q (fun s hs => by have := (mz_gm_bit (rh := rh) (sg := sg) p s _ (mz_bit2 q s)).mp (h s hs); omega)
    exact mz_tr P (up i) h1
/-- a best policy has the values of p -/
theorem mz_best_eq (P : mz_PD rh sg) {p : Nat} (hp : p < 16) (hn : mz_no rh sg p) {q : Nat} (h : mz_best rh sg q) {s : Nat} (hs : s < 4) : mz_T rh sg q s * mz_D rh sg p = mz_T rh sg p s * mz_D rh sg q := by
  have h1 := h p hp s hs
  have h2 := mz_le P p q (fun s hs => hn s hs _ (mz_bit2 q s)) s hs
  omega
end
/-! the masks of good actions alone -/
def mz_B (a b c d q : Nat) : Bool := a / 2 ^ (q % 2) % 2 == 1 && b / 2 ^ (q / 2 % 2) % 2 == 1 && c / 2 ^ (q / 4 % 2) % 2 == 1 && d / 2 ^ (q / 8 % 2) % 2 == 1
def mz_lo (a b c d : Nat) : Nat := (1 - a % 2) + 2 * (1 - b % 2) + 4 * (1 - c % 2) + 8 * (1 - d % 2)
def mz_w3 (a : Nat) : Nat := if a = 3 then 2 else 1
theorem mz_B_iff (G : Nat → Nat) (q : Nat) : mz_B (G 0) (G 1) (G 2) (G 3) q = true ↔ ∀ s, s < 4 → G s / 2 ^ mz_bit q s % 2 = 1 := by
  unfold mz_B mz_bit
  simp only [Bool.and_eq_true, beq_iff_eq]
  constructor
  · intro ⟨⟨⟨h0, h1⟩, h2⟩, h3⟩
    apply mz_lt4
    · rw [Nat.pow_zero, Nat.div_one]; exact h0
    · exact h1
    · exact h2
    · exact h3
  · intro h
    refine ⟨⟨⟨?_, h 1 (by decide)⟩, h 2 (by decide)⟩, h 3 (by decide)⟩
    have h0 := h 0 (by decide)
    rw [Nat.pow_zero, Nat.div_one] at h0
    exact h0
def mz_ck (a b c d : Nat) : Bool := decide (mz_lo a b c d < 16) && mz_B a b c d (mz_lo a b c d) && (List.range 16).all (fun j => !(decide (j < mz_lo a b c d)) || !(mz_B a b c d j)) && (mz_cn (mz_B a b c d) 16 == mz_w3 a * mz_w3 b * mz_w3 c * mz_w3 d)
def mz_ex (a b c d k e : Nat) : Bool := (List.range 16).any (fun q => mz_bit q k == e && mz_B a b c d q)
def mz_ck2 (a b c d e : Nat) : Bool := (mz_ex a b c d 0 e == decide (a / 2 ^ e % 2 = 1)) && (mz_ex a b c d 1 e == decide (b / 2 ^ e % 2 = 1)) && (mz_ex a b c d 2 e == decide (c / 2 ^ e % 2 = 1)) && (mz_ex a b c d 3 e == decide (d / 2 ^ e % 2 = 1))
def mz_all3 (f : Nat → Bool) : Bool := f 1 && f 2 && f 3
theorem mz_all3_e {f : Nat → Bool} (h : mz_all3 f = true) {a : Nat} (h1 : 1 ≤ a) (h4 : a < 4) : f a = true := by
  unfold mz_all3 at h
  rw [Bool.and_eq_true, Bool.and_eq_true] at h
  match a, h1, h4 with
  | 1, _, _ => exact h.1.1
  | 2, _, _ => exact h.1.2
  | 3, _, _ => exact h.2
theorem mz_tab : mz_all3 (fun a => mz_all3 (fun b => mz_all3 (fun c => mz_all3 (fun d => mz_ck a b c d)))) = true := by decide +kernel
theorem mz_tab2 : mz_all3 (fun a => mz_all3 (fun b => mz_all3 (fun c => mz_all3 (fun d => mz_ck2 a b c d 0 && mz_ck2 a b c d 1)))) = true := by decide +kernel
section
variable {G : Nat → Nat}
theorem mz_fin (h1 : ∀ s, s < 4 → 1 ≤ G s) (h4 : ∀ s, s < 4 → G s < 4) : mz_lo (G 0) (G 1) (G 2) (G 3) < 16 ∧ mz_B (G 0) (G 1) (G 2) (G 3) (mz_lo (G 0) (G 1) (G 2) (G 3)) = true ∧ (∀ j, j < mz_lo (G 0) (G 1) (G 2) (G 3) → mz_B (G 0) (G 1) (G 2) (G 3) j = false) ∧ mz_cn (mz_B (G 0) (G 1) (G 2) (G 3)) 16 = mz_w3 (G 0) * mz_w3 (G 1) * mz_w3 (G 2) * mz_w3 (G 3) := by
  have k := mz_all3_e (mz_all3_e (mz_all3_e (mz_all3_e mz_tab (h1 0 (by decide)) (h4 0 (by decide))) (h1 1 (by decide)) (h4 1 (by decide))) (h1 2 (by decide)) (h4 2 (by decide))) (h1 3 (by decide)) (h4 3 (by decide))
  unfold mz_ck at k
  rw [Bool.and_eq_true, Bool.and_eq_true, Bool.and_eq_true, decide_eq_true_eq, beq_iff_eq, List.all_eq_true] at k
  obtain ⟨⟨⟨k1, k2⟩, k3⟩, k4⟩ := k
  refine ⟨k1, k2, fun j hj => ?_, k4⟩
  have k5 := k3 j (List.mem_range.mpr (by omega))
  rw [decide_eq_true hj] at k5
  simpa using k5
theorem mz_fin2 (h1 : ∀ s, s < 4 → 1 ≤ G s) (h4 : ∀ s, s < 4 → G s < 4) {e : Nat} (he : e < 2) : ∀ s, s < 4 → ((∃ q, q < 16 ∧ mz_bit q s = e ∧ mz_B (G 0) (G 1) (G 2) (G 3) q = true) ↔ G s / 2 ^ e % 2 = 1) := by
  have k := mz_all3_e (mz_all3_e (mz_all3_e (mz_all3_e mz_tab2 (h1 0 (by decide)) (h4 0 (by decide))) (h1 1 (by decide)) (h4 1 (by decide))) (h1 2 (by decide)) (h4 2 (by decide))) (h1 3 (by decide)) (h4 3 (by decide))
  have k' : mz_ck2 (G 0) (G 1) (G 2) (G 3) e = true := by
    rw [Bool.and_eq_true] at k
    match e, he with
    | 0, _ => exact k.1
    | 1, _ => exact k.2
  have ex : ∀ s, (mz_ex (G 0) (G 1) (G 2) (G 3) s e = true ↔ ∃ q, q < 16 ∧ mz_bit q s = e ∧ mz_B (G 0) (G 1) (G 2) (G 3) q = true) := by
    intro s
    unfold mz_ex
    rw [List.any_eq_true]
    constructor
    · intro ⟨q, hq, hh⟩
      rw [Bool.and_eq_true, beq_iff_eq] at hh
      exact ⟨q, List.mem_range.mp hq, hh.1, hh.2⟩
    · intro ⟨q, hq, hb, hB⟩
      refine ⟨q, List.mem_range.mpr hq, ?_⟩
      rw [Bool.and_eq_true, beq_iff_eq]
      exact ⟨hb, hB⟩
  unfold mz_ck2 at k'
  rw [Bool.and_eq_true, Bool.and_eq_true, Bool.and_eq_true, beq_iff_eq, beq_iff_eq, beq_iff_eq, beq_iff_eq] at k'
  obtain ⟨⟨⟨e0, e1⟩, e2⟩, e3⟩ := k'
  apply mz_lt4
  · rw [← ex, e0, decide_eq_true_eq]
  · rw [← ex, e1, decide_eq_true_eq]
  · rw [← ex, e2, decide_eq_true_eq]
  · rw [← ex, e3, decide_eq_true_eq]
end
/-! lowest terms -/
theorem mz_low {n1 b1 n2 b2 : Nat} (h1 : 0 < b1) (h2 : 0 < b2) (h : n1 * b2 = n2 * b1) : n1 / Nat.gcd n1 b1 = n2 / Nat.gcd n2 b2 ∧ b1 / Nat.gcd n1 b1 = b2 / Nat.gcd n2 b2 := by
  have g : Nat.gcd n1 b1 * b2 = Nat.gcd n2 b2 * b1 := by
    rw [← Nat.gcd_mul_right, ← Nat.gcd_mul_right, h, Nat.mul_comm b1 b2]
  have p1 : 0 < Nat.gcd n1 b1 := Nat.gcd_pos_of_pos_right _ h1
  have p2 : 0 < Nat.gcd n2 b2 := Nat.gcd_pos_of_pos_right _ h2
  constructor
  · rw [← Nat.mul_div_mul_right n1 (Nat.gcd n1 b1) h2, h, g, Nat.mul_div_mul_right _ _ h1]
  · rw [← Nat.mul_div_mul_right b1 (Nat.gcd n1 b1) h2, g, Nat.mul_comm b1 b2, Nat.mul_div_mul_right _ _ h1]
theorem mz_lowI {t1 t2 b1 b2 : Int} (h1 : 0 < b1) (h2 : 0 < b2) (h : t1 * b2 = t2 * b1) : t1.tdiv (Nat.gcd t1.natAbs b1.natAbs) = t2.tdiv (Nat.gcd t2.natAbs b2.natAbs) ∧ b1.tdiv (Nat.gcd t1.natAbs b1.natAbs) = b2.tdiv (Nat.gcd t2.natAbs b2.natAbs) := by
  obtain ⟨c1, rfl⟩ : ∃ c : Nat, b1 = c := ⟨b1.natAbs, by omega⟩
  obtain ⟨c2, rfl⟩ : ∃ c : Nat, b2 = c := ⟨b2.natAbs, by omega⟩
  have e : t1.natAbs * c2 = t2.natAbs * c1 := by
    have k := congrArg Int.natAbs h
    rw [Int.natAbs_mul, Int.natAbs_mul] at k
    exact k
  have q := mz_low (by omega) (by omega) e
  show t1.tdiv (Nat.gcd t1.natAbs c1) = t2.tdiv (Nat.gcd t2.natAbs c2) ∧ (c1 : Int).tdiv (Nat.gcd t1.natAbs c1) = (c2 : Int).tdiv (Nat.gcd t2.natAbs c2)
  refine ⟨?_, ?_⟩
  · by_cases s1 : 0 ≤ t1
    · have s2 : 0 ≤ t2 := by
        apply Int.le_of_not_gt
        intro c
        have k1 := Int.mul_nonneg s1 (Int.le_of_lt h2)
        have k2 := Int.mul_neg_of_neg_of_pos c h1
        omega
      obtain ⟨u1, rfl⟩ : ∃ c : Nat, t1 = c := ⟨t1.natAbs, by omega⟩
      obtain ⟨u2, rfl⟩ : ∃ c : Nat, t2 = c := ⟨t2.natAbs, by omega⟩
      rw [← Int.ofNat_tdiv, ← Int.ofNat_tdiv]
      exact congrArg Int.ofNat q.1
    · have s2 : t2 < 0 := by
        apply Int.lt_of_not_ge
        intro c
        have k1 := Int.mul_neg_of_neg_of_pos (Int.lt_of_not_ge s1) h2
        have k2 := Int.mul_nonneg c (Int.le_of_lt h1)
        omega
      obtain ⟨u1, rfl⟩ : ∃ c : Nat, t1 = -(c : Int) := ⟨t1.natAbs, by omega⟩
      obtain ⟨u2, rfl⟩ : ∃ c : Nat, t2 = -(c : Int) := ⟨t2.natAbs, by omega⟩
      rw [Int.natAbs_neg, Int.natAbs_neg] at q ⊢
      rw [Int.neg_tdiv, Int.neg_tdiv, ← Int.ofNat_tdiv, ← Int.ofNat_tdiv]
      exact congrArg (fun x : Nat => -(x : Int)) q.1
  · rw [← Int.ofNat_tdiv, ← Int.ofNat_tdiv]
    exact congrArg Int.ofNat q.2
end
section
/-! longs as ints -/
def lz (z : Int) : Int64 := Int64.ofInt z
theorem lz_add (a b : Int) : lz a + lz b = lz (a + b) := (Int64.ofInt_add a b).symm
theorem lz_mul (a b : Int) : lz a * lz b = lz (a * b) := (Int64.ofInt_mul a b).symm
theorem lz_sub (a b : Int) : lz a - lz b = lz (a - b) := (Int64.ofInt_sub a b).symm
theorem lz_neg (a : Int) : -lz a = lz (-a) := (Int64.ofInt_neg a).symm
theorem lz_0 : lz 0 = 0 := by decide
theorem lz_1 : lz 1 = 1 := by decide
theorem lz_8 : lz 8 = 8 := by decide
theorem lz_i (x : Int32) : x.toInt64 = lz x.toInt := rfl
theorem lz_n (n : Nat) : lz (n : Int) = lN n := Int64.ofInt_eq_ofNat
theorem lz_mn : Int64.minValue.toInt = -9223372036854775808 := by decide
theorem lz_mx : Int64.maxValue.toInt = 9223372036854775807 := by decide
theorem lz_toInt {a : Int} (h : a.natAbs < 9223372036854775807) : (lz a).toInt = a := Int64.toInt_ofInt_of_le (by omega) (by omega)
theorem lz_div {a b : Int} (ha : a.natAbs < 9223372036854775807) (hb : b.natAbs < 9223372036854775807) : lz a / lz b = lz (a.tdiv b) :=
  (Int64.ofInt_tdiv (by rw [lz_mn]; omega) (by rw [lz_mx]; omega) (by rw [lz_mn]; omega) (by rw [lz_mx]; omega)).symm
theorem lz_le {a b : Int} (ha : a.natAbs < 9223372036854775807) (hb : b.natAbs < 9223372036854775807) : lz a ≤ lz b ↔ a ≤ b := by
  rw [Int64.le_iff_toInt_le, lz_toInt ha, lz_toInt hb]
theorem lz_lt {a b : Int} (ha : a.natAbs < 9223372036854775807) (hb : b.natAbs < 9223372036854775807) : lz a < lz b ↔ a < b := by
  rw [Int64.lt_iff_toInt_lt, lz_toInt ha, lz_toInt hb]
theorem lz_eq {a b : Int} (ha : a.natAbs < 9223372036854775807) (hb : b.natAbs < 9223372036854775807) : lz a = lz b ↔ a = b := by
  rw [← Int64.toInt_inj, lz_toInt ha, lz_toInt hb]
/-- a division that comes out even -/
theorem lz_even {x y u v b w : Int} (e : x * y - u * v = b * w) (hb : 0 < b) (k : b.natAbs ≤ 1966080) (kw : w.natAbs ≤ 1966080) : (lz x * lz y - lz u * lz v) / lz b = lz w := by
  have h := mz_bm k kw
  rw [lz_mul, lz_mul, lz_sub, e, lz_div (by omega) (by omega), Int.mul_tdiv_cancel_left _ (by omega)]
/-- arrays of ints -/
def lz_z (R : Nat → Int32) : Nat → Int := fun k => (R k).toInt
def lz_PD (R S : Nat → Int32) : Prop := mz_PD (lz_z R) (lz_z S)
def lz_T (R S : Nat → Int32) (p s : Nat) : Int := mz_T (lz_z R) (lz_z S) p s
def lz_D (R S : Nat → Int32) (p : Nat) : Int := mz_D (lz_z R) (lz_z S) p
def lz_M (R S : Nat → Int32) (p j : Nat) : Int := mz_M (lz_z R) (lz_z S) p j
/-! indices -/
theorem xi5 (s t : Nat) : (5 : Int32) * nI s + nI t = nI (5 * s + t) := by rw [← nI_add, ← pk_mul]; rfl
theorem xi54 (s : Nat) : (5 : Int32) * nI s + 4 = nI (5 * s + 4) := xi5 s 4
theorem xi4 (s t : Nat) : (4 : Int32) * nI s + nI t = nI (4 * s + t) := by rw [← nI_add, ← pk_mul]; rfl
theorem xi2 (s t : Nat) : (2 : Int32) * nI s + nI t = nI (2 * s + t) := by rw [← nI_add, ← pk_mul]; rfl
theorem xi_bit : ∀ p, p < 16 → ∀ s, s < 4 → (nI p >>> (nI s &&& 31)) &&& 1 = nI (mz_bit p s) := by decide +kernel
theorem xi_sh : ∀ a, a < 2 → ∀ g, g < 4 → (nI g >>> (nI a &&& 31)) &&& 1 = nI (g / 2 ^ a % 2) := by decide +kernel
theorem xi_ac {p s : Nat} (hp : p < 16) (hs : s < 4) : (2 : Int32) * nI s + ((nI p >>> (nI s &&& 31)) &&& 1) = nI (mz_ac p s) := by
  rw [xi_bit p hp s hs, xi2]; rfl
theorem xi_sub (x : Int32) (h0 : 0 ≤ x.toInt) (h4 : x.toInt ≤ 4) (z : Nat) (hz : z < 9) : (nI z - x).toInt64 = lz ((z : Int) - x.toInt) := by
  rw [lz_i, Int32.toInt_sub, nI_toInt (by omega), Int.bmod_eq_of_le (by omega) (by omega)]
end
section
/-! X: evaluate -/
section
variable {post : SX → Prop} {J : Int32 → (Nat → Int32) → (Nat → Int32) → (Nat → Int64) → (Nat → Int64) → (Nat → Int64) → (Nat → Int64) → (Nat → Int32) → Prop} {fb fk : Int64} {fs fp : Int32} {fd : Int64} {R S : Nat → Int32} {W K B : Nat → Int64} {G : Nat → Int32}
theorem xe_49 {J20 : Int32 → (Nat → Int32) → (Nat → Int32) → (Nat → Int64) → (Nat → Int64) → (Nat → Int64) → (Nat → Int64) → (Nat → Int32) → Prop} {x1 : Int32} {s k t : Nat} {z0 v : Int64} {Q : Nat → Int64} (hs : s < 4) (hk : k < 8) (ht : t < 4) (hv : z0 - (S (4 * k + t)).toInt64 = v) (h : J20 (nI (t + 1)) R S (vp_updL Q (5 * s + t) v) W K B G) : wX_fillRows_49 post J J20 x1 (nI s) (nI k) (nI t) z0 (5 * nI s + nI t) fb fk fs fp fd R S Q W K B G :=
  And.intro (pk_in (4 * k + t) 32 (by omega) (xi4 k t)) (And.intro (pk_in (5 * s + t) 20 (by omega) (xi5 s t)) (nm_r (by rw [pk_cl (5 * s + t) (xi5 s t), pk_cl (4 * k + t) (xi4 k t), hv]) (nm_r (nI_1 t) h)))
theorem xe_20 {x1 : Int32} {s k : Nat} {C : Nat → Int64} (hs : s < 4) (hk : k < 8) (h1 : ∀ t, t < 4 → (if s = t then (8 : Int64) else 0) - (S (4 * k + t)).toInt64 = C (5 * s + t)) (h2 : 8 * (R k).toInt64 = C (5 * s + 4)) (hJ : ∀ Q, (∀ j, j < 5 * (s + 1) → Q j = C j) → J (nI (s + 1)) R S Q W K B G) : ∀ d t Q, t + d = 4 → (∀ j, j < 5 * s + t → Q j = C j) → wX_fillRows_20 post J x1 (nI s) (nI k) fb fk fs fp fd (d + 1) (nI t) R S Q W K B G := by
  intro d
  induction d with
  | zero =>
    intro t Q ht hQ
    have e : t = 4 := by omega
    subst e
    refine pk_le 4 4 (fun _ => And.intro (pk_in k 8 hk) (And.intro (pk_in (5 * s + 4) 20 (by omega) (xi54 s)) (nm_r (e' := vp_updL Q (5 * s + 4) (C (5 * s + 4))) ?_ (nm_r (nI_1 s) (hJ _ ?_))))) (fun h => absurd h (by omega))
    · rw [pk_cl (5 * s + 4) (xi54 s), nI_clamp (by omega), h2]
    · intro j hj
      by_cases e : j = 5 * s + 4
      · rw [e, pk_uLs]
      · rw [pk_uLn e]; exact hQ j (by omega)
  | succ d ih =>
    intro t Q ht hQ
    have hn : ∀ j, j < 5 * s + (t + 1) → vp_updL Q (5 * s + t) (C (5 * s + t)) j = C j := by
      intro j hj
      by_cases e : j = 5 * s + t
      · rw [e, pk_uLs]
      · rw [pk_uLn e]; exact hQ j (by omega)
    have hv := h1 t (by omega)
    refine pk_le 4 t (fun h => absurd h (by omega)) (fun _ => pk_eq s t (fun e => ?_) (fun e => ?_))
    · rw [if_pos e] at hv
      exact xe_49 hs hk (by omega) hv (ih (t + 1) _ (by omega) hn)
    · rw [if_neg e] at hv
      exact xe_49 hs hk (by omega) hv (ih (t + 1) _ (by omega) hn)
theorem xe_2 (P : lz_PD R S) {p : Nat} (hp : p < 16) (h : ∀ Q, (∀ j, j < 20 → Q j = lz (lz_M R S p j)) → post (fb, fk, fs, fp, fd, R, S, Q, W, K, B, G)) : ∀ d s Q, s + d = 4 → (∀ j, j < 5 * s → Q j = lz (lz_M R S p j)) → wX_fillRows_2 post (nI p) fb fk fs fp fd (d + 1) (nI s) R S Q W K B G := by
  intro d
  induction d with
  | zero =>
    intro s Q hs hQ
    have e : s = 4 := by omega
    subst e
    exact pk_le 4 4 (fun _ => h Q hQ) (fun h => absurd h (by omega))
  | succ d ih =>
    intro s Q hs hQ
    have hs4 : s < 4 := by omega
    refine pk_le 4 s (fun h => absurd h (by omega)) (fun _ => nm_r (xi_ac hp hs4) ⟨5, xe_20 (C := fun j => lz (lz_M R S p j)) hs4 (mz_ac8 p hs4) ?_ ?_ (fun Q' hQ' => ih (s + 1) Q' (by omega) hQ') 4 0 Q rfl hQ⟩)
    · intro t ht
      show _ = lz (lz_M R S p (5 * s + t))
      unfold lz_M
      rw [mz_Mc p ht, lz_i]
      by_cases e : s = t
      · rw [if_pos e, if_pos e, ← lz_8, lz_sub]; rfl
      · rw [if_neg e, if_neg e, ← lz_0, lz_sub]; rfl
    · show _ = lz (lz_M R S p (5 * s + 4))
      unfold lz_M
      rw [mz_Mr, lz_i, ← lz_8, lz_mul]; rfl
theorem xe_fill (P : lz_PD R S) {p : Nat} (hp : p < 16) {Q : Nat → Int64} (h : ∀ Q, (∀ j, j < 20 → Q j = lz (lz_M R S p j)) → post (fb, fk, fs, fp, fd, R, S, Q, W, K, B, G)) : wpX_fillRows post (fb, fk, fs, fp, fd, R, S, Q, W, K, B, G) (nI p) :=
  ⟨5, xe_2 P hp h 4 0 Q rfl (fun j hj => absurd hj (by omega))⟩
end
/-- the rows at the time m of stage k -/
def xe_I (M : Nat → Int) (k m : Nat) (Q : Nat → Int64) : Prop := ∀ r c, r < 4 → c < 5 → Q (5 * r + c) = lz (if 5 * r + c < m then mz_st M (k + 1) r c else mz_st M k r c)
def xe_OK (M : Nat → Int) : Prop := mz_Bd M ∧ ∀ k, k < 5 → 0 < mz_bf M k
theorem xe_bfb {M : Nat → Int} (O : xe_OK M) : ∀ k, k < 5 → (mz_bf M k).natAbs ≤ 1966080 := by
  intro k hk
  match k, hk with
  | 0, _ => exact (by decide : (1 : Int).natAbs ≤ 1966080)
  | k + 1, hk =>
    rw [mz_h4 M k (by omega)]
    exact mz_bst O.1 (by omega) (k + 1) k hk (by omega)
theorem xe_row {M : Nat → Int} {k m : Nat} {Q : Nat → Int64} (I : xe_I M k m Q) (hk : k < 4) {c : Nat} (hc : c < 5) : Q (5 * k + c) = lz (mz_st M k k c) := by
  rw [I k c hk hc, mz_h2 M c k hk]
  split <;> rfl
section
variable {post : SX → Prop} {fb fk : Int64} {fs fp : Int32} {fd : Int64} {R S : Nat → Int32} {W K B : Nat → Int64} {G : Nat → Int32}
theorem xe_27 {M : Nat → Int} (O : xe_OK M) {k r : Nat} (hk : k < 4) (hr : r < 4) (hn : r ≠ k) (h : ∀ Q, xe_I M k (5 * (r + 1)) Q → post (fb, fk, fs, fp, fd, R, S, Q, W, K, B, G)) : ∀ d c Q, c + d = 5 → xe_I M k (5 * r + c) Q → wX_reduce_27 post (nI r) (nI k) (lz (mz_bf M k)) (lz (mz_st M k k k)) (lz (mz_st M k r k)) fb fk fs fp fd (d + 1) (nI c) R S Q W K B G := by
  have hb := O.2 k (by omega)
  have hbb := xe_bfb O k (by omega)
  intro d
  induction d with
  | zero =>
    intro c Q hc I
    have e : c = 5 := by omega
    subst e
    exact pk_le 5 5 (fun _ => h Q I) (fun h => absurd h (by omega))
  | succ d ih =>
    intro c Q hc I
    have hc5 : c < 5 := by omega
    have e1 : Q (5 * r + c) = lz (mz_st M k r c) := by rw [I r c hr hc5, if_neg (by omega)]
    have e2 : Q (5 * k + c) = lz (mz_st M k k c) := xe_row I hk hc5
    have hz : ¬ lz (mz_bf M k) = 0 := by
      rw [← lz_0, lz_eq (by omega) (by decide)]; omega
    refine pk_le 5 c (fun h => absurd h (by omega)) (fun _ => And.intro (pk_in (5 * r + c) 20 (by omega) (xi5 r c)) (And.intro (pk_in (5 * k + c) 20 (by omega) (xi5 k c)) (And.intro hz (And.intro (pk_in (5 * r + c) 20 (by omega) (xi5 r c)) (nm_r (e' := vp_updL Q (5 * r + c) (lz (mz_st M (k + 1) r c))) ?_ (nm_r (nI_1 c) (ih (c + 1) _ (by omega) ?_)))))))
    · rw [pk_cl (5 * r + c) (xi5 r c), pk_cl (5 * k + c) (xi5 k c), e1, e2, lz_even (mz_h1 M c k hk r hr hn) hb hbb (mz_bst O.1 hc5 (k + 1) r (by omega) hr)]
    · intro r' c' hr' hc'
      by_cases e : 5 * r' + c' = 5 * r + c
      · have er : r' = r := by omega
        have ec : c' = c := by omega
        subst er ec
        rw [pk_uLs, if_pos (by omega)]
      · rw [pk_uLn e, I r' c' hr' hc']
        by_cases l : 5 * r' + c' < 5 * r + c
        · rw [if_pos l, if_pos (by omega)]
        · rw [if_neg l, if_neg (by omega)]
theorem xe_red {M : Nat → Int} (O : xe_OK M) {k r : Nat} (hk : k < 4) (hr : r < 4) (hn : r ≠ k) {Q : Nat → Int64} (I : xe_I M k (5 * r) Q) (h : ∀ Q, xe_I M k (5 * (r + 1)) Q → post (fb, fk, fs, fp, fd, R, S, Q, W, K, B, G)) : wpX_reduce post (fb, fk, fs, fp, fd, R, S, Q, W, K, B, G) (nI r) (nI k) (lz (mz_bf M k)) := by
  refine And.intro (pk_in (5 * k + k) 20 (by omega) (xi5 k k)) (nm_r (e' := lz (mz_st M k k k)) ?_ (And.intro (pk_in (5 * r + k) 20 (by omega) (xi5 r k)) (nm_r (e' := lz (mz_st M k r k)) ?_ ⟨6, xe_27 O hk hr hn h 5 0 Q rfl I⟩)))
  · rw [pk_cl (5 * k + k) (xi5 k k)]
    exact xe_row I hk (by omega)
  · rw [pk_cl (5 * r + k) (xi5 r k), I r k hr (by omega), if_neg (by omega)]
theorem xe_19 {M : Nat → Int} (O : xe_OK M) {J : Int64 → Int32 → Int64 → Int64 → Int32 → Int32 → Int64 → (Nat → Int32) → (Nat → Int32) → (Nat → Int64) → (Nat → Int64) → (Nat → Int64) → (Nat → Int64) → (Nat → Int32) → Prop} {k : Nat} (hk : k < 4) (h : ∀ Q, xe_I M k 20 Q → J (lz (mz_bf M (k + 1))) (nI (k + 1)) fb fk fs fp fd R S Q W K B G) : ∀ d r Q, r + d = 4 → xe_I M k (5 * r) Q → wX_evaluate_19 post J (lz (mz_bf M k)) (nI k) (d + 1) (nI r) fb fk fs fp fd R S Q W K B G := by
  intro d
  induction d with
  | zero =>
    intro r Q hr I
    have e : r = 4 := by omega
    subst e
    refine pk_le 4 4 (fun _ => And.intro (pk_in (5 * k + k) 20 (by omega) (xi5 k k)) (nm_r (e' := lz (mz_bf M (k + 1))) ?_ (nm_r (nI_1 k) (h Q I)))) (fun h => absurd h (by omega))
    rw [pk_cl (5 * k + k) (xi5 k k), mz_h4 M k hk, mz_h2 M k k hk]
    exact xe_row I hk (by omega)
  | succ d ih =>
    intro r Q hr I
    refine pk_le 4 r (fun h => absurd h (by omega)) (fun _ => pk_eq r k (fun e => nm_r (nI_1 r) (ih (r + 1) Q (by omega) ?_)) (fun e => ?_))
    · intro r' c' hr' hc'
      rw [I r' c' hr' hc']
      by_cases e' : r' = k
      · subst e'
        rw [mz_h2 M c' r' hk]
        split <;> split <;> rfl
      · by_cases l : 5 * r' + c' < 5 * r
        · rw [if_pos l, if_pos (by omega)]
        · rw [if_neg l, if_neg (by omega)]
    · refine xe_red O hk (by omega) e I (fun Q' I' => ?_)
      exact nm_r (nI_1 r) (ih (r + 1) Q' (by omega) I')
theorem xe_74 {Q : Nat → Int64} (h : ∀ W, (∀ t, t < 4 → W t = Q (5 * t + 4)) → post (fb, fk, fs, fp, fd, R, S, Q, W, K, B, G)) : ∀ d s W, s + d = 4 → (∀ t, t < s → W t = Q (5 * t + 4)) → wX_evaluate_74 post fb fk fs fp fd (d + 1) (nI s) R S Q W K B G := by
  intro d
  induction d with
  | zero =>
    intro s W hs hW
    have e : s = 4 := by omega
    subst e
    exact pk_le 4 4 (fun _ => h W hW) (fun h => absurd h (by omega))
  | succ d ih =>
    intro s W hs hW
    refine pk_le 4 s (fun h => absurd h (by omega)) (fun _ => And.intro (pk_in (5 * s + 4) 20 (by omega) (xi54 s)) (And.intro (pk_in s 4 (by omega)) (nm_r (e' := vp_updL W s (Q (5 * s + 4))) ?_ (nm_r (nI_1 s) (ih (s + 1) _ (by omega) ?_)))))
    · rw [pk_cl (5 * s + 4) (xi54 s), nI_clamp (by omega)]
    · intro t ht
      by_cases e : t = s
      · rw [e, pk_uLs]
      · rw [pk_uLn e]; exact hW t (by omega)
theorem xe_10 {M : Nat → Int} (O : xe_OK M) (h : ∀ Q W, (∀ t, t < 4 → W t = lz (mz_st M 4 t 4)) → post (lz (mz_bf M 4), fk, fs, fp, fd, R, S, Q, W, K, B, G)) : ∀ d k Q, k + d = 4 → xe_I M k 0 Q → wX_evaluate_10 post (d + 1) (lz (mz_bf M k)) (nI k) fb fk fs fp fd R S Q W K B G := by
  intro d
  induction d with
  | zero =>
    intro k Q hk I
    have e : k = 4 := by omega
    subst e
    refine pk_le 4 4 (fun _ => ⟨5, xe_74 (fun W' hW' => h Q W' (fun t ht => ?_)) 4 0 W rfl (fun t ht => absurd ht (by omega))⟩) (fun h => absurd h (by omega))
    rw [hW' t ht, I t 4 ht (by omega), if_neg (by omega)]
  | succ d ih =>
    intro k Q hk I
    refine pk_le 4 k (fun h => absurd h (by omega)) (fun _ => ⟨5, xe_19 O (by omega) (fun Q' I' => ih (k + 1) Q' (by omega) (fun r c hr hc => ?_)) 4 0 Q rfl I⟩)
    rw [I' r c hr hc, if_pos (by omega), if_neg (by omega)]
theorem xe_ok (P : lz_PD R S) (p : Nat) : xe_OK (lz_M R S p) := ⟨mz_bdM P p, mz_pM P p⟩
theorem xe_eval (P : lz_PD R S) {p : Nat} (hp : p < 16) {Q : Nat → Int64} (h : ∀ Q W, (∀ t, t < 4 → W t = lz (lz_T R S p t)) → post (lz (lz_D R S p), fk, fs, fp, fd, R, S, Q, W, K, B, G)) : wpX_evaluate post (fb, fk, fs, fp, fd, R, S, Q, W, K, B, G) (nI p) := by
  refine xe_fill P hp (fun Q' hQ' => ?_)
  show ∃ n10 : Nat, wX_evaluate_10 post n10 1 0 fb fk fs fp fd R S Q' W K B G
  refine ⟨5, ?_⟩
  have k := xe_10 (W := W) (fb := fb) (xe_ok P p) h 4 0 Q' rfl (fun r c hr hc => by
    rw [if_neg (by omega)]
    exact hQ' (5 * r + c) (by omega))
  rw [show mz_bf (lz_M R S p) 0 = 1 from rfl, lz_1] at k
  exact k
end
end
section
/-! Y: solve -/
section
variable {post : SY → Prop} {J : Int32 → (Nat → Int32) → (Nat → Int32) → (Nat → Int64) → (Nat → Int64) → (Nat → Int64) → Prop} {R S : Nat → Int32} {W V : Nat → Int64}
theorem ye_48 {J20 : Int32 → (Nat → Int32) → (Nat → Int32) → (Nat → Int64) → (Nat → Int64) → (Nat → Int64) → Prop} {x1 z0 : Int32} {s k t : Nat} {v : Int64} {Q : Nat → Int64} (hs : s < 4) (hk : k < 8) (ht : t < 4) (hv : (z0 - S (4 * k + t)).toInt64 = v) (h : J20 (nI (t + 1)) R S (vp_updL Q (5 * s + t) v) W V) : wY_write_48 post J J20 x1 (nI s) (nI k) (nI t) z0 (5 * nI s + nI t) R S Q W V :=
  And.intro (pk_in (4 * k + t) 32 (by omega) (xi4 k t)) (And.intro (pk_in (5 * s + t) 20 (by omega) (xi5 s t)) (nm_r (by rw [pk_cl (5 * s + t) (xi5 s t), pk_cl (4 * k + t) (xi4 k t), hv]) (nm_r (nI_1 t) h)))
theorem ye_20 {x1 : Int32} {s k : Nat} {C : Nat → Int64} (hs : s < 4) (hk : k < 8) (h1 : ∀ t, t < 4 → ((if s = t then (8 : Int32) else 0) - S (4 * k + t)).toInt64 = C (5 * s + t)) (h2 : 8 * (R k).toInt64 = C (5 * s + 4)) (hJ : ∀ Q, (∀ j, j < 5 * (s + 1) → Q j = C j) → J (nI (s + 1)) R S Q W V) : ∀ d t Q, t + d = 4 → (∀ j, j < 5 * s + t → Q j = C j) → wY_write_20 post J x1 (nI s) (nI k) (d + 1) (nI t) R S Q W V := by
  intro d
  induction d with
  | zero =>
    intro t Q ht hQ
    have e : t = 4 := by omega
    subst e
    refine pk_le 4 4 (fun _ => And.intro (pk_in k 8 hk) (And.intro (pk_in (5 * s + 4) 20 (by omega) (xi54 s)) (nm_r (e' := vp_updL Q (5 * s + 4) (C (5 * s + 4))) ?_ (nm_r (nI_1 s) (hJ _ ?_))))) (fun h => absurd h (by omega))
    · rw [pk_cl (5 * s + 4) (xi54 s), nI_clamp (by omega), h2]
    · intro j hj
      by_cases e : j = 5 * s + 4
      · rw [e, pk_uLs]
      · rw [pk_uLn e]; exact hQ j (by omega)
  | succ d ih =>
    intro t Q ht hQ
    have hn : ∀ j, j < 5 * s + (t + 1) → vp_updL Q (5 * s + t) (C (5 * s + t)) j = C j := by
      intro j hj
      by_cases e : j = 5 * s + t
      · rw [e, pk_uLs]
      · rw [pk_uLn e]; exact hQ j (by omega)
    have hv := h1 t (by omega)
    refine pk_le 4 t (fun h => absurd h (by omega)) (fun _ => pk_eq s t (fun e => ?_) (fun e => ?_))
    · rw [if_pos e] at hv
      exact ye_48 hs hk (by omega) hv (ih (t + 1) _ (by omega) hn)
    · rw [if_neg e] at hv
      exact ye_48 hs hk (by omega) hv (ih (t + 1) _ (by omega) hn)
theorem ye_2 (P : lz_PD R S) {p : Nat} (hp : p < 16) (h : ∀ Q, (∀ j, j < 20 → Q j = lz (lz_M R S p j)) → post (R, S, Q, W, V)) : ∀ d s Q, s + d = 4 → (∀ j, j < 5 * s → Q j = lz (lz_M R S p j)) → wY_write_2 post (nI p) (d + 1) (nI s) R S Q W V := by
  intro d
  induction d with
  | zero =>
    intro s Q hs hQ
    have e : s = 4 := by omega
    subst e
    exact pk_le 4 4 (fun _ => h Q hQ) (fun h => absurd h (by omega))
  | succ d ih =>
    intro s Q hs hQ
    have hs4 : s < 4 := by omega
    refine pk_le 4 s (fun h => absurd h (by omega)) (fun _ => nm_r (xi_ac hp hs4) ⟨5, ye_20 (C := fun j => lz (lz_M R S p j)) hs4 (mz_ac8 p hs4) ?_ ?_ (fun Q' hQ' => ih (s + 1) Q' (by omega) hQ') 4 0 Q rfl hQ⟩)
    · intro t ht
      show _ = lz (lz_M R S p (5 * s + t))
      have b := mz_sg4 P (mz_ac8 p hs4) ht
      unfold lz_M
      rw [mz_Mc p ht]
      by_cases e : s = t
      · rw [if_pos e, if_pos e]
        exact xi_sub _ b.1 b.2 8 (by decide)
      · rw [if_neg e, if_neg e]
        exact xi_sub _ b.1 b.2 0 (by decide)
    · show _ = lz (lz_M R S p (5 * s + 4))
      unfold lz_M
      rw [mz_Mr, lz_i, ← lz_8, lz_mul]; rfl
theorem ye_write (P : lz_PD R S) {p : Nat} (hp : p < 16) {Q : Nat → Int64} (h : ∀ Q, (∀ j, j < 20 → Q j = lz (lz_M R S p j)) → post (R, S, Q, W, V)) : wpY_write post (R, S, Q, W, V) (nI p) :=
  ⟨5, ye_2 P hp h 4 0 Q rfl (fun j hj => absurd hj (by omega))⟩
end
/-- the cell of row s, column t, with the right side put in place of column 'put' -/
def ye_c (M : Nat → Int) (put s t : Nat) : Int := M (5 * s + (if t = put then 4 else t))
def ye_m (M : Nat → Int) (put a b c : Nat) : Int := mz_3 (ye_c M put 1 a) (ye_c M put 1 b) (ye_c M put 1 c) (ye_c M put 2 a) (ye_c M put 2 b) (ye_c M put 2 c) (ye_c M put 3 a) (ye_c M put 3 b) (ye_c M put 3 c)
def ye_d (M : Nat → Int) (put : Nat) : Int := mz_4 (ye_c M put 0 0) (ye_c M put 0 1) (ye_c M put 0 2) (ye_c M put 0 3) (ye_c M put 1 0) (ye_c M put 1 1) (ye_c M put 1 2) (ye_c M put 1 3) (ye_c M put 2 0) (ye_c M put 2 1) (ye_c M put 2 2) (ye_c M put 2 3) (ye_c M put 3 0) (ye_c M put 3 1) (ye_c M put 3 2) (ye_c M put 3 3)
section
variable {post : Int64 → Prop} {R S : Nat → Int32} {Q W V : Nat → Int64} {M : Nat → Int}
theorem ye_at (hQ : ∀ j, j < 20 → Q j = lz (M j)) {put s t : Nat} (hs : s < 4) (ht : t < 4) (hp : put < 5) (h : post (lz (ye_c M put s t))) : wpY_at post (R, S, Q, W, V) (nI s) (nI t) (nI put) := by
  unfold ye_c at h
  refine pk_eq t put (fun e => And.intro (pk_in (5 * s + 4) 20 (by omega) (xi54 s)) ?_) (fun e => And.intro (pk_in (5 * s + t) 20 (by omega) (xi5 s t)) ?_)
  · rw [if_pos e] at h
    rw [pk_cl (5 * s + 4) (xi54 s), hQ _ (by omega)]
    exact h
  · rw [if_neg e] at h
    rw [pk_cl (5 * s + t) (xi5 s t), hQ _ (by omega)]
    exact h
theorem ye_32 (hQ : ∀ j, j < 20 → Q j = lz (M j)) {put a b c : Nat} (hp : put < 5) (ha : a < 4) (hb : b < 4) (hc : c < 4) (h : post (lz (ye_m M put a b c))) : wY_minor_32 post (nI put) (nI a) (nI b) (nI c) R S Q W V := by
  unfold wY_minor_32
  have at1 : ∀ {po : Int64 → Prop} {t : Nat}, t < 4 → po (lz (ye_c M put 1 t)) → wpY_at po (R, S, Q, W, V) 1 (nI t) (nI put) := fun ht hh => ye_at (s := 1) hQ (by decide) ht hp hh
  have at2 : ∀ {po : Int64 → Prop} {t : Nat}, t < 4 → po (lz (ye_c M put 2 t)) → wpY_at po (R, S, Q, W, V) 2 (nI t) (nI put) := fun ht hh => ye_at (s := 2) hQ (by decide) ht hp hh
  have at3 : ∀ {po : Int64 → Prop} {t : Nat}, t < 4 → po (lz (ye_c M put 3 t)) → wpY_at po (R, S, Q, W, V) 3 (nI t) (nI put) := fun ht hh => ye_at (s := 3) hQ (by decide) ht hp hh
  refine at2 hb (at3 hc (at2 hc (at3 hb (nm_e (at2 ha (at3 hc (at2 hc (at3 ha (nm_e (at2 ha (at3 hb (at2 hb (at3 ha (nm_e (at1 ha (at1 hb (at1 hc ?_)))))))))))))))))
  rw [lz_mul, lz_mul, lz_sub, lz_mul, lz_mul, lz_mul, lz_sub, lz_mul, lz_sub, lz_mul, lz_mul, lz_sub, lz_mul, lz_add]
  exact h
theorem ye_minor (hQ : ∀ j, j < 20 → Q j = lz (M j)) {put : Nat} (hp : put < 5) : ∀ l, l < 4 → post (lz (ye_m M put (if l = 0 then 1 else 0) (if l ≤ 1 then 2 else 1) (if l ≤ 2 then 3 else 2))) → wpY_minor post (R, S, Q, W, V) (nI l) (nI put) := by
  have q9 : ∀ {l a b c : Nat}, l < 4 → a < 4 → b = (if l ≤ 1 then 2 else 1) → c = (if l ≤ 2 then 3 else 2) → post (lz (ye_m M put a b c)) → wY_minor_9 post (nI l) (nI put) (nI a) R S Q W V := by
    intro l a b c hl ha hb hc h
    have q20 : ∀ b', b' = b → b < 4 → wY_minor_20 post (nI l) (nI put) (nI a) (nI b') R S Q W V := by
      intro b' e hb4
      subst e
      unfold wY_minor_20
      refine pk_lt 2 l (fun g => ?_) (fun g => ?_)
      · rw [if_neg (by omega)] at hc
        subst hc
        exact ye_32 hQ hp ha hb4 (by decide) h
      · rw [if_pos (by omega)] at hc
        subst hc
        exact ye_32 hQ hp ha hb4 (by decide) h
    unfold wY_minor_9
    refine pk_lt 1 l (fun g => ?_) (fun g => ?_)
    · rw [if_neg (by omega)] at hb
      exact q20 1 hb.symm (by omega)
    · rw [if_pos (by omega)] at hb
      exact q20 2 hb.symm (by omega)
  intro l hl h
  refine pk_eq l 0 (fun e => ?_) (fun e => ?_)
  · rw [if_pos e] at h
    exact q9 (a := 1) hl (by decide) rfl rfl h
  · rw [if_neg e] at h
    exact q9 (a := 0) hl (by decide) rfl rfl h
theorem ye_det (hQ : ∀ j, j < 20 → Q j = lz (M j)) {put : Nat} (hp : put < 5) (h : post (lz (ye_d M put))) : wpY_determinant post (R, S, Q, W, V) (nI put) := by
  refine ⟨5, ?_⟩
  have at0 : ∀ {po : Int64 → Prop} {t : Nat}, t < 4 → po (lz (ye_c M put 0 t)) → wpY_at po (R, S, Q, W, V) 0 (nI t) (nI put) := fun ht hh => ye_at (s := 0) hQ (by decide) ht hp hh
  have st : ∀ (n : Nat) (x : Int) (t : Nat), t < 4 → wY_determinant_5 post (nI put) R S Q W V n (lz (if t % 2 = 0 then x + ye_c M put 0 t * ye_m M put (if t = 0 then 1 else 0) (if t ≤ 1 then 2 else 1) (if t ≤ 2 then 3 else 2) else x + -(ye_c M put 0 t * ye_m M put (if t = 0 then 1 else 0) (if t ≤ 1 then 2 else 1) (if t ≤ 2 then 3 else 2)))) (nI (t + 1)) → wY_determinant_5 post (nI put) R S Q W V (n + 1) (lz x) (nI t) := by
    intro n x t ht k
    refine pk_le 4 t (fun h => absurd h (by omega)) (fun _ => at0 ht (ye_minor hQ hp t ht (nm_r (lz_mul _ _) (And.intro (by decide) ?_))))
    refine pk_eq (t % 2) 0 (fun e => ?_) (fun e => ?_) (pk_rem (d := 2) (by omega) (by decide) (by decide))
    · rw [if_pos e] at k
      exact nm_r (lz_add _ _) (nm_r (nI_1 t) k)
    · rw [if_neg e] at k
      refine nm_r ?_ (nm_r (nI_1 t) k)
      rw [lz_neg, lz_add]
  have fin : ∀ (n : Nat) (x : Int), post (lz x) → wY_determinant_5 post (nI put) R S Q W V (n + 1) (lz x) (nI 4) := fun n x hx => pk_le 4 4 (fun _ => hx) (fun h => absurd h (by omega))
  refine st 4 0 0 (by decide) (st 3 _ 1 (by decide) (st 2 _ 2 (by decide) (st 1 _ 3 (by decide) (fin 0 _ ?_))))
  have e : (((0 + ye_c M put 0 0 * ye_m M put 1 2 3) + -(ye_c M put 0 1 * ye_m M put 0 2 3)) + ye_c M put 0 2 * ye_m M put 0 1 3) + -(ye_c M put 0 3 * ye_m M put 0 1 2) = ye_d M put := by
    unfold ye_d mz_4
    show (((0 + ye_c M put 0 0 * ye_m M put 1 2 3) + -(ye_c M put 0 1 * ye_m M put 0 2 3)) + ye_c M put 0 2 * ye_m M put 0 1 3) + -(ye_c M put 0 3 * ye_m M put 0 1 2) = ye_c M put 0 0 * ye_m M put 1 2 3 - ye_c M put 0 1 * ye_m M put 0 2 3 + ye_c M put 0 2 * ye_m M put 0 1 3 - ye_c M put 0 3 * ye_m M put 0 1 2
    omega
  show post (lz ((((0 + ye_c M put 0 0 * ye_m M put 1 2 3) + -(ye_c M put 0 1 * ye_m M put 0 2 3)) + ye_c M put 0 2 * ye_m M put 0 1 3) + -(ye_c M put 0 3 * ye_m M put 0 1 2)))
  rw [e]
  exact h
end
theorem ye_dT (R S : Nat → Int32) (p : Nat) : ∀ s, s < 4 → ye_d (lz_M R S p) s = lz_T R S p s := by
  apply mz_lt4 <;> rfl
theorem ye_dD (R S : Nat → Int32) (p : Nat) : ye_d (lz_M R S p) 4 = lz_D R S p := rfl
/-- what solve leaves -/
def ye_F (R S : Nat → Int32) (n : Nat) (W V : Nat → Int64) : Prop := ∀ q, q < n → ∀ s, s < 4 → W (4 * q + s) = lz (lz_T R S q s) ∧ V (4 * q + s) = lz (lz_D R S q)
section
variable {post : SY → Prop} {R S : Nat → Int32} {Q : Nat → Int64}
theorem ye_22 {J : Int32 → (Nat → Int32) → (Nat → Int32) → (Nat → Int64) → (Nat → Int64) → (Nat → Int64) → Prop} {p : Nat} (hp : p < 16) (hQ : ∀ j, j < 20 → Q j = lz (lz_M R S p j)) (h : ∀ W V, ye_F R S (p + 1) W V → J (nI (p + 1)) R S Q W V) : ∀ d s W V, s + d = 4 → ye_F R S p W V → (∀ t, t < s → W (4 * p + t) = lz (lz_T R S p t) ∧ V (4 * p + t) = lz (lz_D R S p)) → wY_solve_22 post J (nI p) (lz (lz_D R S p)) (d + 1) (nI s) R S Q W V := by
  intro d
  induction d with
  | zero =>
    intro s W V hs hF hT
    have e : s = 4 := by omega
    subst e
    refine pk_le 4 4 (fun _ => nm_r (nI_1 p) (h W V ?_)) (fun h => absurd h (by omega))
    intro q hq t ht
    by_cases e : q = p
    · rw [e]; exact hT t ht
    · exact hF q (by omega) t ht
  | succ d ih =>
    intro s W V hs hF hT
    refine pk_le 4 s (fun h => absurd h (by omega)) (fun _ => ye_det hQ (by omega) ?_)
    rw [ye_dT R S p s (by omega)]
    refine And.intro (pk_in (4 * p + s) 64 (by omega) (xi4 p s)) (nm_r (e' := vp_updL W (4 * p + s) (lz (lz_T R S p s))) ?_ (And.intro (pk_in (4 * p + s) 64 (by omega) (xi4 p s)) (nm_r (e' := vp_updL V (4 * p + s) (lz (lz_D R S p))) ?_ (nm_r (nI_1 s) (ih (s + 1) _ _ (by omega) ?_ ?_)))))
    · rw [pk_cl (4 * p + s) (xi4 p s)]
    · rw [pk_cl (4 * p + s) (xi4 p s)]
    · intro q hq t ht
      rw [pk_uLn (by omega), pk_uLn (by omega)]
      exact hF q hq t ht
    · intro t ht
      by_cases e : t = s
      · rw [e, pk_uLs, pk_uLs]; exact ⟨rfl, rfl⟩
      · rw [pk_uLn (by omega), pk_uLn (by omega)]; exact hT t (by omega)
theorem ye_s2 (P : lz_PD R S) (h : ∀ Q W V, ye_F R S 16 W V → post (R, S, Q, W, V)) : ∀ d p Q W V, p + d = 16 → ye_F R S p W V → wY_solve_2 post (d + 1) (nI p) R S Q W V := by
  intro d
  induction d with
  | zero =>
    intro p Q W V hp hF
    have e : p = 16 := by omega
    subst e
    exact pk_le 16 16 (fun _ => h Q W V hF) (fun h => absurd h (by omega))
  | succ d ih =>
    intro p Q W V hp hF
    refine pk_le 16 p (fun h => absurd h (by omega)) (fun _ => ye_write P (by omega) (fun Q' hQ' => ?_))
    refine ye_det (put := 4) hQ' (by decide) ?_
    rw [ye_dD]
    exact ⟨5, ye_22 (by omega) hQ' (fun W' V' hF' => ih (p + 1) Q' W' V' (by omega) hF') 4 0 W V rfl hF (fun t ht => absurd ht (by omega))⟩
theorem ye_solve (P : lz_PD R S) {W V : Nat → Int64} (h : ∀ Q W V, ye_F R S 16 W V → post (R, S, Q, W, V)) : wpY_solve post (R, S, Q, W, V) :=
  ⟨17, ye_s2 P h 16 0 Q W V rfl (fun q hq => absurd hq (by omega))⟩
end
end
section
/-! lowest terms on both sides -/
def xg_g (t b : Int) : Nat := Nat.gcd t.natAbs b.natAbs
def xg_t (t b : Int) : Int32 := (lz (t.tdiv (xg_g t b))).toInt32
def xg_b (t b : Int) : Int32 := (lz (b.tdiv (xg_g t b))).toInt32
theorem xg_pos (t : Int) {b : Int} (h : 0 < b) : 0 < xg_g t b := Nat.gcd_pos_of_pos_right _ (by omega)
theorem xg_le (t : Int) {b : Int} (h : 0 < b) (k : b.natAbs ≤ 1966080) : xg_g t b ≤ 1966080 := Nat.le_trans (Nat.le_of_dvd (by omega) (Nat.gcd_dvd_right _ _)) k
theorem xg_nz (t : Int) {b : Int} (h : 0 < b) (k : b.natAbs ≤ 1966080) : ¬ lN (xg_g t b) = 0 := by
  have h1 := xg_pos t h
  have h2 := xg_le t h k
  rw [show (0 : Int64) = lN 0 from rfl, pk_lEQ (by omega) (by decide)]
  omega
theorem xg_div {z : Int} (hz : z.natAbs ≤ 1966080) {g : Nat} (hg : g ≤ 1966080) : lz z / lN g = lz (z.tdiv g) := by
  rw [← lz_n, lz_div (by omega) (by omega)]
theorem xg_abs {t : Int} (h : t.natAbs ≤ 1966080) : (0 ≤ lz t ↔ 0 ≤ t) ∧ (0 ≤ t → lz t = lN t.natAbs) ∧ (¬ 0 ≤ t → -lz t = lN t.natAbs) := by
  refine ⟨?_, fun k => ?_, fun k => ?_⟩
  · rw [← lz_0, lz_le (by decide) (by omega)]
  · rw [← lz_n]; exact congrArg lz (by omega)
  · rw [← lz_n, lz_neg]; exact congrArg lz (by omega)
theorem xg_eq {t1 t2 b1 b2 : Int} (h1 : 0 < b1) (h2 : 0 < b2) (h : t1 * b2 = t2 * b1) : xg_t t1 b1 = xg_t t2 b2 ∧ xg_b t1 b1 = xg_b t2 b2 := by
  have k := mz_lowI h1 h2 h
  unfold xg_t xg_b xg_g
  rw [k.1, k.2]
  exact ⟨rfl, rfl⟩
section
variable {post : Int64 → Prop} {fb fk : Int64} {fs fp : Int32} {fd : Int64} {R S : Nat → Int32} {Q W K B : Nat → Int64} {G : Nat → Int32}
theorem xg_17 : ∀ (n x y : Nat), x < n → x < 2 ^ 31 → y < 2 ^ 31 → post (lN (Nat.gcd x y)) → wX_commonDivisor_17 post fb fk fs fp fd R S Q W K B G n (lN x) (lN y) := by
  intro n
  induction n with
  | zero => intro x y h; omega
  | succ n ih =>
    intro x y hn hx hy h
    by_cases e : x = 0
    · subst e
      rw [Nat.gcd_zero_left] at h
      exact br_t rfl h
    · have ne : ¬ lN x = 0 := by
        rw [show (0 : Int64) = lN 0 from rfl, pk_lEQ (by omega) (by decide)]
        exact e
      rw [Nat.gcd_rec] at h
      have hm := Nat.mod_lt y (Nat.pos_of_ne_zero e)
      exact br_f ne (And.intro ne (nm_r (pk_lRem (by omega) (by omega) (by omega)) (ih (y % x) x (by omega) (by omega) hx h)))
theorem xg_cd {t b : Int} (ht : t.natAbs ≤ 1966080) (hb : 0 < b) (hb2 : b.natAbs ≤ 1966080) (h : post (lN (xg_g t b))) : wpX_commonDivisor post (fb, fk, fs, fp, fd, R, S, Q, W, K, B, G) (lz t) (lz b) := by
  have a := xg_abs ht
  have eb : lz b = lN b.natAbs := (xg_abs hb2).2.1 (by omega)
  by_cases s : 0 ≤ t
  · refine br_t (a.1.mpr s) ⟨t.natAbs + 1, ?_⟩
    rw [a.2.1 s, eb]
    exact xg_17 _ _ _ (by omega) (by omega) (by omega) h
  · refine br_f (fun c => s (a.1.mp c)) (nm_r (a.2.2 s) ⟨t.natAbs + 1, ?_⟩)
    rw [eb]
    exact xg_17 _ _ _ (by omega) (by omega) (by omega) h
end
section
variable {post : Int32 → Prop} {fb fk : Int64} {fs fp : Int32} {fd : Int64} {R S : Nat → Int32} {Q W K B : Nat → Int64} {G : Nat → Int32}
theorem xg_top {t b : Int} (ht : t.natAbs ≤ 1966080) (hb : 0 < b) (hb2 : b.natAbs ≤ 1966080) (h : post (xg_t t b)) : wpX_lowestTop post (fb, fk, fs, fp, fd, R, S, Q, W, K, B, G) (lz t) (lz b) := by
  refine xg_cd ht hb hb2 (And.intro (xg_nz t hb hb2) ?_)
  rw [xg_div ht (xg_le t hb hb2)]
  exact h
theorem xg_bot {t b : Int} (ht : t.natAbs ≤ 1966080) (hb : 0 < b) (hb2 : b.natAbs ≤ 1966080) (h : post (xg_b t b)) : wpX_lowestBottom post (fb, fk, fs, fp, fd, R, S, Q, W, K, B, G) (lz t) (lz b) := by
  refine xg_cd ht hb hb2 (And.intro (xg_nz t hb hb2) ?_)
  rw [xg_div hb2 (xg_le t hb hb2)]
  exact h
end
/-! Y: ninety rounds are enough -/
theorem yg_half {a c : Nat} (h0 : 0 < c) (h : c < a) : 2 * (a % c) < a := by
  by_cases e : 2 * c ≤ a
  · have := Nat.mod_lt a h0
    omega
  · have e2 : a % c = a - c := by
      rw [Nat.mod_eq_sub_mod (by omega), Nat.mod_eq_of_lt (by omega)]
    omega
section
variable {post : Int64 → Prop} {R S : Nat → Int32} {Q W V : Nat → Int64}
theorem yg_idle {b : Nat} (h0 : 0 < b) (hb : b < 2 ^ 31) (h : post (lN b)) : ∀ d k, k + d = 90 → wY_common_39 post R S Q W V (d + 1) (lN 0) (lN b) (nI k) := by
  intro d
  induction d with
  | zero =>
    intro k hk
    have e : k = 90 := by omega
    subst e
    refine pk_le 90 90 (fun _ => br_t ?_ h) (fun h => absurd h (by omega))
    rw [show (1 : Int64) = lN 1 from rfl, pk_lLE (by decide) (by omega)]
    exact h0
  | succ d ih =>
    intro k hk
    exact pk_le 90 k (fun h => absurd h (by omega)) (fun _ => br_t rfl (nm_r (nI_1 k) (ih (k + 1) (by omega))))
theorem yg_step {a b k n : Nat} (hk : k < 90) (ha : 0 < a) (ha2 : a < 2 ^ 31) (hb : b < 2 ^ 31) (h : wY_common_39 post R S Q W V n (lN (b % a)) (lN a) (nI (k + 1))) : wY_common_39 post R S Q W V (n + 1) (lN a) (lN b) (nI k) := by
  have ne : ¬ lN a = 0 := by
    rw [show (0 : Int64) = lN 0 from rfl, pk_lEQ (by omega) (by decide)]
    omega
  exact pk_le 90 k (fun h => absurd h (by omega)) (fun _ => br_f ne (br_f ne (And.intro ne (nm_r (pk_lRem (by omega) (by omega) (by omega)) (nm_r (nI_1 k) h)))))
theorem yg_39 : ∀ m a b k d, a < 2 ^ m → a < 2 ^ 31 → b < 2 ^ 31 → 0 < b → k + 2 * m ≤ 90 → k + d = 90 → post (lN (Nat.gcd a b)) → wY_common_39 post R S Q W V (d + 1) (lN a) (lN b) (nI k) := by
  intro m
  induction m with
  | zero =>
    intro a b k d ha _ hb h0 hk hd h
    have e : a = 0 := by omega
    subst e
    rw [Nat.gcd_zero_left] at h
    exact yg_idle h0 hb h d k hd
  | succ m ih =>
    intro a b k d ha ha2 hb h0 hk hd h
    by_cases e : a = 0
    · subst e
      rw [Nat.gcd_zero_left] at h
      exact yg_idle h0 hb h d k hd
    · obtain ⟨d', rfl⟩ : ∃ d', d = d' + 1 + 1 := ⟨d - 2, by omega⟩
      have hm := Nat.mod_lt b (Nat.pos_of_ne_zero e)
      refine yg_step (by omega) (by omega) ha2 hb ?_
      rw [Nat.gcd_rec] at h
      by_cases e2 : b % a = 0
      · rw [e2, Nat.gcd_zero_left] at h
        rw [e2]
        exact yg_idle (by omega) ha2 h (d' + 1) (k + 1) (by omega)
      · rw [Nat.gcd_rec] at h
        have hh := yg_half (Nat.pos_of_ne_zero e2) hm
        have hp : 2 ^ (m + 1) = 2 * 2 ^ m := by rw [Nat.pow_succ, Nat.mul_comm]
        refine yg_step (by omega) (by omega) (by omega) ha2 ?_
        exact ih (a % (b % a)) (b % a) (k + 1 + 1) d' (by omega) (by omega) (by omega) (by omega) (by omega) (by omega) h
theorem yg_27 {k : Nat} (hk : k < 64) {t b : Int} (ht : t.natAbs ≤ 1966080) (hb : 0 < b) (hb2 : b.natAbs ≤ 1966080) (eV : V k = lz b) (h : post (lN (xg_g t b))) : wY_common_27 post (nI k) (lN t.natAbs) R S Q W V := by
  have eb : lz b = lN b.natAbs := (xg_abs hb2).2.1 (by omega)
  refine And.intro (pk_in k 64 hk) (nm_r (e' := lN b.natAbs) ?_ ⟨91, ?_⟩)
  · rw [nI_clamp (by omega), eV, eb]
  · exact yg_39 21 _ _ 0 90 (by omega) (by omega) (by omega) (by omega) (by omega) (by omega) h
theorem yg_com {k : Nat} (hk : k < 64) {t b : Int} (ht : t.natAbs ≤ 1966080) (hb : 0 < b) (hb2 : b.natAbs ≤ 1966080) (eW : W k = lz t) (eV : V k = lz b) (h : post (lN (xg_g t b))) : wpY_common post (R, S, Q, W, V) (nI k) := by
  have a := xg_abs ht
  refine And.intro (pk_in k 64 hk) ?_
  rw [nI_clamp (by omega), eW]
  by_cases s : 0 ≤ t
  · refine br_t (a.1.mpr s) (And.intro (pk_in k 64 hk) ?_)
    rw [a.2.1 s]
    exact yg_27 hk ht hb hb2 eV h
  · refine br_f (fun c => s (a.1.mp c)) (And.intro (pk_in k 64 hk) ?_)
    rw [a.2.2 s]
    exact yg_27 hk ht hb hb2 eV h
end
end
section
/-! X: gainOf, improve, solve -/
def lz_g (R S : Nat → Int32) (p s a : Nat) : Int := mz_g (lz_z R) (lz_z S) p s a
def lz_gm (R S : Nat → Int32) (p s : Nat) : Nat := mz_gm (lz_z R) (lz_z S) p s
section
variable {R S : Nat → Int32}
theorem xs_bT (P : lz_PD R S) (p : Nat) {s : Nat} (hs : s < 4) : (lz_T R S p s).natAbs ≤ 1966080 := mz_bT P p hs
theorem xs_bD (P : lz_PD R S) (p : Nat) : (lz_D R S p).natAbs ≤ 1966080 := mz_bD P p
theorem xs_Dp (P : lz_PD R S) (p : Nat) : 0 < lz_D R S p := mz_Dp P p
theorem xs_bg (P : lz_PD R S) (p : Nat) {s a : Nat} (hs : s < 4) (ha : a < 2) : (lz_g R S p s a).natAbs ≤ 400000000 := by
  have hk : 2 * s + a < 8 := by omega
  have r : (lz_z R (2 * s + a)).natAbs ≤ 20 := by have := P.1 _ hk; omega
  have sg : ∀ t, t < 4 → (lz_z S (4 * (2 * s + a) + t)).natAbs ≤ 4 := by intro t ht; have := mz_sg4 P hk ht; omega
  have h := mz_ba (mz_bm (mz_bm (a := 8) (b := 20) (x := 8) (by decide) r) (xs_bD P p)) (mz_ba (mz_ba (mz_ba (mz_bm (sg 0 (by decide)) (xs_bT P p (s := 0) (by decide))) (mz_bm (sg 1 (by decide)) (xs_bT P p (s := 1) (by decide)))) (mz_bm (sg 2 (by decide)) (xs_bT P p (s := 2) (by decide)))) (mz_bm (sg 3 (by decide)) (xs_bT P p (s := 3) (by decide))))
  exact Nat.le_trans h (by decide)
end
section
variable {post : Int64 → Prop} {fb fk : Int64} {fs fp : Int32} {fd : Int64} {R S : Nat → Int32} {Q W K B : Nat → Int64} {G : Nat → Int32}
theorem xs_27 {p k : Nat} (hk : k < 8) (hB : ∀ t, t < 4 → B t = lz (lz_T R S p t)) (n : Nat) (x : Int) {t : Nat} (ht : t < 4) (h : wX_gainOf_27 post (nI k) fb fk fs fp fd R S Q W K B G n (lz (x + lz_z S (4 * k + t) * lz_T R S p t)) (nI (t + 1))) : wX_gainOf_27 post (nI k) fb fk fs fp fd R S Q W K B G (n + 1) (lz x) (nI t) := by
  refine pk_le 4 t (fun h => absurd h (by omega)) (fun _ => And.intro (pk_in (4 * k + t) 32 (by omega) (xi4 k t)) (And.intro (pk_in t 4 ht) (nm_r ?_ (nm_r (nI_1 t) h))))
  rw [pk_cl (4 * k + t) (xi4 k t), nI_clamp (by omega), hB t ht, lz_i, lz_mul, lz_add]
  rfl
theorem xs_gain {p s a : Nat} (hs : s < 4) (ha : a < 2) (hD : fd = lz (lz_D R S p)) (hB : ∀ t, t < 4 → B t = lz (lz_T R S p t)) (h : post (lz (lz_g R S p s a))) : wpX_gainOf post (fb, fk, fs, fp, fd, R, S, Q, W, K, B, G) (nI s) (nI a) := by
  have hk : 2 * s + a < 8 := by omega
  refine nm_r (xi2 s a) (And.intro (pk_in (2 * s + a) 8 hk) (nm_r (e' := lz (8 * lz_z R (2 * s + a) * lz_D R S p)) ?_ ⟨5, ?_⟩))
  · rw [nI_clamp (by omega), hD, lz_i, ← lz_8, lz_mul, lz_mul]; rfl
  · refine xs_27 hk hB 4 _ (t := 0) (by decide) (xs_27 hk hB 3 _ (t := 1) (by decide) (xs_27 hk hB 2 _ (t := 2) (by decide) (xs_27 hk hB 1 _ (t := 3) (by decide) (pk_le 4 4 (fun _ => ?_) (fun h => absurd h (by omega))))))
    have e : 8 * lz_z R (2 * s + a) * lz_D R S p + lz_z S (4 * (2 * s + a) + 0) * lz_T R S p 0 + lz_z S (4 * (2 * s + a) + 1) * lz_T R S p 1 + lz_z S (4 * (2 * s + a) + 2) * lz_T R S p 2 + lz_z S (4 * (2 * s + a) + 3) * lz_T R S p 3 = lz_g R S p s a := by
      show _ = 8 * lz_z R (2 * s + a) * lz_D R S p + (lz_z S (4 * (2 * s + a)) * lz_T R S p 0 + lz_z S (4 * (2 * s + a) + 1) * lz_T R S p 1 + lz_z S (4 * (2 * s + a) + 2) * lz_T R S p 2 + lz_z S (4 * (2 * s + a) + 3) * lz_T R S p 3)
      rw [Nat.add_zero]
      omega
    rw [e]
    exact h
end
def xs_set (P s a : Nat) : Nat := P - mz_bit P s * 2 ^ s + a * 2 ^ s
theorem xs_set1 : ∀ P, P < 16 → ∀ s, s < 4 → ∀ a, a < 2 → (nI P &&& (((1 : Int32) <<< (nI s &&& 31)) ^^^ (-1))) ||| (nI a <<< (nI s &&& 31)) = nI (xs_set P s a) := by decide +kernel
theorem xs_set2 : ∀ P, P < 16 → ∀ s, s < 4 → ∀ a, a < 2 → xs_set P s a < 16 := by decide +kernel
theorem xs_set3 : ∀ P, P < 16 → ∀ s, s < 4 → ∀ a, a < 2 → ∀ t, t < 4 → mz_bit (xs_set P s a) t = if t = s then a else mz_bit P t := by decide +kernel
theorem xs_or : ∀ m, m < 4 → ∀ a, a < 2 → (((nI m ||| ((1 : Int32) <<< (nI a &&& 31))).toInt8.toInt32).toInt8.toInt32) = nI (m ||| 2 ^ a) := by decide +kernel
section
variable {post : Int32 → SX → Prop} {J4 : Int32 → Int32 → Int32 → (Nat → Int32) → (Nat → Int32) → (Nat → Int64) → (Nat → Int64) → (Nat → Int64) → (Nat → Int64) → (Nat → Int32) → Prop} {fb fk : Int64} {fs fp : Int32} {fd : Int64} {R S : Nat → Int32} {Q W K B : Nat → Int64}
theorem xs_66 {J30 : Int32 → Int32 → Int32 → (Nat → Int32) → (Nat → Int32) → (Nat → Int64) → (Nat → Int64) → (Nat → Int64) → (Nat → Int64) → (Nat → Int32) → Prop} {c s a P : Nat} {v g : Int} {G : Nat → Int32} (hs : s < 4) (ha : a < 2) (hP : P < 16) (hv : v.natAbs ≤ 400000000) (hg : g.natAbs ≤ 400000000) (h : J30 (nI (if v < g then 1 else c)) (nI (a + 1)) (nI (if v < g then xs_set P s a else P)) R S Q W K B G) : wX_improve_66 post J4 J30 (nI c) (nI s) (lz v) (nI a) (lz g) fb fk fs (nI P) fd R S Q W K B G := by
  have e : lz v < lz g ↔ v < g := lz_lt (by omega) (by omega)
  by_cases l : v < g
  · rw [if_pos l, if_pos l] at h
    exact br_t (e.mpr l) (nm_r (xs_set1 P hP s hs a ha) (nm_r (nI_1 a) h))
  · rw [if_neg l, if_neg l] at h
    exact br_f (fun z => l (e.mp z)) (nm_r (nI_1 a) h)
theorem xs_30 (PD : lz_PD R S) {p : Nat} (hD : fd = lz (lz_D R S p)) (hB : ∀ t, t < 4 → B t = lz (lz_T R S p t)) {n c s a P m : Nat} {G : Nat → Int32} (hs : s < 4) (ha : a < 2) (hP : P < 16) (hm : m < 4) (hG : G s = nI m) (h : wX_improve_30 post J4 (nI s) (lz (8 * lz_T R S p s)) fb fk fs fd n (nI (if 8 * lz_T R S p s < lz_g R S p s a then 1 else c)) (nI (a + 1)) (nI (if 8 * lz_T R S p s < lz_g R S p s a then xs_set P s a else P)) R S Q W K B (if lz_g R S p s a = 8 * lz_T R S p s then upd G s (nI (m ||| 2 ^ a)) else G)) : wX_improve_30 post J4 (nI s) (lz (8 * lz_T R S p s)) fb fk fs fd (n + 1) (nI c) (nI a) (nI P) R S Q W K B G := by
  have bv : (8 * lz_T R S p s).natAbs ≤ 400000000 := by have := xs_bT PD p hs; omega
  have bg := xs_bg PD p hs ha
  have e : lz (lz_g R S p s a) = lz (8 * lz_T R S p s) ↔ lz_g R S p s a = 8 * lz_T R S p s := lz_eq (by omega) (by omega)
  refine pk_le 2 a (fun h => absurd h (by omega)) (fun _ => xs_gain hs ha hD hB ?_)
  by_cases q : lz_g R S p s a = 8 * lz_T R S p s
  · rw [if_pos q] at h
    refine br_t (e.mpr q) (And.intro (pk_in s 4 hs) (And.intro (pk_in s 4 hs) (nm_r (e' := upd G s (nI (m ||| 2 ^ a))) ?_ (xs_66 hs ha hP bv bg h))))
    rw [nI_clamp (by omega), hG, vp_nar_byte, xs_or m hm a ha]
  · rw [if_neg q] at h
    exact br_f (fun z => q (e.mp z)) (xs_66 hs ha hP bv bg h)
/-- both actions of a state -/
theorem xs_in (PD : lz_PD R S) {p : Nat} (hD : fd = lz (lz_D R S p)) (hB : ∀ t, t < 4 → B t = lz (lz_T R S p t)) {c s P : Nat} {G : Nat → Int32} (hs : s < 4) (hP : P < 16) (hG : G s = nI 0) (hb : mz_bit P s = mz_bit p s)
    (h : ∀ c' P' G', P' < 16 → (∀ t, t < 4 → t ≠ s → mz_bit P' t = mz_bit P t) → 8 * lz_T R S p s ≤ lz_g R S p s (mz_bit P' s) → ((c' = c ∧ (∀ a, a < 2 → lz_g R S p s a ≤ 8 * lz_T R S p s)) ∨ (c' = 1 ∧ 8 * lz_T R S p s < lz_g R S p s (mz_bit P' s))) → G' s = nI (lz_gm R S p s) → (∀ t, t ≠ s → G' t = G t) → J4 (nI c') (nI (s + 1)) (nI P') R S Q W K B G') :
    wX_improve_30 post J4 (nI s) (lz (8 * lz_T R S p s)) fb fk fs fd 3 (nI c) (nI 0) (nI P) R S Q W K B G := by
  have own : lz_g R S p s (mz_bit p s) = 8 * lz_T R S p s := mz_own p hs
  have s0 := xs_set2 P hP s hs 0 (by decide)
  have b0 : mz_bit (xs_set P s 0) s = 0 := by rw [xs_set3 P hP s hs 0 (by decide) s hs, if_pos rfl]
  have b1 : ∀ P, P < 16 → mz_bit (xs_set P s 1) s = 1 := by intro P hP; rw [xs_set3 P hP s hs 1 (by decide) s hs, if_pos rfl]
  have n0 : ∀ t, t < 4 → t ≠ s → mz_bit (xs_set P s 0) t = mz_bit P t := by intro t ht hn; rw [xs_set3 P hP s hs 0 (by decide) t ht, if_neg hn]
  have n1 : ∀ P, P < 16 → ∀ t, t < 4 → t ≠ s → mz_bit (xs_set P s 1) t = mz_bit P t := by intro P hP t ht hn; rw [xs_set3 P hP s hs 1 (by decide) t ht, if_neg hn]
  have hb2 := mz_bit2 p s
  -- the first action
  obtain ⟨m1, G1, hm1, eG1, hG1, kG1⟩ : ∃ (m1 : Nat) (G1 : Nat → Int32), m1 = (if lz_g R S p s 0 = 8 * lz_T R S p s then 1 else 0) ∧ (if lz_g R S p s 0 = 8 * lz_T R S p s then upd G s (nI (0 ||| 2 ^ 0)) else G) = G1 ∧ G1 s = nI m1 ∧ (∀ t, t ≠ s → G1 t = G t) := by
    by_cases q : lz_g R S p s 0 = 8 * lz_T R S p s
    · rw [if_pos q, if_pos q]; exact ⟨_, _, rfl, rfl, pk_us, fun t ht => pk_un ht⟩
    · rw [if_neg q, if_neg q]; exact ⟨_, _, rfl, rfl, hG, fun t ht => rfl⟩
  have hm4 : m1 < 4 := by rw [hm1]; split <;> decide
  refine xs_30 (m := 0) PD hD hB hs (by decide) hP (by decide) hG ?_
  rw [eG1]
  -- the second
  obtain ⟨G2, eG2, hG2, kG2⟩ : ∃ (G2 : Nat → Int32), (if lz_g R S p s 1 = 8 * lz_T R S p s then upd G1 s (nI (m1 ||| 2 ^ 1)) else G1) = G2 ∧ G2 s = nI (lz_gm R S p s) ∧ (∀ t, t ≠ s → G2 t = G t) := by
    have em : lz_gm R S p s = (if lz_g R S p s 0 = 8 * lz_T R S p s then 1 else 0) + (if lz_g R S p s 1 = 8 * lz_T R S p s then 2 else 0) := rfl
    by_cases q : lz_g R S p s 1 = 8 * lz_T R S p s
    · rw [if_pos q]
      refine ⟨_, rfl, ?_, fun t ht => ?_⟩
      · rw [pk_us, em, if_pos q, hm1]
        split <;> rfl
      · rw [pk_un ht]; exact kG1 t ht
    · rw [if_neg q]
      refine ⟨_, rfl, ?_, kG1⟩
      rw [hG1, em, if_neg q, hm1]; rfl
  have fin : ∀ c2 P2, P2 < 16 → (∀ t, t < 4 → t ≠ s → mz_bit P2 t = mz_bit P t) → 8 * lz_T R S p s ≤ lz_g R S p s (mz_bit P2 s) → ((c2 = c ∧ (∀ a, a < 2 → lz_g R S p s a ≤ 8 * lz_T R S p s)) ∨ (c2 = 1 ∧ 8 * lz_T R S p s < lz_g R S p s (mz_bit P2 s))) → wX_improve_30 post J4 (nI s) (lz (8 * lz_T R S p s)) fb fk fs fd 1 (nI c2) (nI 2) (nI P2) R S Q W K B G2 := by
    intro c2 P2 h1 h2 h3 h4
    exact pk_le 2 2 (fun _ => nm_r (nI_1 s) (h c2 P2 G2 h1 h2 h3 h4 hG2 kG2)) (fun h => absurd h (by omega))
  by_cases l0 : 8 * lz_T R S p s < lz_g R S p s 0
  · rw [if_pos l0, if_pos l0]
    refine xs_30 (m := m1) PD hD hB hs (by decide) s0 hm4 hG1 ?_
    rw [eG2]
    by_cases l1 : 8 * lz_T R S p s < lz_g R S p s 1
    · rw [if_pos l1, if_pos l1]
      refine fin _ _ (xs_set2 _ s0 s hs 1 (by decide)) (fun t ht hn => by rw [n1 _ s0 t ht hn, n0 t ht hn]) ?_ (Or.inr ⟨rfl, ?_⟩)
      · rw [b1 _ s0]; omega
      · rw [b1 _ s0]; exact l1
    · rw [if_neg l1, if_neg l1]
      refine fin _ _ s0 n0 ?_ (Or.inr ⟨rfl, ?_⟩)
      · rw [b0]; omega
      · rw [b0]; exact l0
  · rw [if_neg l0, if_neg l0]
    refine xs_30 (m := m1) PD hD hB hs (by decide) hP hm4 hG1 ?_
    rw [eG2]
    by_cases l1 : 8 * lz_T R S p s < lz_g R S p s 1
    · rw [if_pos l1, if_pos l1]
      refine fin _ _ (xs_set2 _ hP s hs 1 (by decide)) (n1 P hP) ?_ (Or.inr ⟨rfl, ?_⟩)
      · rw [b1 _ hP]; omega
      · rw [b1 _ hP]; exact l1
    · rw [if_neg l1, if_neg l1]
      refine fin _ _ hP (fun t _ _ => rfl) ?_ (Or.inl ⟨rfl, ?_⟩)
      · rw [hb]; omega
      · intro a ha
        match a, ha with
        | 0, _ => omega
        | 1, _ => omega
/-- improve at the head of state s -/
def xs_J (R S : Nat → Int32) (p s c P : Nat) (G : Nat → Int32) : Prop := P < 16 ∧ (∀ t, t < 4 → s ≤ t → mz_bit P t = mz_bit p t) ∧ (∀ t, t < s → 8 * lz_T R S p t ≤ lz_g R S p t (mz_bit P t)) ∧ ((c = 0 ∧ (∀ t, t < s → ∀ a, a < 2 → lz_g R S p t a ≤ 8 * lz_T R S p t)) ∨ (c = 1 ∧ ∃ t, t < s ∧ 8 * lz_T R S p t < lz_g R S p t (mz_bit P t))) ∧ (∀ t, t < s → G t = nI (lz_gm R S p t))
theorem xs_4 (PD : lz_PD R S) {p : Nat} (hD : fd = lz (lz_D R S p)) (hB : ∀ t, t < 4 → B t = lz (lz_T R S p t)) (h : ∀ c P G, xs_J R S p 4 c P G → post (nI c) (fb, fk, fs, nI P, fd, R, S, Q, W, K, B, G)) : ∀ d s c P G, s + d = 4 → xs_J R S p s c P G → wX_improve_4 post fb fk fs fd (d + 1) (nI c) (nI s) (nI P) R S Q W K B G := by
  intro d
  induction d with
  | zero =>
    intro s c P G hs I
    have e : s = 4 := by omega
    subst e
    refine pk_le 4 4 (fun _ => And.intro ?_ (h c P G I)) (fun h => absurd h (by omega))
    rcases I.2.2.2.1 with ⟨e, _⟩ | ⟨e, _⟩
    · rw [e]; exact narrow_b0
    · rw [e]; exact narrow_b1
  | succ d ih =>
    intro s c P G hs I
    have hs4 : s < 4 := by omega
    obtain ⟨hP, hbt, hge, hc, hG⟩ := I
    refine pk_le 4 s (fun h => absurd h (by omega)) (fun _ => And.intro (pk_in s 4 hs4) (nm_r (e' := lz (8 * lz_T R S p s)) ?_ (And.intro (pk_in s 4 hs4) (nm_r (e' := upd G s (nI 0)) ?_ ⟨3, ?_⟩))))
    · rw [nI_clamp (by omega), hB s hs4, ← lz_8, lz_mul]
    · rw [nI_clamp (by omega), vp_nar_byte]; rfl
    · refine xs_in PD hD hB hs4 hP pk_us (hbt s hs4 (Nat.le_refl s)) (fun c' P' G' q1 q2 q3 q4 q5 q6 => ih (s + 1) c' P' G' (by omega) ⟨q1, fun t ht hl => ?_, fun t ht => ?_, ?_, fun t ht => ?_⟩)
      · rw [q2 t ht (by omega)]; exact hbt t ht (by omega)
      · by_cases e : t = s
        · rw [e]; exact q3
        · rw [q2 t (by omega) e]; exact hge t (by omega)
      · rcases q4 with ⟨e, k⟩ | ⟨e, k⟩
        · rcases hc with ⟨z, k2⟩ | ⟨z, t, ht, k2⟩
          · refine Or.inl ⟨e.trans z, fun t ht => ?_⟩
            by_cases e : t = s
            · rw [e]; exact k
            · exact k2 t (by omega)
          · refine Or.inr ⟨e.trans z, t, by omega, ?_⟩
            rw [q2 t (by omega) (by omega)]; exact k2
        · exact Or.inr ⟨e, s, by omega, k⟩
      · by_cases e : t = s
        · rw [e]; exact q5
        · rw [q6 t e, pk_un e]; exact hG t (by omega)
theorem xs_imp (PD : lz_PD R S) {p : Nat} (hp : p < 16) (hD : fd = lz (lz_D R S p)) (hB : ∀ t, t < 4 → B t = lz (lz_T R S p t)) {G : Nat → Int32} (h : ∀ c P G, xs_J R S p 4 c P G → post (nI c) (fb, fk, fs, nI P, fd, R, S, Q, W, K, B, G)) : wpX_improve post (fb, fk, fs, nI p, fd, R, S, Q, W, K, B, G) :=
  ⟨5, xs_4 PD hD hB h 4 0 0 p G rfl ⟨hp, fun _ _ _ => rfl, fun t ht => absurd ht (by omega), Or.inl ⟨rfl, fun t ht => absurd ht (by omega)⟩, fun t ht => absurd ht (by omega)⟩⟩
end
/-- what solve leaves -/
def xs_V (R S : Nat → Int32) (fd : Int64) (B : Nat → Int64) (G : Nat → Int32) : Prop := ∃ p, p < 16 ∧ mz_no (lz_z R) (lz_z S) p ∧ fd = lz (lz_D R S p) ∧ (∀ t, t < 4 → B t = lz (lz_T R S p t)) ∧ (∀ t, t < 4 → G t = nI (lz_gm R S p t))
section
variable {post : SX → Prop} {fk : Int64} {fs : Int32} {R S : Nat → Int32} {K : Nat → Int64}
theorem xs_42 {J : Int32 → Int32 → Int64 → Int64 → Int32 → Int32 → Int64 → (Nat → Int32) → (Nat → Int32) → (Nat → Int64) → (Nat → Int64) → (Nat → Int64) → (Nat → Int64) → (Nat → Int32) → Prop} (PD : lz_PD R S) {p i : Nat} (hp : p < 16) {fd : Int64} {Q W : Nat → Int64} {G : Nat → Int32} (hW : ∀ t, t < 4 → W t = lz (lz_T R S p t)) (h : ∀ c P B G, (∀ t, t < 4 → B t = lz (lz_T R S p t)) → xs_J R S p 4 c P G → J (nI c) (nI (i + 1)) (lz (lz_D R S p)) fk fs (nI P) (lz (lz_D R S p)) R S Q W K B G) : ∀ d t B, t + d = 4 → (∀ j, j < t → B j = lz (lz_T R S p j)) → wX_solve_42 post J (nI i) (lz (lz_D R S p)) fk fs (nI p) fd (d + 1) (nI t) R S Q W K B G := by
  intro d
  induction d with
  | zero =>
    intro t B ht hB
    have e : t = 4 := by omega
    subst e
    refine pk_le 4 4 (fun _ => xs_imp PD hp rfl hB (fun c P G' I => ?_)) (fun h => absurd h (by omega))
    exact nm_r (nI_1 i) (h c P B G' hB I)
  | succ d ih =>
    intro t B ht hB
    refine pk_le 4 t (fun h => absurd h (by omega)) (fun _ => And.intro (pk_in t 4 (by omega)) (And.intro (pk_in t 4 (by omega)) (nm_r (e' := vp_updL B t (lz (lz_T R S p t))) ?_ (nm_r (nI_1 t) (ih (t + 1) _ (by omega) ?_)))))
    · rw [nI_clamp (by omega), hW t (by omega)]
    · intro j hj
      by_cases e : j = t
      · rw [e, pk_uLs]
      · rw [pk_uLn e]; exact hB j (by omega)
theorem xs_22 (PD : lz_PD R S) (h : ∀ fb fp fd Q W B G, xs_V R S fd B G → post (fb, fk, fs, fp, fd, R, S, Q, W, K, B, G)) : ∀ d i p fb fd Q W B G, i + d = 16 → p < 16 → mz_mu (lz_z R) (lz_z S) p ≤ d → wX_solve_22 post (d + 1) (nI 1) (nI i) fb fk fs (nI p) fd R S Q W K B G := by
  intro d
  induction d with
  | zero =>
    intro i p fb fd Q W B G hi hp hm
    have := mz_mu_pos (rh := lz_z R) (sg := lz_z S) hp
    omega
  | succ d ih =>
    intro i p fb fd Q W B G hi hp hm
    refine pk_le 17 i (fun h => absurd h (by omega)) (fun _ => pk_eq 1 0 (fun h => absurd h (by decide)) (fun _ => xe_eval PD hp (fun Q' W' hW' => ?_)))
    refine ⟨5, xs_42 PD hp hW' (fun c P B' G' hB' I => ?_) 4 0 B rfl (fun j hj => absurd hj (by omega))⟩
    obtain ⟨hP, _, hge, hc, hG⟩ := I
    rcases hc with ⟨e, k⟩ | ⟨e, k⟩
    · rw [e]
      exact pk_le 17 (i + 1) (fun h => absurd h (by omega)) (fun _ => br_t rfl (h _ _ _ _ _ _ _ ⟨p, hp, k, rfl, hB', hG⟩))
    · rw [e]
      refine ih (i + 1) P _ _ _ _ _ _ (by omega) hP ?_
      have := mz_mu_lt PD hp hge k
      omega
theorem xs_solve (PD : lz_PD R S) {fb : Int64} {fp : Int32} {fd : Int64} {Q W B : Nat → Int64} {G : Nat → Int32} (hs : fs = 0 ∨ (fs = 1 ∧ xs_V R S fd B G)) (h : ∀ fb fp fd Q W B G, xs_V R S fd B G → post (fb, fk, 1, fp, fd, R, S, Q, W, K, B, G)) : wpX_solve post (fb, fk, fs, fp, fd, R, S, Q, W, K, B, G) := by
  rcases hs with e | ⟨e, v⟩
  · subst e
    refine br_t rfl ⟨17, ?_⟩
    exact xs_22 PD h 16 0 0 fb fd Q W B G rfl (by decide) (mz_mu_16 0)
  · subst e
    exact br_f (by decide) (h _ _ _ _ _ _ _ v)
end
end
section
/-! Y: order, isBest, firstBest, policies, good -/
def yo_r (a b : Int) : Int32 := if b ≤ a then (if a ≤ b then 0 else 1) else -1
theorem yo_r0 (a b : Int) : yo_r a b ≤ 0 ↔ a ≤ b := by
  unfold yo_r
  by_cases h : b ≤ a
  · rw [if_pos h]
    by_cases k : a ≤ b
    · rw [if_pos k]; exact ⟨fun _ => k, fun _ => by decide⟩
    · rw [if_neg k]; exact ⟨fun z => absurd z (by decide), fun z => absurd z k⟩
  · rw [if_neg h]; exact ⟨fun _ => by omega, fun _ => by decide⟩
theorem yo_bd {a b : Int} (ha : a.natAbs ≤ 1966080) (hb : b.natAbs ≤ 1966080) : (a * b).natAbs < 9223372036854775807 := Nat.lt_of_le_of_lt (mz_bm ha hb) (by decide)
/-- the two products compared -/
theorem yo_cmp {p0 pm p1 : Prop} {a b : Int} (ha : a.natAbs < 9223372036854775807) (hb : b.natAbs < 9223372036854775807) {post : Int32 → Prop} (h : post (yo_r a b)) (e0 : post 0 → p0) (e1 : post 1 → p1) (em : post (-1) → pm) : (lz b ≤ lz a → ((lz a ≤ lz b → p0) ∧ (¬ lz a ≤ lz b → p1))) ∧ (¬ lz b ≤ lz a → pm) := by
  rw [lz_le hb ha, lz_le ha hb]
  unfold yo_r at h
  by_cases k : b ≤ a
  · rw [if_pos k] at h
    refine br_t k ?_
    by_cases l : a ≤ b
    · rw [if_pos l] at h; exact br_t l (e0 h)
    · rw [if_neg l] at h; exact br_f l (e1 h)
  · rw [if_neg k] at h
    exact br_f k (em h)
section
variable {R S : Nat → Int32} {Q W V : Nat → Int64}
theorem yb_ord {post : Int32 → Prop} (PD : lz_PD R S) (F : ye_F R S 16 W V) {p q s : Nat} (hp : p < 16) (hq : q < 16) (hs : s < 4) (h : post (yo_r (lz_T R S p s * lz_D R S q) (lz_T R S q s * lz_D R S p))) : wpY_order post (R, S, Q, W, V) (nI p) (nI q) (nI s) := by
  refine And.intro (pk_in (4 * p + s) 64 (by omega) (xi4 p s)) (And.intro (pk_in (4 * q + s) 64 (by omega) (xi4 q s)) (nm_r (e' := lz (lz_T R S p s * lz_D R S q)) ?_ (And.intro (pk_in (4 * q + s) 64 (by omega) (xi4 q s)) (And.intro (pk_in (4 * p + s) 64 (by omega) (xi4 p s)) (nm_r (e' := lz (lz_T R S q s * lz_D R S p)) ?_ ?_)))))
  · rw [pk_cl (4 * p + s) (xi4 p s), pk_cl (4 * q + s) (xi4 q s), (F p hp s hs).1, (F q hq s hs).2, lz_mul]
  · rw [pk_cl (4 * p + s) (xi4 p s), pk_cl (4 * q + s) (xi4 q s), (F q hq s hs).1, (F p hp s hs).2, lz_mul]
  · exact yo_cmp (yo_bd (xs_bT PD p hs) (xs_bD PD q)) (yo_bd (xs_bT PD q hs) (xs_bD PD p)) h id id id
theorem yb_10 {post : Int32 → Prop} {J : Int32 → Prop} (PD : lz_PD R S) (F : ye_F R S 16 W V) {p q : Nat} (hp : p < 16) (hq : q < 16) : ∀ d s, s + d = 4 → ((∀ t, t < 4 → s ≤ t → lz_T R S q t * lz_D R S p ≤ lz_T R S p t * lz_D R S q) → J (nI (q + 1))) → ((∃ t, t < 4 ∧ ¬ lz_T R S q t * lz_D R S p ≤ lz_T R S p t * lz_D R S q) → post 0) → wY_isBest_10 post J (nI p) (nI q) R S Q W V (d + 1) (nI s) := by
  intro d
  induction d with
  | zero =>
    intro s hs h1 h0
    have e : s = 4 := by omega
    subst e
    exact pk_le 4 4 (fun _ => nm_r (nI_1 q) (h1 (fun t ht hl => absurd hl (by omega)))) (fun h => absurd h (by omega))
  | succ d ih =>
    intro s hs h1 h0
    refine pk_le 4 s (fun h => absurd h (by omega)) (fun _ => yb_ord PD F hq hp (by omega) ?_)
    by_cases c : lz_T R S q s * lz_D R S p ≤ lz_T R S p s * lz_D R S q
    · refine br_t ((yo_r0 _ _).mpr c) (nm_r (nI_1 s) (ih (s + 1) (by omega) (fun k => h1 (fun t ht hl => ?_)) h0))
      by_cases e : t = s
      · rw [e]; exact c
      · exact k t ht (by omega)
    · exact br_f (fun z => c ((yo_r0 _ _).mp z)) (h0 ⟨s, by omega, c⟩)
def yb_best (R S : Nat → Int32) (q : Nat) : Prop := mz_best (lz_z R) (lz_z S) q
theorem yb_2 {post : Int32 → Prop} (PD : lz_PD R S) (F : ye_F R S 16 W V) {p : Nat} (hp : p < 16) : ∀ d q, q + d = 16 → ((∀ i, q ≤ i → i < 16 → mz_ok (lz_z R) (lz_z S) i p) → post 1) → ((∃ i, i < 16 ∧ ¬ mz_ok (lz_z R) (lz_z S) i p) → post 0) → wY_isBest_2 post (nI p) R S Q W V (d + 1) (nI q) := by
  intro d
  induction d with
  | zero =>
    intro q hq h1 h0
    have e : q = 16 := by omega
    subst e
    exact pk_le 16 16 (fun _ => h1 (fun i hi hl => absurd hl (by omega))) (fun h => absurd h (by omega))
  | succ d ih =>
    intro q hq h1 h0
    refine pk_le 16 q (fun h => absurd h (by omega)) (fun _ => ⟨5, yb_10 PD F hp (by omega) 4 0 rfl (fun k => ih (q + 1) (by omega) (fun k2 => h1 (fun i hi hl => ?_)) h0) (fun ⟨t, ht, k⟩ => h0 ⟨q, by omega, fun z => k (z t ht)⟩)⟩)
    by_cases e : i = q
    · rw [e]; exact fun t ht => k t ht (by omega)
    · exact k2 i (by omega) hl
theorem yb_isb {post : Int32 → Prop} (PD : lz_PD R S) (F : ye_F R S 16 W V) {p : Nat} (hp : p < 16) (h1 : yb_best R S p → post 1) (h0 : ¬ yb_best R S p → post 0) : wpY_isBest post (R, S, Q, W, V) (nI p) :=
  ⟨17, yb_2 PD F hp 16 0 rfl (fun k => h1 (fun i hi => k i (by omega) hi)) (fun ⟨i, hi, k⟩ => h0 (fun z => k (z i hi)))⟩
theorem yb_fb6 {post : Int32 → SY → Prop} (PD : lz_PD R S) (F : ye_F R S 16 W V) {m : Nat} (hm : m < 16) (bm : yb_best R S m) (bl : ∀ j, j < m → ¬ yb_best R S j) (h : post (nI m) (R, S, Q, W, V)) : ∀ d i, i + d = m → wY_firstBest_6 post R S Q W V (d + 1) (nI i) := by
  intro d
  induction d with
  | zero =>
    intro i hi
    have e : i = m := by omega
    subst e
    exact pk_le 16 i (fun h => absurd h (by omega)) (fun _ => yb_isb PD F hm (fun _ => br_f (by decide) h) (fun z => absurd bm z))
  | succ d ih =>
    intro i hi
    exact pk_le 16 i (fun h => absurd h (by omega)) (fun _ => yb_isb PD F (by omega) (fun z => absurd z (bl i (by omega))) (fun _ => br_t rfl (nm_r (nI_1 i) (ih (i + 1) (by omega)))))
theorem yb_first {post : Int32 → SY → Prop} (PD : lz_PD R S) {m : Nat} (hm : m < 16) (bm : yb_best R S m) (bl : ∀ j, j < m → ¬ yb_best R S j) (h : ∀ Q W V, post (nI m) (R, S, Q, W, V)) : wpY_firstBest post (R, S, Q, W, V) :=
  ye_solve PD (fun Q' W' V' F => ⟨m + 1, yb_fb6 PD F hm bm bl (h Q' W' V') m 0 (Nat.zero_add m)⟩)
theorem yb_p8 {post : Int32 → SY → Prop} (PD : lz_PD R S) (F : ye_F R S 16 W V) {f : Nat → Bool} (hf : ∀ q, f q = true ↔ yb_best R S q) (h : post (nI (mz_cn f 16)) (R, S, Q, W, V)) : ∀ d i, i + d = 16 → wY_policies_8 post R S Q W V (d + 1) (nI (mz_cn f i)) (nI i) := by
  intro d
  induction d with
  | zero =>
    intro i hi
    have e : i = 16 := by omega
    subst e
    exact pk_le 16 16 (fun _ => h) (fun h => absurd h (by omega))
  | succ d ih =>
    intro i hi
    have k := ih (i + 1) (by omega)
    refine pk_le 16 i (fun h => absurd h (by omega)) (fun _ => yb_isb PD F (by omega) (fun z => br_f (by decide) (nm_r (nI_1 _) (nm_r (nI_1 i) ?_))) (fun z => br_t rfl (nm_r (nI_1 i) ?_)))
    · rw [show mz_cn f (i + 1) = mz_cn f i + 1 from by
        show mz_cn f i + (if f i = true then 1 else 0) = _
        rw [if_pos ((hf i).mpr z)]] at k
      exact k
    · rw [show mz_cn f (i + 1) = mz_cn f i from by
        show mz_cn f i + (if f i = true then 1 else 0) = _
        rw [if_neg (fun y => z ((hf i).mp y))]; rfl] at k
      exact k
theorem yb_pols {post : Int32 → SY → Prop} (PD : lz_PD R S) {f : Nat → Bool} (hf : ∀ q, f q = true ↔ yb_best R S q) (h : ∀ Q W V, post (nI (mz_cn f 16)) (R, S, Q, W, V)) : wpY_policies post (R, S, Q, W, V) :=
  ye_solve PD (fun Q' W' V' F => ⟨17, yb_p8 PD F hf (h Q' W' V') 16 0 rfl⟩)
theorem yb_g17 {post : Int32 → SY → Prop} (PD : lz_PD R S) (F : ye_F R S 16 W V) {s a : Nat} (hs : s < 4) (ha : a < 2) : ∀ d i, i + d = 16 → ((∃ q, q < 16 ∧ mz_bit q s = a ∧ yb_best R S q) → post 1 (R, S, Q, W, V)) → ((∀ q, i ≤ q → q < 16 → mz_bit q s = a → ¬ yb_best R S q) → post 0 (R, S, Q, W, V)) → wY_good_17 post (nI s) (nI a) R S Q W V (d + 1) (nI i) := by
  intro d
  induction d with
  | zero =>
    intro i hi h1 h0
    have e : i = 16 := by omega
    subst e
    exact pk_le 16 16 (fun _ => h0 (fun q h1 h2 => absurd h2 (by omega))) (fun h => absurd h (by omega))
  | succ d ih =>
    intro i hi h1 h0
    have hb := mz_bit2 i s
    refine pk_le 16 i (fun h => absurd h (by omega)) (fun _ => pk_eq (mz_bit i s) a (fun e => yb_isb PD F (by omega) (fun z => br_f (by decide) (h1 ⟨i, by omega, e, z⟩)) (fun z => br_t rfl (nm_r (nI_1 i) (ih (i + 1) (by omega) h1 (fun k => h0 (fun q q1 q2 q3 => ?_)))))) (fun e => nm_r (nI_1 i) (ih (i + 1) (by omega) h1 (fun k => h0 (fun q q1 q2 q3 => ?_)))) (xi_bit i (by omega) s hs))
    · by_cases c : q = i
      · rw [c]; exact z
      · exact k q (by omega) q2 q3
    · by_cases c : q = i
      · exact absurd (c ▸ q3) e
      · exact k q (by omega) q2 q3
end
end
section
/-! guards, values, compare -/
theorem gd_lt {x : Int32} (n : Nat) (hn : n < 1000) (h : nI (n + 1) ≤ x) : nI n < x := by
  rw [Int32.le_iff_toInt_le, nI_toInt (by omega)] at h
  rw [Int32.lt_iff_toInt_lt, nI_toInt (by omega)]
  omega
/-- out of 0 .. n - 1 -/
def gd_out (n : Nat) (x : Int32) : Prop := x < 0 ∨ nI n ≤ x
theorem gd_c (n : Nat) (hn : n < 1000) (x : Int32) : gd_out n x ∨ ∃ j, j < n ∧ x = nI j := by
  rcases pk_ix x (n := n) (by omega) with h | h | h
  · exact Or.inl (Or.inl h)
  · exact Or.inl (Or.inr h)
  · exact Or.inr h
section
variable {fb fk : Int64} {fs fp : Int32} {fd : Int64} {R S : Nat → Int32} {Q W K B : Nat → Int64} {G : Nat → Int32} {post : Int32 → Prop}
theorem gd_xsi {s : Nat} (hs : s < 4) (h : post 1) : wpX_isState post (fb, fk, fs, fp, fd, R, S, Q, W, K, B, G) (nI s) := br_f (nI_pos (by omega)) (br_f (nI_ge (b := 4) hs (by decide)) h)
theorem gd_xso {x : Int32} (hx : gd_out 4 x) (h : post 0) : wpX_isState post (fb, fk, fs, fp, fd, R, S, Q, W, K, B, G) x := by
  by_cases c : x < 0
  · exact br_t c h
  · exact br_f c (br_t (hx.resolve_left c) h)
theorem gd_xpi {p : Nat} (hp : p < 16) (h : post 1) : wpX_isPolicy post (fb, fk, fs, fp, fd, R, S, Q, W, K, B, G) (nI p) := br_f (nI_pos (by omega)) (br_f (nI_nlt (a := 15) (by omega) (by decide)) h)
theorem gd_xpo {x : Int32} (hx : gd_out 16 x) (h : post 0) : wpX_isPolicy post (fb, fk, fs, fp, fd, R, S, Q, W, K, B, G) x := by
  by_cases c : x < 0
  · exact br_t c h
  · exact br_f c (br_t (gd_lt 15 (by decide) (hx.resolve_left c)) h)
end
section
variable {R S : Nat → Int32} {Q W V : Nat → Int64} {post : Int32 → Prop}
theorem gd_ysi {s : Nat} (hs : s < 4) (h : post 1) : wpY_isState post (R, S, Q, W, V) (nI s) := br_f (nI_pos (by omega)) (br_f (nI_nlt (a := 3) (by omega) (by decide)) h)
theorem gd_yso {x : Int32} (hx : gd_out 4 x) (h : post 0) : wpY_isState post (R, S, Q, W, V) x := by
  by_cases c : x < 0
  · exact br_t c h
  · exact br_f c (br_t (gd_lt 3 (by decide) (hx.resolve_left c)) h)
theorem gd_ypi {p : Nat} (hp : p < 16) (h : post 1) : wpY_isPolicy post (R, S, Q, W, V) (nI p) := br_f (nI_pos (by omega)) (br_f (nI_nlt (a := 15) (by omega) (by decide)) h)
theorem gd_ypo {x : Int32} (hx : gd_out 16 x) (h : post 0) : wpY_isPolicy post (R, S, Q, W, V) x := by
  by_cases c : x < 0
  · exact br_t c h
  · exact br_f c (br_t (gd_lt 15 (by decide) (hx.resolve_left c)) h)
theorem gd_yai {s a : Nat} (hs : s < 4) (ha : a < 2) (h : post 1) : wpY_isAction post (R, S, Q, W, V) (nI s) (nI a) := br_f (nI_pos (by omega)) (br_f (nI_nlt (a := 3) (by omega) (by decide)) (br_f (nI_pos (by omega)) (br_f (nI_nlt (a := 1) (by omega) (by decide)) h)))
theorem gd_yao {x y : Int32} (hx : gd_out 4 x ∨ gd_out 2 y) (h : post 0) : wpY_isAction post (R, S, Q, W, V) x y := by
  by_cases c : x < 0
  · exact br_t c h
  · refine br_f c ?_
    by_cases c2 : (3 : Int32) < x
    · exact br_t c2 h
    · refine br_f c2 ?_
      have hy : gd_out 2 y := hx.resolve_left (fun z => c2 (gd_lt 3 (by decide) (z.resolve_left c)))
      by_cases c3 : y < 0
      · exact br_t c3 h
      · exact br_f c3 (br_t (gd_lt 1 (by decide) (hy.resolve_left c3)) h)
end
section
variable {post : Int32 → SX → Prop} {fb fk : Int64} {fs fp : Int32} {fd : Int64} {R S : Nat → Int32} {Q W K B : Nat → Int64} {G : Nat → Int32}
theorem xv_top (PD : lz_PD R S) {p s : Nat} (hp : p < 16) (hs : s < 4) (h : ∀ fb Q W, post (xg_t (lz_T R S p s) (lz_D R S p)) (fb, fk, fs, fp, fd, R, S, Q, W, K, B, G)) : wpX_valueTop post (fb, fk, fs, fp, fd, R, S, Q, W, K, B, G) (nI p) (nI s) := by
  unfold wpX_valueTop
  refine gd_xpi hp ?_
  refine br_f (by decide) ?_
  refine gd_xsi hs ?_
  refine br_f (by decide) ?_
  refine xe_eval PD hp (fun Q' W' hW => And.intro (pk_in s 4 hs) ?_)
  rw [nI_clamp (by omega), hW s hs]
  exact xg_top (xs_bT PD p hs) (xs_Dp PD p) (xs_bD PD p) (h _ _ _)
theorem xv_bot (PD : lz_PD R S) {p s : Nat} (hp : p < 16) (hs : s < 4) (h : ∀ fb Q W, post (xg_b (lz_T R S p s) (lz_D R S p)) (fb, fk, fs, fp, fd, R, S, Q, W, K, B, G)) : wpX_valueBottom post (fb, fk, fs, fp, fd, R, S, Q, W, K, B, G) (nI p) (nI s) := by
  unfold wpX_valueBottom
  refine gd_xpi hp ?_
  refine br_f (by decide) ?_
  refine gd_xsi hs ?_
  refine br_f (by decide) ?_
  refine xe_eval PD hp (fun Q' W' hW => And.intro (pk_in s 4 hs) ?_)
  rw [nI_clamp (by omega), hW s hs]
  exact xg_bot (xs_bT PD p hs) (xs_Dp PD p) (xs_bD PD p) (h _ _ _)
theorem xv_topo {x y : Int32} (ho : gd_out 16 x ∨ gd_out 4 y) (h : post (-1000000) (fb, fk, fs, fp, fd, R, S, Q, W, K, B, G)) : wpX_valueTop post (fb, fk, fs, fp, fd, R, S, Q, W, K, B, G) x y := by
  unfold wpX_valueTop
  rcases gd_c 16 (by decide) x with c | ⟨p, hp, rfl⟩
  · refine gd_xpo c ?_
    exact br_t rfl h
  · rcases gd_c 4 (by decide) y with c | ⟨s, hs, rfl⟩
    · refine gd_xpi hp ?_
      refine br_f (by decide) ?_
      refine gd_xso c ?_
      exact br_t rfl h
    · exact absurd ho (by
        intro z
        rcases z with z | z
        · exact z.elim (nI_pos (by omega)) (nI_ge hp (by decide))
        · exact z.elim (nI_pos (by omega)) (nI_ge hs (by decide)))
theorem xv_boto {x y : Int32} (ho : gd_out 16 x ∨ gd_out 4 y) (h : post (-1000000) (fb, fk, fs, fp, fd, R, S, Q, W, K, B, G)) : wpX_valueBottom post (fb, fk, fs, fp, fd, R, S, Q, W, K, B, G) x y := by
  unfold wpX_valueBottom
  rcases gd_c 16 (by decide) x with c | ⟨p, hp, rfl⟩
  · refine gd_xpo c ?_
    exact br_t rfl h
  · rcases gd_c 4 (by decide) y with c | ⟨s, hs, rfl⟩
    · refine gd_xpi hp ?_
      refine br_f (by decide) ?_
      refine gd_xso c ?_
      exact br_t rfl h
    · exact absurd ho (by
        intro z
        rcases z with z | z
        · exact z.elim (nI_pos (by omega)) (nI_ge hp (by decide))
        · exact z.elim (nI_pos (by omega)) (nI_ge hs (by decide)))
end
section
variable {post : SX → Prop} {fb fk : Int64} {fs fp : Int32} {fd : Int64} {R S : Nat → Int32} {Q W B : Nat → Int64} {G : Nat → Int32}
theorem xv_k2 (h : ∀ K, (∀ t, t < 4 → K t = W t) → post (fb, fb, fs, fp, fd, R, S, Q, W, K, B, G)) : ∀ d t K, t + d = 4 → (∀ j, j < t → K j = W j) → wX_keepValues_2 post fb fk fs fp fd (d + 1) (nI t) R S Q W K B G := by
  intro d
  induction d with
  | zero =>
    intro t K ht hK
    have e : t = 4 := by omega
    subst e
    exact pk_le 4 4 (fun _ => h K hK) (fun h => absurd h (by omega))
  | succ d ih =>
    intro t K ht hK
    refine pk_le 4 t (fun h => absurd h (by omega)) (fun _ => And.intro (pk_in t 4 (by omega)) (And.intro (pk_in t 4 (by omega)) (nm_r (e' := vp_updL K t (W t)) ?_ (nm_r (nI_1 t) (ih (t + 1) _ (by omega) ?_)))))
    · rw [nI_clamp (by omega)]
    · intro j hj
      by_cases e : j = t
      · rw [e, pk_uLs]
      · rw [pk_uLn e]; exact hK j (by omega)
theorem xv_keep {K : Nat → Int64} (h : ∀ K, (∀ t, t < 4 → K t = W t) → post (fb, fb, fs, fp, fd, R, S, Q, W, K, B, G)) : wpX_keepValues post (fb, fk, fs, fp, fd, R, S, Q, W, K, B, G) :=
  ⟨5, xv_k2 h 4 0 K rfl (fun j hj => absurd hj (by omega))⟩
end
section
variable {post : Int32 → SX → Prop} {fb fk : Int64} {fs fp : Int32} {fd : Int64} {R S : Nat → Int32} {Q W K B : Nat → Int64} {G : Nat → Int32}
theorem xv_cmp (PD : lz_PD R S) {p q s : Nat} (hp : p < 16) (hq : q < 16) (hs : s < 4) (h : ∀ fb fk Q W K, post (yo_r (lz_T R S p s * lz_D R S q) (lz_T R S q s * lz_D R S p)) (fb, fk, fs, fp, fd, R, S, Q, W, K, B, G)) : wpX_compare post (fb, fk, fs, fp, fd, R, S, Q, W, K, B, G) (nI p) (nI q) (nI s) := by
  unfold wpX_compare
  refine gd_xpi hp ?_
  refine br_f (by decide) ?_
  refine gd_xpi hq ?_
  refine br_f (by decide) ?_
  refine gd_xsi hs ?_
  refine br_f (by decide) ?_
  refine xe_eval PD hp (fun Q1 W1 hW1 => ?_)
  refine xv_keep (fun K1 hK1 => ?_)
  refine xe_eval PD hq (fun Q2 W2 hW2 => ?_)
  refine And.intro (pk_in s 4 hs) (nm_r (e' := lz (lz_T R S p s * lz_D R S q)) ?_ (And.intro (pk_in s 4 hs) (nm_r (e' := lz (lz_T R S q s * lz_D R S p)) ?_ ?_)))
  · rw [nI_clamp (by omega), hK1 s hs, hW1 s hs, lz_mul]
  · rw [nI_clamp (by omega), hW2 s hs, lz_mul]
  · exact yo_cmp (post := fun r => post r (lz (lz_D R S q), lz (lz_D R S p), fs, fp, fd, R, S, Q2, W2, K1, B, G)) (yo_bd (xs_bT PD p hs) (xs_bD PD q)) (yo_bd (xs_bT PD q hs) (xs_bD PD p)) (h _ _ _ _ _) id id id
theorem xv_cmpo {x y z : Int32} (ho : gd_out 16 x ∨ gd_out 16 y ∨ gd_out 4 z) (h : post (-2) (fb, fk, fs, fp, fd, R, S, Q, W, K, B, G)) : wpX_compare post (fb, fk, fs, fp, fd, R, S, Q, W, K, B, G) x y z := by
  unfold wpX_compare
  rcases gd_c 16 (by decide) x with c | ⟨p, hp, rfl⟩
  · refine gd_xpo c ?_
    exact br_t rfl h
  · rcases gd_c 16 (by decide) y with c | ⟨q, hq, rfl⟩
    · refine gd_xpi hp ?_
      refine br_f (by decide) ?_
      refine gd_xpo c ?_
      exact br_t rfl h
    · rcases gd_c 4 (by decide) z with c | ⟨s, hs, rfl⟩
      · refine gd_xpi hp ?_
        refine br_f (by decide) ?_
        refine gd_xpi hq ?_
        refine br_f (by decide) ?_
        refine gd_xso c ?_
        exact br_t rfl h
      · exact absurd ho (by
          intro z
          rcases z with z | z | z
          · exact z.elim (nI_pos (by omega)) (nI_ge hp (by decide))
          · exact z.elim (nI_pos (by omega)) (nI_ge hq (by decide))
          · exact z.elim (nI_pos (by omega)) (nI_ge hs (by decide)))
end
section
variable {post : Int32 → SY → Prop} {R S : Nat → Int32} {Q W V : Nat → Int64}
theorem yv_top (PD : lz_PD R S) {p s : Nat} (hp : p < 16) (hs : s < 4) (h : ∀ Q W V, post (xg_t (lz_T R S p s) (lz_D R S p)) (R, S, Q, W, V)) : wpY_valueTop post (R, S, Q, W, V) (nI p) (nI s) := by
  unfold wpY_valueTop
  refine gd_ypi hp ?_
  refine br_f (by decide) ?_
  refine gd_ysi hs ?_
  refine br_f (by decide) ?_
  refine ye_solve PD (fun Q' W' V' F => ?_)
  have bD := xs_bD PD p
  have pD := xs_Dp PD p
  have bT := xs_bT PD p hs
  have eW := (F p hp s hs).1
  have eV := (F p hp s hs).2
  show wpY_common _ (R, S, Q', W', V') ((4 : Int32) * nI p + nI s)
  rw [xi4 p s]
  refine yg_com (by omega) bT pD bD eW eV (And.intro (pk_in (4 * p + s) 64 (by omega)) (And.intro (xg_nz _ pD bD) ?_))
  rw [nI_clamp (by omega), eW, xg_div bT (xg_le _ pD bD)]
  exact h Q' W' V'
theorem yv_bot (PD : lz_PD R S) {p s : Nat} (hp : p < 16) (hs : s < 4) (h : ∀ Q W V, post (xg_b (lz_T R S p s) (lz_D R S p)) (R, S, Q, W, V)) : wpY_valueBottom post (R, S, Q, W, V) (nI p) (nI s) := by
  unfold wpY_valueBottom
  refine gd_ypi hp ?_
  refine br_f (by decide) ?_
  refine gd_ysi hs ?_
  refine br_f (by decide) ?_
  refine ye_solve PD (fun Q' W' V' F => ?_)
  have bD := xs_bD PD p
  have pD := xs_Dp PD p
  have bT := xs_bT PD p hs
  have eW := (F p hp s hs).1
  have eV := (F p hp s hs).2
  show wpY_common _ (R, S, Q', W', V') ((4 : Int32) * nI p + nI s)
  rw [xi4 p s]
  refine yg_com (by omega) bT pD bD eW eV (And.intro (pk_in (4 * p + s) 64 (by omega)) (And.intro (xg_nz _ pD bD) ?_))
  rw [nI_clamp (by omega), eV, xg_div bD (xg_le _ pD bD)]
  exact h Q' W' V'
theorem yv_topo {x y : Int32} (ho : gd_out 16 x ∨ gd_out 4 y) (h : post (-1000000) (R, S, Q, W, V)) : wpY_valueTop post (R, S, Q, W, V) x y := by
  unfold wpY_valueTop
  rcases gd_c 16 (by decide) x with c | ⟨p, hp, rfl⟩
  · refine gd_ypo c ?_
    exact br_t rfl h
  · rcases gd_c 4 (by decide) y with c | ⟨s, hs, rfl⟩
    · refine gd_ypi hp ?_
      refine br_f (by decide) ?_
      refine gd_yso c ?_
      exact br_t rfl h
    · exact absurd ho (by
        intro z
        rcases z with z | z
        · exact z.elim (nI_pos (by omega)) (nI_ge hp (by decide))
        · exact z.elim (nI_pos (by omega)) (nI_ge hs (by decide)))
theorem yv_boto {x y : Int32} (ho : gd_out 16 x ∨ gd_out 4 y) (h : post (-1000000) (R, S, Q, W, V)) : wpY_valueBottom post (R, S, Q, W, V) x y := by
  unfold wpY_valueBottom
  rcases gd_c 16 (by decide) x with c | ⟨p, hp, rfl⟩
  · refine gd_ypo c ?_
    exact br_t rfl h
  · rcases gd_c 4 (by decide) y with c | ⟨s, hs, rfl⟩
    · refine gd_ypi hp ?_
      refine br_f (by decide) ?_
      refine gd_yso c ?_
      exact br_t rfl h
    · exact absurd ho (by
        intro z
        rcases z with z | z
        · exact z.elim (nI_pos (by omega)) (nI_ge hp (by decide))
        · exact z.elim (nI_pos (by omega)) (nI_ge hs (by decide)))
theorem yv_cmp (PD : lz_PD R S) {p q s : Nat} (hp : p < 16) (hq : q < 16) (hs : s < 4) (h : ∀ Q W V, post (yo_r (lz_T R S p s * lz_D R S q) (lz_T R S q s * lz_D R S p)) (R, S, Q, W, V)) : wpY_compare post (R, S, Q, W, V) (nI p) (nI q) (nI s) := by
  unfold wpY_compare
  refine gd_ypi hp ?_
  refine br_f (by decide) ?_
  refine gd_ypi hq ?_
  refine br_f (by decide) ?_
  refine gd_ysi hs ?_
  refine br_f (by decide) ?_
  refine ye_solve PD (fun Q' W' V' F => ?_)
  exact yb_ord PD F hp hq hs (h Q' W' V')
theorem yv_cmpo {x y z : Int32} (ho : gd_out 16 x ∨ gd_out 16 y ∨ gd_out 4 z) (h : post (-2) (R, S, Q, W, V)) : wpY_compare post (R, S, Q, W, V) x y z := by
  unfold wpY_compare
  rcases gd_c 16 (by decide) x with c | ⟨p, hp, rfl⟩
  · refine gd_ypo c ?_
    exact br_t rfl h
  · rcases gd_c 16 (by decide) y with c | ⟨q, hq, rfl⟩
    · refine gd_ypi hp ?_
      refine br_f (by decide) ?_
      refine gd_ypo c ?_
      exact br_t rfl h
    · rcases gd_c 4 (by decide) z with c | ⟨s, hs, rfl⟩
      · refine gd_ypi hp ?_
        refine br_f (by decide) ?_
        refine gd_ypi hq ?_
        refine br_f (by decide) ?_
        refine gd_yso c ?_
        exact br_t rfl h
      · exact absurd ho (by
          intro z
          rcases z with z | z | z
          · exact z.elim (nI_pos (by omega)) (nI_ge hp (by decide))
          · exact z.elim (nI_pos (by omega)) (nI_ge hq (by decide))
          · exact z.elim (nI_pos (by omega)) (nI_ge hs (by decide)))
end
end
section
/-! policy, policies, good, best values -/
theorem pl_and1 : ∀ g, g < 4 → ((nI g &&& 1) = 0 ↔ g % 2 = 0) := by decide +kernel
theorem pl_or : ∀ s, s < 4 → ∀ m, m < 2 ^ s → nI m ||| ((1 : Int32) <<< (nI s &&& 31)) = nI (m + 2 ^ s) := by decide +kernel
theorem pl_eq3 : ∀ g, g < 4 → (nI g = 3 ↔ g = 3) := by decide +kernel
section
variable {R S : Nat → Int32}
theorem pl_g1 (p : Nat) : ∀ s, s < 4 → 1 ≤ lz_gm R S p s := fun _ hs => mz_gm1 p hs
theorem pl_g4 (p : Nat) : ∀ s, s < 4 → lz_gm R S p s < 4 := fun s _ => mz_gm4 p s
theorem pl_B (PD : lz_PD R S) {p : Nat} (hp : p < 16) (hn : mz_no (lz_z R) (lz_z S) p) (q : Nat) : mz_B (lz_gm R S p 0) (lz_gm R S p 1) (lz_gm R S p 2) (lz_gm R S p 3) q = true ↔ yb_best R S q :=
  (mz_B_iff (lz_gm R S p) q).trans (mz_best_iff PD hp hn q).symm
/-- the first of the best -/
def pl_fst (R S : Nat → Int32) (m : Nat) : Prop := m < 16 ∧ yb_best R S m ∧ ∀ j, j < m → ¬ yb_best R S j
theorem pl_lo (PD : lz_PD R S) {p : Nat} (hp : p < 16) (hn : mz_no (lz_z R) (lz_z S) p) : pl_fst R S (mz_lo (lz_gm R S p 0) (lz_gm R S p 1) (lz_gm R S p 2) (lz_gm R S p 3)) := by
  have k := mz_fin (G := lz_gm R S p) (pl_g1 p) (pl_g4 p)
  refine ⟨k.1, (pl_B PD hp hn _).mp k.2.1, fun j hj z => ?_⟩
  have k2 := k.2.2.1 j hj
  rw [(pl_B PD hp hn j).mpr z] at k2
  exact absurd k2 (by decide)
theorem pl_gd (PD : lz_PD R S) {p : Nat} (hp : p < 16) (hn : mz_no (lz_z R) (lz_z S) p) {s a : Nat} (hs : s < 4) (ha : a < 2) : (∃ q, q < 16 ∧ mz_bit q s = a ∧ yb_best R S q) ↔ lz_gm R S p s / 2 ^ a % 2 = 1 := by
  rw [← mz_fin2 (G := lz_gm R S p) (pl_g1 p) (pl_g4 p) ha s hs]
  constructor
  · intro ⟨q, h1, h2, h3⟩; exact ⟨q, h1, h2, (pl_B PD hp hn q).mpr h3⟩
  · intro ⟨q, h1, h2, h3⟩; exact ⟨q, h1, h2, (pl_B PD hp hn q).mp h3⟩
end
section
variable {post : Int32 → SX → Prop} {fb fk : Int64} {fs fp : Int32} {fd : Int64} {R S : Nat → Int32} {Q W K B : Nat → Int64} {G : Nat → Int32}
theorem pl_8 {n m s g : Nat} (hs : s < 4) (hm : m < 2 ^ s) (hg : g < 4) (hG : G s = nI g) (h : wX_policy_8 post fb fk fs fp fd R S Q W K B G n (nI (m + (1 - g % 2) * 2 ^ s)) (nI (s + 1))) : wX_policy_8 post fb fk fs fp fd R S Q W K B G (n + 1) (nI m) (nI s) := by
  refine pk_le 4 s (fun h => absurd h (by omega)) (fun _ => And.intro (pk_in s 4 hs) ?_)
  rw [nI_clamp (by omega), hG]
  by_cases c : g % 2 = 0
  · rw [c, Nat.sub_zero, Nat.one_mul] at h
    exact br_t ((pl_and1 g hg).mpr c) (nm_r (pl_or s hs m hm) (nm_r (nI_1 s) h))
  · have e : g % 2 = 1 := by omega
    rw [e, Nat.sub_self, Nat.zero_mul, Nat.add_zero] at h
    exact br_f (fun z => c ((pl_and1 g hg).mp z)) (nm_r (nI_1 s) h)
theorem pl_pol (PD : lz_PD R S) (hs : fs = 0 ∨ (fs = 1 ∧ xs_V R S fd B G)) (h : ∀ m fb fp fd Q W B G, xs_V R S fd B G → pl_fst R S m → post (nI m) (fb, fk, 1, fp, fd, R, S, Q, W, K, B, G)) : wpX_policy post (fb, fk, fs, fp, fd, R, S, Q, W, K, B, G) := by
  refine xs_solve PD hs (fun fb fp fd Q W B G v => ?_)
  have v' := v
  obtain ⟨p, hp, hn, hD, hB, hG⟩ := v
  refine ⟨5, ?_⟩
  have g4 := pl_g4 (R := R) (S := S) p
  have b : ∀ x : Nat, 1 - x % 2 ≤ 1 := fun x => by omega
  have b0 := b (lz_gm R S p 0)
  have b1 := b (lz_gm R S p 1)
  have b2 := b (lz_gm R S p 2)
  refine pl_8 (m := 0) (s := 0) (by decide) (by decide) (g4 0 (by decide)) (hG 0 (by decide)) ?_
  refine pl_8 (s := 1) (by decide) (by omega) (g4 1 (by decide)) (hG 1 (by decide)) ?_
  refine pl_8 (s := 2) (by decide) (by omega) (g4 2 (by decide)) (hG 2 (by decide)) ?_
  refine pl_8 (s := 3) (by decide) (by omega) (g4 3 (by decide)) (hG 3 (by decide)) ?_
  refine pk_le 4 4 (fun _ => ?_) (fun h => absurd h (by omega))
  have e : 0 + (1 - lz_gm R S p 0 % 2) * 2 ^ 0 + (1 - lz_gm R S p 1 % 2) * 2 ^ 1 + (1 - lz_gm R S p 2 % 2) * 2 ^ 2 + (1 - lz_gm R S p 3 % 2) * 2 ^ 3 = mz_lo (lz_gm R S p 0) (lz_gm R S p 1) (lz_gm R S p 2) (lz_gm R S p 3) := by
    unfold mz_lo; omega
  rw [e]
  exact h _ _ _ _ _ _ _ _ v' (pl_lo PD hp hn)
theorem pl_p8 {n m s g : Nat} (hs : s < 4) (hg : g < 4) (hG : G s = nI g) (h : wX_policies_8 post fb fk fs fp fd R S Q W K B G n (nI (m * mz_w3 g)) (nI (s + 1))) : wX_policies_8 post fb fk fs fp fd R S Q W K B G (n + 1) (nI m) (nI s) := by
  refine pk_le 4 s (fun h => absurd h (by omega)) (fun _ => And.intro (pk_in s 4 hs) ?_)
  rw [nI_clamp (by omega), hG]
  unfold mz_w3 at h
  by_cases c : g = 3
  · rw [if_pos c] at h
    exact br_t ((pl_eq3 g hg).mpr c) (nm_r (pk_mul m 2) (nm_r (nI_1 s) h))
  · rw [if_neg c, Nat.mul_one] at h
    exact br_f (fun z => c ((pl_eq3 g hg).mp z)) (nm_r (nI_1 s) h)
theorem pl_pols (PD : lz_PD R S) (hs : fs = 0 ∨ (fs = 1 ∧ xs_V R S fd B G)) (h : ∀ f fb fp fd Q W B G, xs_V R S fd B G → (∀ q, f q = true ↔ yb_best R S q) → post (nI (mz_cn f 16)) (fb, fk, 1, fp, fd, R, S, Q, W, K, B, G)) : wpX_policies post (fb, fk, fs, fp, fd, R, S, Q, W, K, B, G) := by
  refine xs_solve PD hs (fun fb fp fd Q W B G v => ?_)
  have v' := v
  obtain ⟨p, hp, hn, hD, hB, hG⟩ := v
  refine ⟨5, ?_⟩
  have g4 := pl_g4 (R := R) (S := S) p
  refine pl_p8 (m := 1) (s := 0) (by decide) (g4 0 (by decide)) (hG 0 (by decide)) ?_
  refine pl_p8 (s := 1) (by decide) (g4 1 (by decide)) (hG 1 (by decide)) ?_
  refine pl_p8 (s := 2) (by decide) (g4 2 (by decide)) (hG 2 (by decide)) ?_
  refine pl_p8 (s := 3) (by decide) (g4 3 (by decide)) (hG 3 (by decide)) ?_
  refine pk_le 4 4 (fun _ => ?_) (fun h => absurd h (by omega))
  rw [Nat.one_mul, ← (mz_fin (G := lz_gm R S p) (pl_g1 p) (pl_g4 p)).2.2.2]
  exact h _ _ _ _ _ _ _ _ v' (pl_B PD hp hn)
theorem pl_good (PD : lz_PD R S) (hs : fs = 0 ∨ (fs = 1 ∧ xs_V R S fd B G)) {s a : Nat} (h4 : s < 4) (ha : a < 2) (h1 : (∃ q, q < 16 ∧ mz_bit q s = a ∧ yb_best R S q) → ∀ fb fp fd Q W B G, xs_V R S fd B G → post 1 (fb, fk, 1, fp, fd, R, S, Q, W, K, B, G)) (h0 : (¬ ∃ q, q < 16 ∧ mz_bit q s = a ∧ yb_best R S q) → ∀ fb fp fd Q W B G, xs_V R S fd B G → post 0 (fb, fk, 1, fp, fd, R, S, Q, W, K, B, G)) : wpX_good post (fb, fk, fs, fp, fd, R, S, Q, W, K, B, G) (nI s) (nI a) := by
  unfold wpX_good
  refine gd_xsi h4 ?_
  refine br_f (by decide) ?_
  refine br_f (nI_pos (by omega)) ?_
  refine br_t (nI_le (b := 1) (by omega) (by decide)) ?_
  refine xs_solve PD hs (fun fb fp fd Q W B G v => ?_)
  have v' := v
  obtain ⟨p, hp, hn, hD, hB, hG⟩ := v
  have g4 := pl_g4 (R := R) (S := S) p s h4
  have k := pl_gd PD hp hn h4 ha
  refine And.intro (pk_in s 4 h4) ?_
  rw [nI_clamp (by omega), hG s h4, xi_sh a ha _ g4]
  by_cases c : lz_gm R S p s / 2 ^ a % 2 = 1
  · rw [c]
    exact br_f (by decide) (h1 (k.mpr c) _ _ _ _ _ _ _ v')
  · have c0 : lz_gm R S p s / 2 ^ a % 2 = 0 := by omega
    rw [c0]
    exact br_t rfl (h0 (fun z => c (k.mp z)) _ _ _ _ _ _ _ v')
theorem pl_goodo {x y : Int32} (ho : gd_out 4 x ∨ gd_out 2 y) (h : post 0 (fb, fk, fs, fp, fd, R, S, Q, W, K, B, G)) : wpX_good post (fb, fk, fs, fp, fd, R, S, Q, W, K, B, G) x y := by
  unfold wpX_good
  rcases gd_c 4 (by decide) x with c | ⟨s, hs, rfl⟩
  · refine gd_xso c ?_
    exact br_t rfl h
  · refine gd_xsi hs ?_
    refine br_f (by decide) ?_
    have hy : gd_out 2 y := ho.resolve_left (fun z => z.elim (nI_pos (by omega)) (nI_ge hs (by decide)))
    by_cases c : y < 0
    · exact br_t c h
    · refine br_f c ?_
      refine br_f ?_ h
      have k := gd_lt 1 (by decide) (hy.resolve_left c)
      exact Int32.not_le.mpr k
/-- the best values, as those of the first best policy -/
theorem pl_val (PD : lz_PD R S) {p : Nat} (hp : p < 16) (hn : mz_no (lz_z R) (lz_z S) p) {m : Nat} (hm : yb_best R S m) {s : Nat} (hs : s < 4) : xg_t (lz_T R S m s) (lz_D R S m) = xg_t (lz_T R S p s) (lz_D R S p) ∧ xg_b (lz_T R S m s) (lz_D R S m) = xg_b (lz_T R S p s) (lz_D R S p) :=
  xg_eq (xs_Dp PD m) (xs_Dp PD p) (mz_best_eq PD hp hn hm hs)
theorem pl_bt (PD : lz_PD R S) (hs : fs = 0 ∨ (fs = 1 ∧ xs_V R S fd B G)) {s : Nat} (h4 : s < 4) (h : ∀ m fb fp fd Q W B G, xs_V R S fd B G → pl_fst R S m → post (xg_t (lz_T R S m s) (lz_D R S m)) (fb, fk, 1, fp, fd, R, S, Q, W, K, B, G)) : wpX_bestTop post (fb, fk, fs, fp, fd, R, S, Q, W, K, B, G) (nI s) := by
  unfold wpX_bestTop
  refine gd_xsi h4 ?_
  refine br_f (by decide) ?_
  refine xs_solve PD hs (fun fb fp fd Q W B G v => ?_)
  have v' := v
  obtain ⟨p, hp, hn, hD, hB, hG⟩ := v
  refine And.intro (pk_in s 4 h4) ?_
  have l := pl_lo PD hp hn
  have k := h _ fb fp fd Q W B G v' l
  rw [(pl_val PD hp hn l.2.1 h4).1] at k
  rw [nI_clamp (by omega), hB s h4]
  subst hD
  exact xg_top (xs_bT PD p h4) (xs_Dp PD p) (xs_bD PD p) k
theorem pl_bb (PD : lz_PD R S) (hs : fs = 0 ∨ (fs = 1 ∧ xs_V R S fd B G)) {s : Nat} (h4 : s < 4) (h : ∀ m fb fp fd Q W B G, xs_V R S fd B G → pl_fst R S m → post (xg_b (lz_T R S m s) (lz_D R S m)) (fb, fk, 1, fp, fd, R, S, Q, W, K, B, G)) : wpX_bestBottom post (fb, fk, fs, fp, fd, R, S, Q, W, K, B, G) (nI s) := by
  unfold wpX_bestBottom
  refine gd_xsi h4 ?_
  refine br_f (by decide) ?_
  refine xs_solve PD hs (fun fb fp fd Q W B G v => ?_)
  have v' := v
  obtain ⟨p, hp, hn, hD, hB, hG⟩ := v
  refine And.intro (pk_in s 4 h4) ?_
  have l := pl_lo PD hp hn
  have k := h _ fb fp fd Q W B G v' l
  rw [(pl_val PD hp hn l.2.1 h4).2] at k
  rw [nI_clamp (by omega), hB s h4]
  subst hD
  exact xg_bot (xs_bT PD p h4) (xs_Dp PD p) (xs_bD PD p) k
end
section
variable {post : Int32 → SY → Prop} {R S : Nat → Int32} {Q W V : Nat → Int64}
theorem pl_ygood (PD : lz_PD R S) {s a : Nat} (hs : s < 4) (ha : a < 2) (h1 : (∃ q, q < 16 ∧ mz_bit q s = a ∧ yb_best R S q) → ∀ Q W V, post 1 (R, S, Q, W, V)) (h0 : (¬ ∃ q, q < 16 ∧ mz_bit q s = a ∧ yb_best R S q) → ∀ Q W V, post 0 (R, S, Q, W, V)) : wpY_good post (R, S, Q, W, V) (nI s) (nI a) := by
  unfold wpY_good
  refine gd_yai hs ha ?_
  refine br_f (by decide) ?_
  refine ye_solve PD (fun Q' W' V' F => ?_)
  exact ⟨17, yb_g17 PD F hs ha 16 0 rfl (fun k => h1 k Q' W' V') (fun k => h0 (fun ⟨q, q1, q2, q3⟩ => k q (Nat.zero_le q) q1 q2 q3) Q' W' V')⟩
theorem pl_ygoodo {x y : Int32} (ho : gd_out 4 x ∨ gd_out 2 y) (h : post 0 (R, S, Q, W, V)) : wpY_good post (R, S, Q, W, V) x y := by
  unfold wpY_good
  refine gd_yao ho ?_
  exact br_t rfl h
theorem pl_ybt (PD : lz_PD R S) {s m : Nat} (hs : s < 4) (f : pl_fst R S m) (h : ∀ Q W V, post (xg_t (lz_T R S m s) (lz_D R S m)) (R, S, Q, W, V)) : wpY_bestTop post (R, S, Q, W, V) (nI s) := by
  unfold wpY_bestTop
  refine gd_ysi hs ?_
  refine br_f (by decide) ?_
  refine yb_first PD f.1 f.2.1 f.2.2 (fun Q' W' V' => ?_)
  exact yv_top PD f.1 hs h
theorem pl_ybb (PD : lz_PD R S) {s m : Nat} (hs : s < 4) (f : pl_fst R S m) (h : ∀ Q W V, post (xg_b (lz_T R S m s) (lz_D R S m)) (R, S, Q, W, V)) : wpY_bestBottom post (R, S, Q, W, V) (nI s) := by
  unfold wpY_bestBottom
  refine gd_ysi hs ?_
  refine br_f (by decide) ?_
  refine yb_first PD f.1 f.2.1 f.2.2 (fun Q' W' V' => ?_)
  exact yv_bot PD f.1 hs h
end
end
section
/-! the constructors, reward, shares -/
def in_S (k : Nat) : Nat → Int32 := fun j => if j / 4 < k ∧ j % 4 = j / 8 then 4 else 0
theorem in_S0 : in_S 0 = fun _ => 0 := by
  funext j
  exact if_neg (fun h => absurd h.1 (by omega))
theorem in_ar : ∀ k, k < 8 → (4 * k + k / 2) / 4 < k + 1 ∧ (4 * k + k / 2) % 4 = (4 * k + k / 2) / 8 := by decide
theorem in_up {k i : Nat} (hk : k < 8) (hi : i = 4 * k + k / 2) : upd (in_S k) i 4 = in_S (k + 1) := by
  funext j
  by_cases e : j = i
  · rw [e, pk_us]
    rw [hi]
    exact (if_pos (in_ar k hk)).symm
  · rw [pk_un e]
    unfold in_S
    by_cases c : j / 4 < k ∧ j % 4 = j / 8
    · rw [if_pos c, if_pos ⟨by omega, c.2⟩]
    · rw [if_neg c, if_neg (fun z => c ⟨by omega, z.2⟩)]
theorem in_pd : lz_PD (fun _ => 0) (in_S 8) := by
  refine ⟨?_, ?_⟩
  · intro k _
    exact (by decide : -20 ≤ (0 : Int32).toInt ∧ (0 : Int32).toInt ≤ 20)
  · exact (by decide +kernel : ∀ k, k < 8 → 0 ≤ (in_S 8 (4 * k)).toInt ∧ 0 ≤ (in_S 8 (4 * k + 1)).toInt ∧ 0 ≤ (in_S 8 (4 * k + 2)).toInt ∧ 0 ≤ (in_S 8 (4 * k + 3)).toInt ∧ (in_S 8 (4 * k)).toInt + (in_S 8 (4 * k + 1)).toInt + (in_S 8 (4 * k + 2)).toInt + (in_S 8 (4 * k + 3)).toInt = 4)
theorem in_ix (s a : Nat) : (4 : Int32) * ((2 : Int32) * nI s + nI a) + nI s = nI (4 * (2 * s + a) + s) := by rw [xi2, xi4]
section
variable {post : SX → Prop} {fb fk : Int64} {fs fp : Int32} {fd : Int64} {R : Nat → Int32} {Q W K B : Nat → Int64} {G : Nat → Int32}
theorem in_65 {J : Int32 → (Nat → Int32) → (Nat → Int32) → (Nat → Int64) → (Nat → Int64) → (Nat → Int64) → (Nat → Int64) → (Nat → Int32) → Prop} {s : Nat} (hs : s < 4) (h : J (nI (s + 1)) R (in_S (2 * s + 2)) Q W K B G) : ∀ d a, a + d = 2 → wX_init_65 post J (nI s) fb fk fs fp fd (d + 1) (nI a) R (in_S (2 * s + a)) Q W K B G := by
  intro d
  induction d with
  | zero =>
    intro a ha
    have e : a = 2 := by omega
    subst e
    exact pk_le 2 2 (fun _ => nm_r (nI_1 s) h) (fun h => absurd h (by omega))
  | succ d ih =>
    intro a ha
    refine pk_le 2 a (fun h => absurd h (by omega)) (fun _ => And.intro (pk_in (4 * (2 * s + a) + s) 32 (by omega) (in_ix s a)) (nm_r (e' := in_S (2 * s + (a + 1))) ?_ (nm_r (nI_1 a) (ih (a + 1) (by omega)))))
    rw [pk_cl (4 * (2 * s + a) + s) (in_ix s a), vp_nar_byte]
    exact in_up (by omega) (by omega)
theorem in_58 (h : post (fb, fk, fs, fp, fd, R, in_S 8, Q, W, K, B, G)) : ∀ d s, s + d = 4 → wX_init_58 post fb fk fs fp fd (d + 1) (nI s) R (in_S (2 * s)) Q W K B G := by
  intro d
  induction d with
  | zero =>
    intro s hs
    have e : s = 4 := by omega
    subst e
    exact pk_le 4 4 (fun _ => h) (fun h => absurd h (by omega))
  | succ d ih =>
    intro s hs
    exact pk_le 4 s (fun h => absurd h (by omega)) (fun _ => ⟨3, in_65 (by omega) (ih (s + 1) (by omega)) 2 0 rfl⟩)
theorem in_x (h : post (0, 0, 0, 0, 0, fun _ => 0, in_S 8, fun _ => 0, fun _ => 0, fun _ => 0, fun _ => 0, fun _ => 0)) : wpX_init post := by
  have k := in_58 h 4 0 rfl
  rw [show in_S (2 * 0) = fun _ => 0 from in_S0] at k
  exact ⟨5, k⟩
end
section
variable {post : SY → Prop} {R : Nat → Int32} {Q W V : Nat → Int64}
theorem in_46 (h : post (R, in_S 8, Q, W, V)) : ∀ d k, k + d = 8 → wY_init_46 post (d + 1) (nI k) R (in_S k) Q W V := by
  intro d
  induction d with
  | zero =>
    intro k hk
    have e : k = 8 := by omega
    subst e
    exact pk_le 8 8 (fun _ => h) (fun h => absurd h (by omega))
  | succ d ih =>
    intro k hk
    have e2 : nI k / 2 = nI (k / 2) := pk_div (d := 2) (by omega) (by decide) (by decide)
    have e4 : (4 : Int32) * nI k + nI k / 2 = nI (4 * k + k / 2) := by rw [e2, xi4]
    refine pk_le 8 k (fun h => absurd h (by omega)) (fun _ => And.intro (by decide) (And.intro (pk_in (4 * k + k / 2) 32 (by omega) e4) (nm_r (e' := in_S (k + 1)) ?_ (nm_r (nI_1 k) (ih (k + 1) (by omega))))))
    rw [pk_cl (4 * k + k / 2) e4]
    exact in_up (by omega) rfl
theorem in_y (h : post (fun _ => 0, in_S 8, fun _ => 0, fun _ => 0, fun _ => 0)) : wpY_init post := by
  have k := in_46 h 8 0 rfl
  rw [in_S0] at k
  exact ⟨9, k⟩
end
/-! reward -/
theorem rw_byte {x : Int32} (h1 : ¬ x < -20) (h2 : x ≤ 20) : vp_nar .byte x.toInt8.toInt32 = x ∧ -20 ≤ x.toInt ∧ x.toInt ≤ 20 := by
  rw [Int32.lt_iff_toInt_lt, show (-20 : Int32).toInt = -20 from by decide] at h1
  rw [Int32.le_iff_toInt_le, show (20 : Int32).toInt = 20 from by decide] at h2
  rw [pk_vb, lg_i2b_small (by omega) (by omega)]
  exact ⟨rfl, by omega, h2⟩
theorem rw_pd {R S : Nat → Int32} (P : lz_PD R S) {k : Nat} {x : Int32} (h1 : -20 ≤ x.toInt) (h2 : x.toInt ≤ 20) : lz_PD (upd R k x) S := by
  refine ⟨fun j hj => ?_, P.2⟩
  show -20 ≤ (upd R k x j).toInt ∧ (upd R k x j).toInt ≤ 20
  by_cases e : j = k
  · rw [e, pk_us]; exact ⟨h1, h2⟩
  · rw [pk_un e]; exact P.1 j hj
section
variable {post : Int32 → SX → Prop} {fb fk : Int64} {fs fp : Int32} {fd : Int64} {R S : Nat → Int32} {Q W K B : Nat → Int64} {G : Nat → Int32}
theorem rw_x {s a : Nat} {x : Int32} (hs : s < 4) (ha : a < 2) (h1 : ¬ x < -20) (h2 : x ≤ 20) (h : post 1 (fb, fk, 0, fp, fd, upd R (2 * s + a) x, S, Q, W, K, B, G)) : wpX_reward post (fb, fk, fs, fp, fd, R, S, Q, W, K, B, G) (nI s) (nI a) x := by
  unfold wpX_reward
  refine gd_xsi hs ?_
  refine br_f (by decide) ?_
  refine br_f (nI_pos (by omega)) ?_
  refine br_f (nI_nlt (a := 1) (by omega) (by decide)) ?_
  refine br_f h1 ?_
  refine br_t h2 (And.intro (pk_in (2 * s + a) 8 (by omega) (xi2 s a)) ?_)
  refine nm_r ?_ h
  rw [pk_cl (2 * s + a) (xi2 s a), (rw_byte h1 h2).1]
theorem rw_xo {x y z : Int32} (ho : (gd_out 4 x ∨ gd_out 2 y) ∨ z < -20 ∨ ¬ z ≤ 20) (h : post 0 (fb, fk, fs, fp, fd, R, S, Q, W, K, B, G)) : wpX_reward post (fb, fk, fs, fp, fd, R, S, Q, W, K, B, G) x y z := by
  unfold wpX_reward
  rcases gd_c 4 (by decide) x with c | ⟨s, hs, rfl⟩
  · refine gd_xso c ?_
    exact br_t rfl h
  · refine gd_xsi hs ?_
    refine br_f (by decide) ?_
    by_cases c1 : y < 0
    · exact br_t c1 h
    · refine br_f c1 ?_
      by_cases c2 : (1 : Int32) < y
      · exact br_t c2 h
      · refine br_f c2 ?_
        have hz : z < -20 ∨ ¬ z ≤ 20 := ho.resolve_left (fun q => q.elim (fun q => q.elim (nI_pos (by omega)) (nI_ge hs (by decide))) (fun q => c2 (gd_lt 1 (by decide) (q.resolve_left c1))))
        by_cases c3 : z < -20
        · exact br_t c3 h
        · exact br_f c3 (br_f (hz.resolve_left c3) h)
end
section
variable {post : Int32 → SY → Prop} {R S : Nat → Int32} {Q W V : Nat → Int64}
theorem rw_y {s a : Nat} {x : Int32} (hs : s < 4) (ha : a < 2) (h1 : ¬ x < -20) (h2 : x ≤ 20) (h : post 1 (upd R (2 * s + a) x, S, Q, W, V)) : wpY_reward post (R, S, Q, W, V) (nI s) (nI a) x := by
  unfold wpY_reward
  refine gd_yai hs ha ?_
  refine br_f (by decide) ?_
  refine br_f h1 ?_
  refine br_t h2 (And.intro (pk_in (2 * s + a) 8 (by omega) (xi2 s a)) ?_)
  refine nm_r ?_ h
  rw [pk_cl (2 * s + a) (xi2 s a)]
theorem rw_yo {x y z : Int32} (ho : (gd_out 4 x ∨ gd_out 2 y) ∨ z < -20 ∨ ¬ z ≤ 20) (h : post 0 (R, S, Q, W, V)) : wpY_reward post (R, S, Q, W, V) x y z := by
  unfold wpY_reward
  by_cases c : gd_out 4 x ∨ gd_out 2 y
  · refine gd_yao c ?_
    exact br_t rfl h
  · rcases gd_c 4 (by decide) x with c1 | ⟨s, hs, rfl⟩
    · exact absurd (Or.inl c1) c
    · rcases gd_c 2 (by decide) y with c2 | ⟨a, ha, rfl⟩
      · exact absurd (Or.inr c2) c
      · refine gd_yai hs ha ?_
        refine br_f (by decide) ?_
        by_cases c3 : z < -20
        · exact br_t c3 h
        · exact br_f c3 (br_f ((ho.resolve_left c).resolve_left c3) h)
end
/-! shares -/
def sh_S (S : Nat → Int32) (k w : Nat) : Nat → Int32 := fun j => if j = 4 * k then nI (w / 125) else if j = 4 * k + 1 then nI (w / 25 % 5) else if j = 4 * k + 2 then nI (w / 5 % 5) else if j = 4 * k + 3 then nI (w % 5) else S j
theorem sh_at (S : Nat → Int32) (k w : Nat) : sh_S S k w (4 * k) = nI (w / 125) ∧ sh_S S k w (4 * k + 1) = nI (w / 25 % 5) ∧ sh_S S k w (4 * k + 2) = nI (w / 5 % 5) ∧ sh_S S k w (4 * k + 3) = nI (w % 5) := by
  unfold sh_S
  refine ⟨if_pos rfl, ?_, ?_, ?_⟩
  · rw [if_neg (by omega), if_pos rfl]
  · rw [if_neg (by omega), if_neg (by omega), if_pos rfl]
  · rw [if_neg (by omega), if_neg (by omega), if_neg (by omega), if_pos rfl]
theorem sh_off (S : Nat → Int32) {k j : Nat} (w : Nat) (h : j < 4 * k ∨ 4 * k + 4 ≤ j) : sh_S S k w j = S j := by
  unfold sh_S
  rw [if_neg (by omega), if_neg (by omega), if_neg (by omega), if_neg (by omega)]
theorem sh_ext {S T : Nat → Int32} {k w : Nat} (h0 : T (4 * k) = nI (w / 125)) (h1 : T (4 * k + 1) = nI (w / 25 % 5)) (h2 : T (4 * k + 2) = nI (w / 5 % 5)) (h3 : T (4 * k + 3) = nI (w % 5)) (ho : ∀ j, (j < 4 * k ∨ 4 * k + 4 ≤ j) → T j = S j) : T = sh_S S k w := by
  have a := sh_at S k w
  funext j
  by_cases c : j < 4 * k ∨ 4 * k + 4 ≤ j
  · rw [ho j c, sh_off S w c]
  · have e : j = 4 * k ∨ j = 4 * k + 1 ∨ j = 4 * k + 2 ∨ j = 4 * k + 3 := by omega
    rcases e with e | e | e | e
    · rw [e, h0, a.1]
    · rw [e, h1, a.2.1]
    · rw [e, h2, a.2.2.1]
    · rw [e, h3, a.2.2.2]
theorem sh_pd {R S : Nat → Int32} (P : lz_PD R S) {k w : Nat} (hw : w < 625) (hsum : w / 125 + w / 25 % 5 + w / 5 % 5 + w % 5 = 4) : lz_PD R (sh_S S k w) := by
  refine ⟨P.1, fun j hj => ?_⟩
  show 0 ≤ (sh_S S k w (4 * j)).toInt ∧ 0 ≤ (sh_S S k w (4 * j + 1)).toInt ∧ 0 ≤ (sh_S S k w (4 * j + 2)).toInt ∧ 0 ≤ (sh_S S k w (4 * j + 3)).toInt ∧ (sh_S S k w (4 * j)).toInt + (sh_S S k w (4 * j + 1)).toInt + (sh_S S k w (4 * j + 2)).toInt + (sh_S S k w (4 * j + 3)).toInt = 4
  by_cases e : j = k
  · have a := sh_at S k w
    rw [e, a.1, a.2.1, a.2.2.1, a.2.2.2, nI_toInt (by omega), nI_toInt (by omega), nI_toInt (by omega), nI_toInt (by omega)]
    omega
  · rw [sh_off S w (by omega), sh_off S w (by omega), sh_off S w (by omega), sh_off S w (by omega)]
    exact P.2 j hj
theorem sh_d (w : Nat) (hw : w < 1000) : nI w / 125 = nI (w / 125) ∧ nI w / 25 = nI (w / 25) ∧ nI w / 5 = nI (w / 5) ∧ (nI w - nI w / 5 * 5 = nI (w % 5)) :=
  ⟨pk_div (d := 125) (by omega) (by decide) (by decide), pk_div (d := 25) (by omega) (by decide) (by decide), pk_div (d := 5) (by omega) (by decide) (by decide), pk_rem (d := 5) (by omega) (by decide) (by decide)⟩
theorem sh_sum {w : Nat} (hw : w < 625) : (((nI w / 125) + ((nI w / 25) - (nI w / 25) / 5 * 5)) + ((nI w / 5) - (nI w / 5) / 5 * 5)) + (nI w - nI w / 5 * 5) = nI (w / 125 + w / 25 % 5 + w / 5 % 5 + w % 5) := by
  have a := sh_d w (by omega)
  rw [a.2.2.2, a.1, a.2.1, a.2.2.1, (sh_d (w / 25) (by omega)).2.2.2, (sh_d (w / 5) (by omega)).2.2.2, nI_add, nI_add, nI_add]
theorem sh_b : ∀ d, d < 5 → vp_nar .byte ((nI d).toInt8.toInt32) = nI d := by
  intro d hd
  rw [pk_vb]
  revert d
  decide +kernel
theorem sh_ix (s a t : Nat) : (4 : Int32) * ((2 : Int32) * nI s + nI a) + nI t = nI (4 * (2 * s + a) + t) := by rw [xi2, xi4]
section
variable {post : Int32 → SX → Prop} {fb fk : Int64} {fs fp : Int32} {fd : Int64} {R S : Nat → Int32} {Q W K B : Nat → Int64} {G : Nat → Int32}
theorem sh_67 {s a n w t : Nat} {x6 : Int32} (hs : s < 4) (ha : a < 2) (ht : t < 4) (hw : w < 1000) (e6 : nI t + (-1) = x6) (h : wX_shares_67 post (nI s) (nI a) fb fk fs fp fd n (nI (w / 5)) x6 R (upd S (4 * (2 * s + a) + t) (nI (w % 5))) Q W K B G) : wX_shares_67 post (nI s) (nI a) fb fk fs fp fd (n + 1) (nI w) (nI t) R S Q W K B G := by
  have d := sh_d w hw
  refine br_f (nI_pos (by omega)) (And.intro (by decide) (And.intro (pk_in (4 * (2 * s + a) + t) 32 (by omega) (sh_ix s a t)) (nm_r (e' := upd S (4 * (2 * s + a) + t) (nI (w % 5))) ?_ (And.intro (by decide) (nm_r d.2.2.1 (nm_r e6 h))))))
  rw [pk_cl (4 * (2 * s + a) + t) (sh_ix s a t), d.2.2.2, sh_b _ (Nat.mod_lt _ (by decide))]
theorem sh_lp {s a w : Nat} (hs : s < 4) (ha : a < 2) (hw : w < 625) (h : post 1 (fb, fk, 0, fp, fd, R, sh_S S (2 * s + a) w, Q, W, K, B, G)) : wX_shares_67 post (nI s) (nI a) fb fk fs fp fd 5 (nI w) (nI 3) R S Q W K B G := by
  refine sh_67 (x6 := nI 2) hs ha (by decide) (by omega) (by decide) ?_
  refine sh_67 (x6 := nI 1) hs ha (by decide) (by omega) (by decide) ?_
  refine sh_67 (x6 := nI 0) hs ha (by decide) (by omega) (by decide) ?_
  refine sh_67 (x6 := -1) hs ha (by decide) (by omega) (by decide) ?_
  refine br_t (by decide) ?_
  have key : ∀ T, T = sh_S S (2 * s + a) w → post 1 (fb, fk, 0, fp, fd, R, T, Q, W, K, B, G) := fun T e => e ▸ h
  refine key _ (sh_ext ?_ ?_ ?_ ?_ ?_)
  · exact (pk_us (k := 4 * (2 * s + a))).trans (congrArg nI (by omega))
  · rw [pk_un (by omega), pk_us]; exact congrArg nI (by omega)
  · rw [pk_un (by omega), pk_un (by omega), pk_us]
  · rw [pk_un (by omega), pk_un (by omega), pk_un (by omega), pk_us]
  · intro j hj
    rw [pk_un (by omega), pk_un (by omega), pk_un (by omega), pk_un (by omega)]
theorem sh_x {s a w : Nat} (hs : s < 4) (ha : a < 2) (hw : w < 625) (h : w / 125 + w / 25 % 5 + w / 5 % 5 + w % 5 = 4 → post 1 (fb, fk, 0, fp, fd, R, sh_S S (2 * s + a) w, Q, W, K, B, G)) (h0 : ¬ w / 125 + w / 25 % 5 + w / 5 % 5 + w % 5 = 4 → post 0 (fb, fk, fs, fp, fd, R, S, Q, W, K, B, G)) : wpX_shares post (fb, fk, fs, fp, fd, R, S, Q, W, K, B, G) (nI s) (nI a) (nI w) := by
  unfold wpX_shares
  refine gd_xsi hs ?_
  refine br_f (by decide) ?_
  refine br_f (nI_pos (by omega)) ?_
  refine br_f (nI_nlt (a := 1) (by omega) (by decide)) ?_
  refine br_f (nI_pos (by omega)) ?_
  refine br_t (nI_le (b := 624) (by omega) (by decide)) ?_
  refine And.intro (by decide) (And.intro (by decide) (And.intro (by decide) (And.intro (by decide) (And.intro (by decide) (And.intro (by decide) ?_)))))
  refine nm_r (sh_sum hw) ?_
  exact pk_eq (w / 125 + w / 25 % 5 + w / 5 % 5 + w % 5) 4 (fun e => ⟨5, sh_lp hs ha hw (h e)⟩) (fun e => h0 e)
theorem sh_xo {x y z : Int32} (ho : (gd_out 4 x ∨ gd_out 2 y) ∨ gd_out 625 z) (h : post 0 (fb, fk, fs, fp, fd, R, S, Q, W, K, B, G)) : wpX_shares post (fb, fk, fs, fp, fd, R, S, Q, W, K, B, G) x y z := by
  unfold wpX_shares
  rcases gd_c 4 (by decide) x with c | ⟨s, hs, rfl⟩
  · refine gd_xso c ?_
    exact br_t rfl h
  · refine gd_xsi hs ?_
    refine br_f (by decide) ?_
    by_cases c1 : y < 0
    · exact br_t c1 h
    · refine br_f c1 ?_
      by_cases c2 : (1 : Int32) < y
      · exact br_t c2 h
      · refine br_f c2 ?_
        have hz : gd_out 625 z := ho.resolve_left (fun q => q.elim (fun q => q.elim (nI_pos (by omega)) (nI_ge hs (by decide))) (fun q => c2 (gd_lt 1 (by decide) (q.resolve_left c1))))
        by_cases c3 : z < 0
        · exact br_t c3 h
        · exact br_f c3 (br_f (Int32.not_le.mpr (gd_lt 624 (by decide) (hz.resolve_left c3))) h)
end
section
variable {post : Int32 → SY → Prop} {R S : Nat → Int32} {Q W V : Nat → Int64}
theorem sh_y {s a w : Nat} (hs : s < 4) (ha : a < 2) (hw : w < 625) (h : w / 125 + w / 25 % 5 + w / 5 % 5 + w % 5 = 4 → post 1 (R, sh_S S (2 * s + a) w, Q, W, V)) (h0 : ¬ w / 125 + w / 25 % 5 + w / 5 % 5 + w % 5 = 4 → post 0 (R, S, Q, W, V)) : wpY_shares post (R, S, Q, W, V) (nI s) (nI a) (nI w) := by
  have d := sh_d w (by omega)
  unfold wpY_shares
  refine gd_yai hs ha ?_
  refine br_f (by decide) ?_
  refine br_f (nI_pos (by omega)) ?_
  refine br_t (nI_le (b := 624) (by omega) (by decide)) ?_
  refine And.intro (by decide) (And.intro (by decide) (And.intro (by decide) (And.intro (by decide) (And.intro (by decide) (And.intro (by decide) ?_)))))
  refine nm_r (sh_sum hw) ?_
  refine pk_eq (w / 125 + w / 25 % 5 + w / 5 % 5 + w % 5) 4 (fun e => ?_) (fun e => h0 e)
  have e4 : (4 : Int32) * ((2 : Int32) * nI s + nI a) = nI (4 * (2 * s + a)) := by rw [xi2]; exact pk_mul 4 _
  refine nm_r e4 (And.intro (by decide) (And.intro (pk_in (4 * (2 * s + a)) 32 (by omega)) (nm_e (And.intro (by decide) (And.intro (by decide) (And.intro (pk_in (4 * (2 * s + a) + 1) 32 (by omega) (nI_1 _)) (nm_e (And.intro (by decide) (And.intro (by decide) (And.intro (pk_in (4 * (2 * s + a) + 2) 32 (by omega) (nI_add _ 2)) (nm_e (And.intro (by decide) (And.intro (pk_in (4 * (2 * s + a) + 3) 32 (by omega) (nI_add _ 3)) (nm_r (e' := sh_S S (2 * s + a) w) ?_ (h e)))))))))))))))
  have i3 : nI (4 * (2 * s + a)) + 3 = nI (4 * (2 * s + a) + 3) := nI_add _ 3
  have i2 : nI (4 * (2 * s + a)) + 2 = nI (4 * (2 * s + a) + 2) := nI_add _ 2
  rw [pk_cl (4 * (2 * s + a) + 3) i3, pk_cl (4 * (2 * s + a) + 2) i2, pk_cl (4 * (2 * s + a) + 1) (nI_1 _), nI_clamp (by omega), d.2.2.2, d.1, d.2.1, d.2.2.1, (sh_d (w / 25) (by omega)).2.2.2, (sh_d (w / 5) (by omega)).2.2.2]
  apply sh_ext
  · rw [pk_un (by omega), pk_un (by omega), pk_un (by omega), pk_us]
  · rw [pk_un (by omega), pk_un (by omega), pk_us]
  · rw [pk_un (by omega), pk_us]
  · rw [pk_us]
  · intro j hj
    rw [pk_un (by omega), pk_un (by omega), pk_un (by omega), pk_un (by omega)]
theorem sh_yo {x y z : Int32} (ho : (gd_out 4 x ∨ gd_out 2 y) ∨ gd_out 625 z) (h : post 0 (R, S, Q, W, V)) : wpY_shares post (R, S, Q, W, V) x y z := by
  unfold wpY_shares
  by_cases c : gd_out 4 x ∨ gd_out 2 y
  · refine gd_yao c ?_
    exact br_t rfl h
  · rcases gd_c 4 (by decide) x with c1 | ⟨s, hs, rfl⟩
    · exact absurd (Or.inl c1) c
    · rcases gd_c 2 (by decide) y with c2 | ⟨a, ha, rfl⟩
      · exact absurd (Or.inr c2) c
      · refine gd_yai hs ha ?_
        refine br_f (by decide) ?_
        by_cases c3 : z < 0
        · exact br_t c3 h
        · exact br_f c3 (br_f (Int32.not_le.mpr (gd_lt 624 (by decide) ((ho.resolve_left c).resolve_left c3))) h)
end
end
section
/-! prune -/
/-- the shares with action x's first t copied to action y -/
def pr_c (S : Nat → Int32) (x y t : Nat) : Nat → Int32 := fun j => if 4 * y ≤ j ∧ j < 4 * y + t then S (4 * x + (j - 4 * y)) else S j
theorem pr_c0 (S : Nat → Int32) (x y : Nat) : pr_c S x y 0 = S := by
  funext j
  exact if_neg (by omega)
theorem pr_off (S : Nat → Int32) {x y t j : Nat} (h : j < 4 * y ∨ 4 * y + t ≤ j) : pr_c S x y t j = S j := if_neg (by omega)
theorem pr_on (S : Nat → Int32) {x y t j : Nat} (h : j < t) : pr_c S x y t (4 * y + j) = S (4 * x + j) := by
  unfold pr_c
  rw [if_pos ⟨by omega, by omega⟩, Nat.add_sub_cancel_left]
theorem pr_row (S : Nat → Int32) {x y t j : Nat} (hn : x ≠ y) (ht : t ≤ 4) (h : j < 4) : pr_c S x y t (4 * x + j) = S (4 * x + j) := pr_off S (by omega)
theorem pr_up (S : Nat → Int32) (x y t : Nat) : upd (pr_c S x y t) (4 * y + t) (S (4 * x + t)) = pr_c S x y (t + 1) := by
  funext j
  by_cases e : j = 4 * y + t
  · rw [e, pk_us]
    exact (pr_on S (by omega)).symm
  · rw [pk_un e]
    by_cases c : 4 * y ≤ j ∧ j < 4 * y + t
    · obtain ⟨i, rfl⟩ : ∃ i, j = 4 * y + i := ⟨j - 4 * y, by omega⟩
      rw [pr_on S (by omega), pr_on S (by omega)]
    · rw [pr_off S (by omega), pr_off S (by omega)]
theorem pr_pd {R S : Nat → Int32} (P : lz_PD R S) {x y : Nat} (hx : x < 8) : lz_PD (upd R y (R x)) (pr_c S x y 4) := by
  refine ⟨fun k hk => ?_, fun k hk => ?_⟩
  · show -20 ≤ (upd R y (R x) k).toInt ∧ (upd R y (R x) k).toInt ≤ 20
    by_cases e : k = y
    · rw [e, pk_us]; exact P.1 x hx
    · rw [pk_un e]; exact P.1 k hk
  · show 0 ≤ (pr_c S x y 4 (4 * k)).toInt ∧ 0 ≤ (pr_c S x y 4 (4 * k + 1)).toInt ∧ 0 ≤ (pr_c S x y 4 (4 * k + 2)).toInt ∧ 0 ≤ (pr_c S x y 4 (4 * k + 3)).toInt ∧ (pr_c S x y 4 (4 * k)).toInt + (pr_c S x y 4 (4 * k + 1)).toInt + (pr_c S x y 4 (4 * k + 2)).toInt + (pr_c S x y 4 (4 * k + 3)).toInt = 4
    by_cases e : k = y
    · have e0 : pr_c S x y 4 (4 * y) = S (4 * x) := pr_on (j := 0) S (by decide)
      rw [e, e0, pr_on S (by decide), pr_on S (by decide), pr_on S (by decide)]
      exact P.2 x hx
    · rw [pr_off S (by omega), pr_off S (by omega), pr_off S (by omega), pr_off S (by omega)]
      exact P.2 k hk
theorem pr_b {x : Int32} (h1 : -128 ≤ x.toInt) (h2 : x.toInt < 128) : vp_nar .byte x = x := by rw [vp_nar_byte, lg_i2b_small h1 h2]
section
variable {post : Int32 → SX → Prop} {fb fk : Int64} {fs fp : Int32} {fd : Int64} {R S : Nat → Int32} {Q W K B : Nat → Int64} {G : Nat → Int32}
theorem pr_91 {J : Int32 → Int32 → (Nat → Int32) → (Nat → Int32) → (Nat → Int64) → (Nat → Int64) → (Nat → Int64) → (Nat → Int64) → (Nat → Int32) → Prop} {x y t : Nat} {x6 : Int32} (hS : ∀ j, j < 32 → 0 ≤ (S j).toInt ∧ (S j).toInt ≤ 4) (hx : x < 8) (hy : y < 8) (hn : x ≠ y) (ht : t < 4) (h : J x6 (nI (t + 1)) R (pr_c S x y (t + 1)) Q W K B G) : wX_copyAction_91 post J (nI x) (nI y) x6 (nI t) fb fk fs fp fd R (pr_c S x y t) Q W K B G := by
  refine And.intro (pk_in (4 * x + t) 32 (by omega) (xi4 x t)) (And.intro (pk_in (4 * y + t) 32 (by omega) (xi4 y t)) (nm_r (e' := pr_c S x y (t + 1)) ?_ (nm_r (nI_1 t) h)))
  have b := hS (4 * x + t) (by omega)
  rw [pk_cl (4 * x + t) (xi4 x t), pk_cl (4 * y + t) (xi4 y t), pr_row S hn (by omega) ht, pr_b (by omega) (by omega)]
  exact pr_up S x y t
theorem pr_55 {x y : Nat} (hS : ∀ j, j < 32 → 0 ≤ (S j).toInt ∧ (S j).toInt ≤ 4) (hx : x < 8) (hy : y < 8) (hn : x ≠ y) (h : post 1 (fb, fk, fs, fp, fd, R, pr_c S x y 4, Q, W, K, B, G)) : ∀ d t x6, t + d = 4 → (x6 = 1 ∨ ∃ j, t ≤ j ∧ j < 4 ∧ S (4 * x + j) ≠ S (4 * y + j)) → wX_copyAction_55 post (nI x) (nI y) fb fk fs fp fd (d + 1) x6 (nI t) R (pr_c S x y t) Q W K B G := by
  intro d
  induction d with
  | zero =>
    intro t x6 ht hd
    have e : t = 4 := by omega
    subst e
    have e1 : x6 = 1 := hd.resolve_right (fun ⟨j, h1, h2, _⟩ => by omega)
    subst e1
    exact pk_le 4 4 (fun _ => And.intro narrow_b1 h) (fun h => absurd h (by omega))
  | succ d ih =>
    intro t x6 ht hd
    refine pk_le 4 t (fun h => absurd h (by omega)) (fun _ => And.intro (pk_in (4 * x + t) 32 (by omega) (xi4 x t)) (And.intro (pk_in (4 * y + t) 32 (by omega) (xi4 y t)) ?_))
    rw [pk_cl (4 * x + t) (xi4 x t), pk_cl (4 * y + t) (xi4 y t), pr_row S hn (by omega) (by omega), pr_off (x := x) (y := y) (t := t) (j := 4 * y + t) S (by omega)]
    by_cases c : S (4 * x + t) = S (4 * y + t)
    · refine br_t c (pr_91 hS hx hy hn (by omega) (ih (t + 1) x6 (by omega) ?_))
      rcases hd with hd | ⟨j, h1, h2, h3⟩
      · exact Or.inl hd
      · refine Or.inr ⟨j, ?_, h2, h3⟩
        by_cases e : j = t
        · rw [e] at h3; exact absurd c h3
        · omega
    · exact br_f c (pr_91 hS hx hy hn (by omega) (ih (t + 1) 1 (by omega) (Or.inl rfl)))
theorem pr_36 {x y : Nat} (hR : ∀ j, j < 8 → -20 ≤ (R j).toInt ∧ (R j).toInt ≤ 20) (hS : ∀ j, j < 32 → 0 ≤ (S j).toInt ∧ (S j).toInt ≤ 4) (hx : x < 8) (hy : y < 8) (hn : x ≠ y) {z0 : Int32} (hd : z0 = 1 ∨ ∃ j, j < 4 ∧ S (4 * x + j) ≠ S (4 * y + j)) (h : post 1 (fb, fk, fs, fp, fd, upd R y (R x), pr_c S x y 4, Q, W, K, B, G)) : wX_copyAction_36 post (nI x) (nI y) z0 fb fk fs fp fd R S Q W K B G := by
  refine And.intro (pk_in x 8 hx) (And.intro (pk_in y 8 hy) (nm_r (e' := upd R y (R x)) ?_ ⟨5, ?_⟩))
  · have b := hR x hx
    rw [nI_clamp (by omega), nI_clamp (by omega), pr_b (by omega) (by omega)]
  · have k := pr_55 hS hx hy hn h 4 0 z0 rfl (hd.imp id (fun ⟨j, h1, h2⟩ => ⟨j, by omega, h1, h2⟩))
    rw [pr_c0] at k
    exact k
theorem pr_x {s f t : Nat} (PD : lz_PD R S) (hs : s < 4) (hf : f < 2) (ht : t < 2) (hn : f ≠ t) (hd : R (2 * s + f) ≠ R (2 * s + t) ∨ ∃ j, j < 4 ∧ S (4 * (2 * s + f) + j) ≠ S (4 * (2 * s + t) + j)) (h : post 1 (fb, fk, fs, fp, fd, upd R (2 * s + t) (R (2 * s + f)), pr_c S (2 * s + f) (2 * s + t) 4, Q, W, K, B, G)) : wpX_copyAction post (fb, fk, fs, fp, fd, R, S, Q, W, K, B, G) (nI s) (nI f) (nI t) := by
  have hR : ∀ j, j < 8 → -20 ≤ (R j).toInt ∧ (R j).toInt ≤ 20 := PD.1
  have hS : ∀ j, j < 32 → 0 ≤ (S j).toInt ∧ (S j).toInt ≤ 4 := by
    intro j hj
    have k := mz_sg4 PD (k := j / 4) (t := j % 4) (by omega) (by omega)
    rw [show 4 * (j / 4) + j % 4 = j from by omega] at k
    exact k
  refine nm_r (xi2 s f) (nm_r (xi2 s t) (And.intro (pk_in (2 * s + f) 8 (by omega)) (And.intro (pk_in (2 * s + t) 8 (by omega)) ?_)))
  rw [nI_clamp (by omega), nI_clamp (by omega)]
  by_cases c : R (2 * s + f) = R (2 * s + t)
  · exact br_t c (pr_36 hR hS (by omega) (by omega) (by omega) (Or.inr (hd.resolve_left (fun z => z c))) h)
  · exact br_f c (pr_36 hR hS (by omega) (by omega) (by omega) (Or.inl rfl) h)
variable {J : Int32 → Int32 → Int64 → Int64 → Int32 → Int32 → Int64 → (Nat → Int32) → (Nat → Int32) → (Nat → Int64) → (Nat → Int64) → (Nat → Int64) → (Nat → Int64) → (Nat → Int32) → Prop}
theorem pr_sk {n c s a g : Nat} (hs : s < 4) (ha : a < 2) (hg : g < 4) (hG : G s = nI g) (hb : g / 2 ^ a % 2 = 1) (h : wX_prune_15 post J (nI s) n (nI c) (nI (a + 1)) fb fk fs fp fd R S Q W K B G) : wX_prune_15 post J (nI s) (n + 1) (nI c) (nI a) fb fk fs fp fd R S Q W K B G := by
  refine pk_le 2 a (fun h => absurd h (by omega)) (fun _ => And.intro (pk_in s 4 hs) ?_)
  rw [nI_clamp (by omega), hG, xi_sh a ha g hg, hb]
  exact br_f (by decide) (nm_r (nI_1 a) h)
theorem pr_cp {n c s a b g : Nat} (PD : lz_PD R S) (hs : s < 4) (ha : a < 2) (eb : b = 1 - a) (hg : g < 4) (hG : G s = nI g) (hb : g / 2 ^ a % 2 = 0) (hd : R (2 * s + b) ≠ R (2 * s + a) ∨ ∃ j, j < 4 ∧ S (4 * (2 * s + b) + j) ≠ S (4 * (2 * s + a) + j)) (h : wX_prune_15 post J (nI s) n (nI (c + 1)) (nI (a + 1)) fb fk fs fp fd (upd R (2 * s + a) (R (2 * s + b))) (pr_c S (2 * s + b) (2 * s + a) 4) Q W K B G) : wX_prune_15 post J (nI s) (n + 1) (nI c) (nI a) fb fk fs fp fd R S Q W K B G := by
  refine pk_le 2 a (fun h => absurd h (by omega)) (fun _ => And.intro (pk_in s 4 hs) ?_)
  rw [nI_clamp (by omega), hG, xi_sh a ha g hg, hb]
  have e1 : (1 : Int32) - nI a = nI b := by rw [eb]; exact pk_sub (a := 1) (by omega)
  refine br_t rfl ?_
  rw [e1]
  refine pr_x PD hs (by omega) ha (by omega) hd ?_
  exact br_f (by decide) (nm_r (nI_1 c) (nm_r (nI_1 a) h))
end
/-! the whole: masks g -/
def pr_R (g : Nat → Nat) (R : Nat → Int32) : Nat → (Nat → Int32)
  | 0 => R
  | s + 1 => if g s = 1 then upd (pr_R g R s) (2 * s + 1) (pr_R g R s (2 * s + 0)) else if g s = 2 then upd (pr_R g R s) (2 * s + 0) (pr_R g R s (2 * s + 1)) else pr_R g R s
def pr_S (g : Nat → Nat) (S : Nat → Int32) : Nat → (Nat → Int32)
  | 0 => S
  | s + 1 => if g s = 1 then pr_c (pr_S g S s) (2 * s + 0) (2 * s + 1) 4 else if g s = 2 then pr_c (pr_S g S s) (2 * s + 1) (2 * s + 0) 4 else pr_S g S s
def pr_n (g : Nat → Nat) : Nat → Nat
  | 0 => 0
  | s + 1 => pr_n g s + (if g s = 1 then 1 else if g s = 2 then 1 else 0)
theorem pr_Rk (g : Nat → Nat) (R : Nat → Int32) : ∀ s k, 2 * s ≤ k → pr_R g R s k = R k := by
  intro s
  induction s with
  | zero => intro k _; rfl
  | succ s ih =>
    intro k hk
    unfold pr_R
    split
    · rw [pk_un (by omega)]; exact ih k (by omega)
    · split
      · rw [pk_un (by omega)]; exact ih k (by omega)
      · exact ih k (by omega)
theorem pr_Sk (g : Nat → Nat) (S : Nat → Int32) : ∀ s j, 8 * s ≤ j → pr_S g S s j = S j := by
  intro s
  induction s with
  | zero => intro k _; rfl
  | succ s ih =>
    intro k hk
    unfold pr_S
    split
    · rw [pr_off _ (by omega)]; exact ih k (by omega)
    · split
      · rw [pr_off _ (by omega)]; exact ih k (by omega)
      · exact ih k (by omega)
theorem pr_P (g : Nat → Nat) {R S : Nat → Int32} (P : lz_PD R S) : ∀ s, s ≤ 4 → lz_PD (pr_R g R s) (pr_S g S s) := by
  intro s
  induction s with
  | zero => intro _; exact P
  | succ s ih =>
    intro hs
    have k := ih (by omega)
    unfold pr_R pr_S
    by_cases c1 : g s = 1
    · rw [if_pos c1, if_pos c1]; exact pr_pd k (by omega)
    · rw [if_neg c1, if_neg c1]
      by_cases c2 : g s = 2
      · rw [if_pos c2, if_pos c2]; exact pr_pd k (by omega)
      · rw [if_neg c2, if_neg c2]; exact k
theorem pr_1 {g : Nat → Nat} {s : Nat} (h : g s = 1) (R S : Nat → Int32) : pr_R g R (s + 1) = upd (pr_R g R s) (2 * s + 1) (pr_R g R s (2 * s + 0)) ∧ pr_S g S (s + 1) = pr_c (pr_S g S s) (2 * s + 0) (2 * s + 1) 4 ∧ pr_n g (s + 1) = pr_n g s + 1 :=
  ⟨if_pos h, if_pos h, congrArg (pr_n g s + ·) (if_pos h)⟩
theorem pr_2 {g : Nat → Nat} {s : Nat} (h : g s = 2) (R S : Nat → Int32) : pr_R g R (s + 1) = upd (pr_R g R s) (2 * s + 0) (pr_R g R s (2 * s + 1)) ∧ pr_S g S (s + 1) = pr_c (pr_S g S s) (2 * s + 1) (2 * s + 0) 4 ∧ pr_n g (s + 1) = pr_n g s + 1 := by
  have h1 : ¬ g s = 1 := by omega
  exact ⟨(if_neg h1).trans (if_pos h), (if_neg h1).trans (if_pos h), congrArg (pr_n g s + ·) ((if_neg h1).trans (if_pos h))⟩
theorem pr_3 {g : Nat → Nat} {s : Nat} (h : g s = 3) (R S : Nat → Int32) : pr_R g R (s + 1) = pr_R g R s ∧ pr_S g S (s + 1) = pr_S g S s ∧ pr_n g (s + 1) = pr_n g s := by
  have h1 : ¬ g s = 1 := by omega
  have h2 : ¬ g s = 2 := by omega
  exact ⟨(if_neg h1).trans (if_neg h2), (if_neg h1).trans (if_neg h2), congrArg (pr_n g s + ·) ((if_neg h1).trans (if_neg h2))⟩
/-- the two actions of a state that has a bad one differ -/
def pr_df (g : Nat → Nat) (R S : Nat → Int32) : Prop := ∀ s, s < 4 → g s ≠ 3 → (R (2 * s + 0) ≠ R (2 * s + 1) ∨ ∃ j, j < 4 ∧ S (4 * (2 * s + 0) + j) ≠ S (4 * (2 * s + 1) + j))
theorem pr_dfp {R S : Nat → Int32} (p : Nat) : pr_df (lz_gm R S p) R S := by
  intro s hs h
  apply Classical.byContradiction
  intro c
  have c1 : R (2 * s + 0) = R (2 * s + 1) := Classical.byContradiction (fun z => c (Or.inl z))
  have c2 : ∀ j, j < 4 → S (4 * (2 * s + 0) + j) = S (4 * (2 * s + 1) + j) := fun j hj => Classical.byContradiction (fun z => c (Or.inr ⟨j, hj, z⟩))
  have e : mz_g (lz_z R) (lz_z S) p s 0 = mz_g (lz_z R) (lz_z S) p s 1 := by
    have z1 : lz_z R (2 * s + 0) = lz_z R (2 * s + 1) := congrArg Int32.toInt c1
    have z2 : ∀ j, j < 4 → lz_z S (4 * (2 * s + 0) + j) = lz_z S (4 * (2 * s + 1) + j) := fun j hj => congrArg Int32.toInt (c2 j hj)
    have z0 : lz_z S (4 * (2 * s + 0)) = lz_z S (4 * (2 * s + 1)) := z2 0 (by decide)
    unfold mz_g mz_sw
    rw [z1, z0, z2 1 (by decide), z2 2 (by decide), z2 3 (by decide)]
  have k1 : 1 ≤ lz_gm R S p s := mz_gm1 p hs
  apply h
  unfold lz_gm mz_gm at k1 ⊢
  rw [e] at k1 ⊢
  by_cases q : mz_g (lz_z R) (lz_z S) p s 1 = 8 * mz_T (lz_z R) (lz_z S) p s
  · rw [if_pos q, if_pos q]
  · rw [if_neg q, if_neg q] at k1
    exact absurd k1 (by decide)
end
section
/-! prune: the loops of both sides -/
theorem px_case {g : Nat → Nat} {s : Nat} (h1 : 1 ≤ g s) (h4 : g s < 4) : g s = 1 ∨ g s = 2 ∨ g s = 3 := by omega
section
variable {post : Int32 → SX → Prop} {fb fk : Int64} {fs fp : Int32} {fd : Int64} {R S : Nat → Int32} {Q W K B : Nat → Int64} {G : Nat → Int32} {g : Nat → Nat}
theorem px_df (D : pr_df g R S) {s : Nat} (hs : s < 4) (h : g s ≠ 3) : (pr_R g R s (2 * s + 0) ≠ pr_R g R s (2 * s + 1) ∨ ∃ j, j < 4 ∧ pr_S g S s (4 * (2 * s + 0) + j) ≠ pr_S g S s (4 * (2 * s + 1) + j)) := by
  rcases D s hs h with d | ⟨j, hj, d⟩
  · refine Or.inl ?_
    rw [pr_Rk g R s _ (by omega), pr_Rk g R s _ (by omega)]; exact d
  · refine Or.inr ⟨j, hj, ?_⟩
    rw [pr_Sk g S s _ (by omega), pr_Sk g S s _ (by omega)]; exact d
theorem px_15 {J : Int32 → Int32 → Int64 → Int64 → Int32 → Int32 → Int64 → (Nat → Int32) → (Nat → Int32) → (Nat → Int64) → (Nat → Int64) → (Nat → Int64) → (Nat → Int64) → (Nat → Int32) → Prop} (PD : lz_PD R S) (D : pr_df g R S) (h1 : ∀ s, s < 4 → 1 ≤ g s) (h4 : ∀ s, s < 4 → g s < 4) (hG : ∀ s, s < 4 → G s = nI (g s)) {s : Nat} (hs : s < 4) (h : J (nI (pr_n g (s + 1))) (nI (s + 1)) fb fk fs fp fd (pr_R g R (s + 1)) (pr_S g S (s + 1)) Q W K B G) : wX_prune_15 post J (nI s) 3 (nI (pr_n g s)) (nI 0) fb fk fs fp fd (pr_R g R s) (pr_S g S s) Q W K B G := by
  have P := pr_P g PD s (by omega)
  have g4 := h4 s hs
  have eG := hG s hs
  have fin : ∀ c R' S', J (nI c) (nI (s + 1)) fb fk fs fp fd R' S' Q W K B G → wX_prune_15 post J (nI s) 1 (nI c) (nI 2) fb fk fs fp fd R' S' Q W K B G := fun c R' S' k => pk_le 2 2 (fun _ => nm_r (nI_1 s) k) (fun h => absurd h (by omega))
  rcases px_case (h1 s hs) g4 with e | e | e
  · have d := px_df D hs (by omega)
    rw [(pr_1 e R S).1, (pr_1 e R S).2.1, (pr_1 e R S).2.2] at h
    refine pr_sk hs (by decide) g4 eG (by rw [e]) ?_
    exact pr_cp (b := 0) P hs (by decide) rfl g4 eG (by rw [e]) d (fin _ _ _ h)
  · have d := px_df D hs (by omega)
    have d' : (pr_R g R s (2 * s + 1) ≠ pr_R g R s (2 * s + 0) ∨ ∃ j, j < 4 ∧ pr_S g S s (4 * (2 * s + 1) + j) ≠ pr_S g S s (4 * (2 * s + 0) + j)) := d.imp (fun z y => z y.symm) (fun ⟨j, hj, z⟩ => ⟨j, hj, fun y => z y.symm⟩)
    rw [(pr_2 e R S).1, (pr_2 e R S).2.1, (pr_2 e R S).2.2] at h
    refine pr_cp (b := 1) P hs (by decide) rfl g4 eG (by rw [e]) d' ?_
    exact pr_sk hs (by decide) g4 eG (by rw [e]) (fin _ _ _ h)
  · rw [(pr_3 e R S).1, (pr_3 e R S).2.1, (pr_3 e R S).2.2] at h
    refine pr_sk hs (by decide) g4 eG (by rw [e]) ?_
    exact pr_sk hs (by decide) g4 eG (by rw [e]) (fin _ _ _ h)
theorem px_8 (PD : lz_PD R S) (D : pr_df g R S) (h1 : ∀ s, s < 4 → 1 ≤ g s) (h4 : ∀ s, s < 4 → g s < 4) (hG : ∀ s, s < 4 → G s = nI (g s)) (h : post (nI (pr_n g 4)) (fb, fk, 0, fp, fd, pr_R g R 4, pr_S g S 4, Q, W, K, B, G)) : ∀ d s, s + d = 4 → wX_prune_8 post (d + 1) (nI (pr_n g s)) (nI s) fb fk fs fp fd (pr_R g R s) (pr_S g S s) Q W K B G := by
  intro d
  induction d with
  | zero =>
    intro s hs
    have e : s = 4 := by omega
    subst e
    exact pk_le 4 4 (fun _ => h) (fun h => absurd h (by omega))
  | succ d ih =>
    intro s hs
    exact pk_le 4 s (fun h => absurd h (by omega)) (fun _ => ⟨3, px_15 PD D h1 h4 hG (by omega) (ih (s + 1) (by omega))⟩)
theorem px_prune (PD : lz_PD R S) (hs : fs = 0 ∨ (fs = 1 ∧ xs_V R S fd B G)) (h : ∀ p fb fp fd Q W B G, p < 16 → mz_no (lz_z R) (lz_z S) p → post (nI (pr_n (lz_gm R S p) 4)) (fb, fk, 0, fp, fd, pr_R (lz_gm R S p) R 4, pr_S (lz_gm R S p) S 4, Q, W, K, B, G)) : wpX_prune post (fb, fk, fs, fp, fd, R, S, Q, W, K, B, G) := by
  refine xs_solve PD hs (fun fb fp fd Q W B G v => ?_)
  obtain ⟨p, hp, hn, hD, hB, hG⟩ := v
  exact ⟨5, px_8 PD (pr_dfp p) (pl_g1 p) (pl_g4 p) hG (h p _ _ _ _ _ _ _ hp hn) 4 0 rfl⟩
end
/-! Y -/
def py_b (g : Nat → Nat) (k : Nat) : Nat := 1 - g (k / 2) / 2 ^ (k % 2) % 2
def py_m (g : Nat → Nat) : Nat → Nat
  | 0 => 0
  | k + 1 => py_m g k + py_b g k * 2 ^ k
theorem py_b1 (g : Nat → Nat) (k : Nat) : py_b g k = 0 ∨ py_b g k = 1 := by unfold py_b; omega
theorem py_lt (g : Nat → Nat) : ∀ k, py_m g k < 2 ^ k := by
  intro k
  induction k with
  | zero => exact Nat.one_pos
  | succ k ih =>
    have e : 2 ^ (k + 1) = 2 ^ k + 2 ^ k := by rw [Nat.pow_succ]; omega
    unfold py_m
    rcases py_b1 g k with b | b
    · rw [b, Nat.zero_mul]; omega
    · rw [b, Nat.one_mul]; omega
theorem py_bit (g : Nat → Nat) : ∀ k j, j < k → py_m g k / 2 ^ j % 2 = py_b g j := by
  intro k
  induction k with
  | zero => intro j h; omega
  | succ k ih =>
    intro j hj
    unfold py_m
    by_cases e : j = k
    · rw [e, Nat.add_mul_div_right _ _ (Nat.two_pow_pos k), Nat.div_eq_of_lt (py_lt g k), Nat.zero_add]
      rcases py_b1 g k with b | b
      · rw [b]
      · rw [b]
    · obtain ⟨i, rfl⟩ : ∃ i, k = j + (i + 1) := ⟨k - j - 1, by omega⟩
      rw [Nat.pow_add, Nat.mul_comm (2 ^ j), ← Nat.mul_assoc, Nat.add_mul_div_right _ _ (Nat.two_pow_pos j), Nat.pow_succ, ← Nat.mul_assoc, Nat.add_mul_mod_self_right]
      exact ih j (by omega)
theorem py_or : ∀ k, k < 8 → ∀ m, m < 2 ^ k → nI m ||| ((1 : Int32) <<< (nI k &&& 31)) = nI (m + 2 ^ k) := by decide +kernel
theorem py_sh {m k : Nat} (hm : m < 256) (hk : k < 8) : (nI m >>> (nI k &&& 31)) &&& 1 = nI (m / 2 ^ k % 2) := by
  have e : ∀ k, k < 8 → ((nI k &&& 31).toBitVec.smod 32).toNat = k := by decide +kernel
  have l : m / 2 ^ k ≤ m := Nat.div_le_self _ _
  rw [pk_shrN (by omega) _ k (e k hk), pk_andN (by omega) 1 (by decide)]
section
variable {R S : Nat → Int32} {g : Nat → Nat}
theorem py_14 {post : SY → Prop} {Q W V : Nat → Int64} {x y : Nat} (hx : x < 8) (hy : y < 8) (hn : x ≠ y) (h : post (R, pr_c S x y 4, Q, W, V)) : ∀ d t, t + d = 4 → wY_copy_14 post (nI x) (nI y) (d + 1) (nI t) R (pr_c S x y t) Q W V := by
  intro d
  induction d with
  | zero =>
    intro t ht
    have e : t = 4 := by omega
    subst e
    exact pk_le 4 4 (fun _ => h) (fun h => absurd h (by omega))
  | succ d ih =>
    intro t ht
    refine pk_le 4 t (fun h => absurd h (by omega)) (fun _ => And.intro (pk_in (4 * x + t) 32 (by omega) (xi4 x t)) (And.intro (pk_in (4 * y + t) 32 (by omega) (xi4 y t)) (nm_r (e' := pr_c S x y (t + 1)) ?_ (nm_r (nI_1 t) (ih (t + 1) (by omega))))))
    rw [pk_cl (4 * x + t) (xi4 x t), pk_cl (4 * y + t) (xi4 y t), pr_row S hn (by omega) (by omega)]
    exact pr_up S x y t
theorem py_cp {post : SY → Prop} {Q W V : Nat → Int64} {x y : Nat} (hx : x < 8) (hy : y < 8) (hn : x ≠ y) (h : post (upd R y (R x), pr_c S x y 4, Q, W, V)) : wpY_copy post (R, S, Q, W, V) (nI x) (nI y) := by
  refine And.intro (pk_in x 8 hx) (And.intro (pk_in y 8 hy) (nm_r (e' := upd R y (R x)) ?_ ⟨5, ?_⟩))
  · rw [nI_clamp (by omega), nI_clamp (by omega)]
  · have k := py_14 hx hy hn h 4 0 rfl
    rw [pr_c0] at k
    exact k
variable {post : Int32 → SY → Prop} {Q W V : Nat → Int64}
theorem py_sk {n c k m : Nat} (hk : k < 8) (hm : m < 256) (hb : m / 2 ^ k % 2 = 0) (h : wY_prune_39 post (nI m) n (nI c) (nI (k + 1)) R S Q W V) : wY_prune_39 post (nI m) (n + 1) (nI c) (nI k) R S Q W V := by
  refine pk_le 8 k (fun h => absurd h (by omega)) (fun _ => ?_)
  rw [py_sh hm hk, hb]
  exact br_f (by decide) (nm_r (nI_1 k) h)
theorem py_ck {n c k x m : Nat} (hk : k < 8) (hm : m < 256) (hb : m / 2 ^ k % 2 = 1) (ex : x = if k % 2 = 0 then k + 1 else k - 1) (h : wY_prune_39 post (nI m) n (nI (c + 1)) (nI (k + 1)) (upd R k (R x)) (pr_c S x k 4) Q W V) : wY_prune_39 post (nI m) (n + 1) (nI c) (nI k) R S Q W V := by
  refine pk_le 8 k (fun h => absurd h (by omega)) (fun _ => ?_)
  rw [py_sh hm hk, hb]
  refine br_t rfl (And.intro (by decide) ?_)
  have er : nI k - nI k / 2 * 2 = nI (k % 2) := pk_rem (d := 2) (by omega) (by decide) (by decide)
  rw [er]
  refine pk_eq (k % 2) 0 (fun e => ?_) (fun e => ?_)
  · rw [if_pos e] at ex
    subst ex
    unfold wY_prune_70
    rw [nI_1 k]
    refine py_cp (by omega) hk (by omega) ?_
    exact nm_r (nI_1 c) (nm_e h)
  · rw [if_neg e] at ex
    subst ex
    have e1 : nI k - 1 = nI (k - 1) := pk_sub (b := 1) (by omega)
    unfold wY_prune_70
    rw [e1]
    refine py_cp (by omega) hk (by omega) ?_
    exact nm_r (nI_1 c) (nm_r (nI_1 k) h)
theorem py_39 (h1 : ∀ s, s < 4 → 1 ≤ g s) (h4 : ∀ s, s < 4 → g s < 4) (h : post (nI (pr_n g 4)) (pr_R g R 4, pr_S g S 4, Q, W, V)) : ∀ d s, s + d = 4 → wY_prune_39 post (nI (py_m g 8)) (2 * d + 1) (nI (pr_n g s)) (nI (2 * s)) (pr_R g R s) (pr_S g S s) Q W V := by
  intro d
  induction d with
  | zero =>
    intro s hs
    have e : s = 4 := by omega
    subst e
    exact pk_le 8 8 (fun _ => h) (fun h => absurd h (by omega))
  | succ d ih =>
    intro s hs
    have k := ih (s + 1) (by omega)
    have hm : py_m g 8 < 256 := py_lt g 8
    have e0 : py_b g (2 * s) = 1 - g s % 2 := by
      unfold py_b
      rw [show 2 * s / 2 = s from by omega, show 2 * s % 2 = 0 from by omega, Nat.pow_zero, Nat.div_one]
    have e1 : py_b g (2 * s + 1) = 1 - g s / 2 % 2 := by
      unfold py_b
      rw [show (2 * s + 1) / 2 = s from by omega, show (2 * s + 1) % 2 = 1 from by omega, Nat.pow_one]
    have b0 := py_bit g 8 (2 * s) (by omega)
    have b1 := py_bit g 8 (2 * s + 1) (by omega)
    rw [e0] at b0
    rw [e1] at b1
    show wY_prune_39 post (nI (py_m g 8)) (2 * d + 1 + 1 + 1) (nI (pr_n g s)) (nI (2 * s)) (pr_R g R s) (pr_S g S s) Q W V
    rcases px_case (h1 s (by omega)) (h4 s (by omega)) with e | e | e
    · rw [(pr_1 e R S).1, (pr_1 e R S).2.1, (pr_1 e R S).2.2] at k
      rw [e] at b0 b1
      refine py_sk (by omega) hm b0 ?_
      exact py_ck (x := 2 * s + 0) (by omega) hm b1 (by rw [if_neg (by omega)]; rfl) k
    · rw [(pr_2 e R S).1, (pr_2 e R S).2.1, (pr_2 e R S).2.2] at k
      rw [e] at b0 b1
      refine py_ck (x := 2 * s + 1) (by omega) hm b0 (by rw [if_pos (by omega)]) ?_
      exact py_sk (by omega) hm b1 k
    · rw [(pr_3 e R S).1, (pr_3 e R S).2.1, (pr_3 e R S).2.2] at k
      rw [e] at b0 b1
      refine py_sk (by omega) hm b0 ?_
      exact py_sk (by omega) hm b1 k
theorem py_6 (PD : lz_PD R S) {p : Nat} (hp : p < 16) (hn : mz_no (lz_z R) (lz_z S) p) (h : ∀ Q W V, post (nI (pr_n (lz_gm R S p) 4)) (pr_R (lz_gm R S p) R 4, pr_S (lz_gm R S p) S 4, Q, W, V)) : ∀ d k Q W V, k + d = 8 → wY_prune_6 post 0 (d + 1) (nI (py_m (lz_gm R S p) k)) (nI k) R S Q W V := by
  intro d
  induction d with
  | zero =>
    intro k Q W V hk
    have e : k = 8 := by omega
    subst e
    exact pk_le 8 8 (fun _ => ⟨9, py_39 (pl_g1 p) (pl_g4 p) (h Q W V) 4 0 rfl⟩) (fun h => absurd h (by omega))
  | succ d ih =>
    intro k Q W V hk
    have e2 : nI k / 2 = nI (k / 2) := pk_div (d := 2) (by omega) (by decide) (by decide)
    have er : nI k - nI k / 2 * 2 = nI (k % 2) := pk_rem (d := 2) (by omega) (by decide) (by decide)
    have kk := pl_gd PD hp hn (s := k / 2) (a := k % 2) (by omega) (by omega)
    refine pk_le 8 k (fun h => absurd h (by omega)) (fun _ => And.intro (by decide) (And.intro (by decide) ?_))
    rw [er, e2]
    refine pl_ygood PD (by omega) (by omega) (fun z Q' W' V' => ?_) (fun z Q' W' V' => ?_)
    · have eb : py_m (lz_gm R S p) (k + 1) = py_m (lz_gm R S p) k := by
        show py_m (lz_gm R S p) k + py_b (lz_gm R S p) k * 2 ^ k = _
        unfold py_b
        rw [kk.mp z, Nat.sub_self, Nat.zero_mul, Nat.add_zero]
      have q := ih (k + 1) Q' W' V' (by omega)
      rw [eb] at q
      exact br_f (by decide) (nm_r (nI_1 k) q)
    · have eb : py_m (lz_gm R S p) (k + 1) = py_m (lz_gm R S p) k + 2 ^ k := by
        show py_m (lz_gm R S p) k + py_b (lz_gm R S p) k * 2 ^ k = _
        have z0 : ¬ lz_gm R S p (k / 2) / 2 ^ (k % 2) % 2 = 1 := fun y => z (kk.mpr y)
        have z1 : lz_gm R S p (k / 2) / 2 ^ (k % 2) % 2 = 0 := by omega
        unfold py_b
        rw [z1, Nat.sub_zero, Nat.one_mul]
      have q := ih (k + 1) Q' W' V' (by omega)
      rw [eb] at q
      exact br_t rfl (nm_r (py_or k (by omega) _ (py_lt _ k)) (nm_r (nI_1 k) q))
theorem py_prune (PD : lz_PD R S) {p : Nat} (hp : p < 16) (hn : mz_no (lz_z R) (lz_z S) p) (h : ∀ Q W V, post (nI (pr_n (lz_gm R S p) 4)) (pr_R (lz_gm R S p) R 4, pr_S (lz_gm R S p) S 4, Q, W, V)) : wpY_prune post (R, S, Q, W, V) :=
  ⟨9, py_6 PD hp hn h 8 0 Q W V rfl⟩
end
end
section
/-! the relation and what is owed -/
/-- the same rewards and shares; if X has solved, what it keeps is right for them -/
def i_Rel (k : Nat) (u : SX) (v : SY) : Prop := match u, v with
  | (_, _, fs, _, fd, R, S, _, _, _, B, G), (R', S', _, _, _) => R' = R ∧ S' = S ∧ lz_PD R S ∧ (fs = 0 ∨ (fs = 1 ∧ xs_V R S fd B G))
theorem ir_mk {k : Nat} {fb fk : Int64} {fs fp : Int32} {fd : Int64} {R S : Nat → Int32} {Q W K B : Nat → Int64} {G : Nat → Int32} {Q' W' V' : Nat → Int64} (P : lz_PD R S) (h : fs = 0 ∨ (fs = 1 ∧ xs_V R S fd B G)) : i_Rel k (fb, fk, fs, fp, fd, R, S, Q, W, K, B, G) (R, S, Q', W', V') := And.intro rfl (And.intro rfl (And.intro P h))
theorem ir_el {k : Nat} {P : SX → SY → Prop} {u : SX} {v : SY} (I : i_Rel k u v) (h : ∀ fb fk fs fp fd R S Q W K B G Q' W' V', lz_PD R S → (fs = 0 ∨ (fs = 1 ∧ xs_V R S fd B G)) → P (fb, fk, fs, fp, fd, R, S, Q, W, K, B, G) (R, S, Q', W', V')) : P u v := by
  obtain ⟨fb, fk, fs, fp, fd, R, S, Q, W, K, B, G⟩ := u
  obtain ⟨R', S', Q', W', V'⟩ := v
  have e1 : R' = R := I.1
  have e2 : S' = S := I.2.1
  subst e1 e2
  exact h _ _ _ _ _ _ _ _ _ _ _ _ _ _ _ I.2.2.1 I.2.2.2
theorem i_up {k : Nat} {u : SX} {v : SY} (h : i_Rel k u v) : i_Rel (k + 4) u v := h
theorem i_vc0 : wpX_init (fun u => wpY_init (fun v => i_Rel 0 u v)) := in_x (in_y (ir_mk in_pd (Or.inl rfl)))
theorem i_vc_reward {k : Nat} {u : SX} {v : SY} (I : i_Rel k u v) (hk : k + 4 ≤ 2048) (v1 : Int32) (v2 : Int32) (v3 : Int32) : wpX_reward (fun r u' => wpY_reward (fun r' v' => r' = r ∧ i_Rel (k + 4) u' v') v v1 v2 v3) u v1 v2 v3 := by
  refine ir_el (P := fun u v => wpX_reward (fun r u' => wpY_reward (fun r' v' => r' = r ∧ i_Rel (k + 4) u' v') v v1 v2 v3) u v1 v2 v3) I ?_
  intro fb fk fs fp fd R S Q W K B G Q' W' V' P h
  by_cases ho : (gd_out 4 v1 ∨ gd_out 2 v2) ∨ v3 < -20 ∨ ¬ v3 ≤ 20
  · exact rw_xo ho (rw_yo ho ⟨rfl, ir_mk P h⟩)
  · have h1 : ¬ v3 < -20 := fun z => ho (Or.inr (Or.inl z))
    have h2 : v3 ≤ 20 := Classical.byContradiction (fun z => ho (Or.inr (Or.inr z)))
    rcases gd_c 4 (by decide) v1 with c | ⟨s, hs, rfl⟩
    · exact absurd (Or.inl (Or.inl c)) ho
    · rcases gd_c 2 (by decide) v2 with c | ⟨a, ha, rfl⟩
      · exact absurd (Or.inl (Or.inr c)) ho
      · exact rw_x hs ha h1 h2 (rw_y hs ha h1 h2 ⟨rfl, ir_mk (rw_pd P (rw_byte h1 h2).2.1 (rw_byte h1 h2).2.2) (Or.inl rfl)⟩)
theorem i_vc_shares {k : Nat} {u : SX} {v : SY} (I : i_Rel k u v) (hk : k + 4 ≤ 2048) (v1 : Int32) (v2 : Int32) (v3 : Int32) : wpX_shares (fun r u' => wpY_shares (fun r' v' => r' = r ∧ i_Rel (k + 4) u' v') v v1 v2 v3) u v1 v2 v3 := by
  refine ir_el (P := fun u v => wpX_shares (fun r u' => wpY_shares (fun r' v' => r' = r ∧ i_Rel (k + 4) u' v') v v1 v2 v3) u v1 v2 v3) I ?_
  intro fb fk fs fp fd R S Q W K B G Q' W' V' P h
  by_cases ho : (gd_out 4 v1 ∨ gd_out 2 v2) ∨ gd_out 625 v3
  · exact sh_xo ho (sh_yo ho ⟨rfl, ir_mk P h⟩)
  · rcases gd_c 4 (by decide) v1 with c | ⟨s, hs, rfl⟩
    · exact absurd (Or.inl (Or.inl c)) ho
    · rcases gd_c 2 (by decide) v2 with c | ⟨a, ha, rfl⟩
      · exact absurd (Or.inl (Or.inr c)) ho
      · rcases gd_c 625 (by decide) v3 with c | ⟨w, hw, rfl⟩
        · exact absurd (Or.inr c) ho
        · exact sh_x hs ha hw (fun e => sh_y hs ha hw (fun _ => ⟨rfl, ir_mk (sh_pd P hw e) (Or.inl rfl)⟩) (fun z => absurd e z)) (fun z => sh_y hs ha hw (fun e => absurd e z) (fun _ => ⟨rfl, ir_mk P h⟩))
theorem i_vc_valueTop {k : Nat} {u : SX} {v : SY} (I : i_Rel k u v) (hk : k + 4 ≤ 2048) (v1 : Int32) (v2 : Int32) : wpX_valueTop (fun r u' => wpY_valueTop (fun r' v' => r' = r ∧ i_Rel (k + 4) u' v') v v1 v2) u v1 v2 := by
  refine ir_el (P := fun u v => wpX_valueTop (fun r u' => wpY_valueTop (fun r' v' => r' = r ∧ i_Rel (k + 4) u' v') v v1 v2) u v1 v2) I ?_
  intro fb fk fs fp fd R S Q W K B G Q' W' V' P h
  by_cases ho : gd_out 16 v1 ∨ gd_out 4 v2
  · exact xv_topo ho (yv_topo ho ⟨rfl, ir_mk P h⟩)
  · rcases gd_c 16 (by decide) v1 with c | ⟨p, hp, rfl⟩
    · exact absurd (Or.inl c) ho
    · rcases gd_c 4 (by decide) v2 with c | ⟨s, hs, rfl⟩
      · exact absurd (Or.inr c) ho
      · exact xv_top P hp hs (fun _ _ _ => yv_top P hp hs (fun _ _ _ => ⟨rfl, ir_mk P h⟩))
theorem i_vc_valueBottom {k : Nat} {u : SX} {v : SY} (I : i_Rel k u v) (hk : k + 4 ≤ 2048) (v1 : Int32) (v2 : Int32) : wpX_valueBottom (fun r u' => wpY_valueBottom (fun r' v' => r' = r ∧ i_Rel (k + 4) u' v') v v1 v2) u v1 v2 := by
  refine ir_el (P := fun u v => wpX_valueBottom (fun r u' => wpY_valueBottom (fun r' v' => r' = r ∧ i_Rel (k + 4) u' v') v v1 v2) u v1 v2) I ?_
  intro fb fk fs fp fd R S Q W K B G Q' W' V' P h
  by_cases ho : gd_out 16 v1 ∨ gd_out 4 v2
  · exact xv_boto ho (yv_boto ho ⟨rfl, ir_mk P h⟩)
  · rcases gd_c 16 (by decide) v1 with c | ⟨p, hp, rfl⟩
    · exact absurd (Or.inl c) ho
    · rcases gd_c 4 (by decide) v2 with c | ⟨s, hs, rfl⟩
      · exact absurd (Or.inr c) ho
      · exact xv_bot P hp hs (fun _ _ _ => yv_bot P hp hs (fun _ _ _ => ⟨rfl, ir_mk P h⟩))
theorem i_vc_bestTop {k : Nat} {u : SX} {v : SY} (I : i_Rel k u v) (hk : k + 4 ≤ 2048) (v1 : Int32) : wpX_bestTop (fun r u' => wpY_bestTop (fun r' v' => r' = r ∧ i_Rel (k + 4) u' v') v v1) u v1 := by
  refine ir_el (P := fun u v => wpX_bestTop (fun r u' => wpY_bestTop (fun r' v' => r' = r ∧ i_Rel (k + 4) u' v') v v1) u v1) I ?_
  intro fb fk fs fp fd R S Q W K B G Q' W' V' P h
  rcases gd_c 4 (by decide) v1 with c | ⟨s, hs, rfl⟩
  · unfold wpX_bestTop
    refine gd_xso c ?_
    refine br_t rfl ?_
    unfold wpY_bestTop
    refine gd_yso c ?_
    exact br_t rfl ⟨rfl, ir_mk P h⟩
  · exact pl_bt P h hs (fun _ _ _ _ _ _ _ _ v f => pl_ybt P hs f (fun _ _ _ => ⟨rfl, ir_mk P (Or.inr ⟨rfl, v⟩)⟩))
theorem i_vc_bestBottom {k : Nat} {u : SX} {v : SY} (I : i_Rel k u v) (hk : k + 4 ≤ 2048) (v1 : Int32) : wpX_bestBottom (fun r u' => wpY_bestBottom (fun r' v' => r' = r ∧ i_Rel (k + 4) u' v') v v1) u v1 := by
  refine ir_el (P := fun u v => wpX_bestBottom (fun r u' => wpY_bestBottom (fun r' v' => r' = r ∧ i_Rel (k + 4) u' v') v v1) u v1) I ?_
  intro fb fk fs fp fd R S Q W K B G Q' W' V' P h
  rcases gd_c 4 (by decide) v1 with c | ⟨s, hs, rfl⟩
  · unfold wpX_bestBottom
    refine gd_xso c ?_
    refine br_t rfl ?_
    unfold wpY_bestBottom
    refine gd_yso c ?_
    exact br_t rfl ⟨rfl, ir_mk P h⟩
  · exact pl_bb P h hs (fun _ _ _ _ _ _ _ _ v f => pl_ybb P hs f (fun _ _ _ => ⟨rfl, ir_mk P (Or.inr ⟨rfl, v⟩)⟩))
theorem i_vc_policy {k : Nat} {u : SX} {v : SY} (I : i_Rel k u v) (hk : k + 4 ≤ 2048) : wpX_policy (fun r u' => wpY_policy (fun r' v' => r' = r ∧ i_Rel (k + 4) u' v') v) u := by
  refine ir_el (P := fun u v => wpX_policy (fun r u' => wpY_policy (fun r' v' => r' = r ∧ i_Rel (k + 4) u' v') v) u) I ?_
  intro fb fk fs fp fd R S Q W K B G Q' W' V' P h
  refine pl_pol P h (fun m _ _ _ _ _ _ _ v f => ?_)
  unfold wpY_policy
  refine yb_first P f.1 f.2.1 f.2.2 (fun _ _ _ => ?_)
  exact ⟨rfl, ir_mk P (Or.inr ⟨rfl, v⟩)⟩
theorem i_vc_policies {k : Nat} {u : SX} {v : SY} (I : i_Rel k u v) (hk : k + 4 ≤ 2048) : wpX_policies (fun r u' => wpY_policies (fun r' v' => r' = r ∧ i_Rel (k + 4) u' v') v) u := by
  refine ir_el (P := fun u v => wpX_policies (fun r u' => wpY_policies (fun r' v' => r' = r ∧ i_Rel (k + 4) u' v') v) u) I ?_
  intro fb fk fs fp fd R S Q W K B G Q' W' V' P h
  refine pl_pols P h (fun f _ _ _ _ _ _ _ v hf => ?_)
  exact yb_pols P hf (fun _ _ _ => ⟨rfl, ir_mk P (Or.inr ⟨rfl, v⟩)⟩)
theorem i_vc_good {k : Nat} {u : SX} {v : SY} (I : i_Rel k u v) (hk : k + 4 ≤ 2048) (v1 : Int32) (v2 : Int32) : wpX_good (fun r u' => wpY_good (fun r' v' => r' = r ∧ i_Rel (k + 4) u' v') v v1 v2) u v1 v2 := by
  refine ir_el (P := fun u v => wpX_good (fun r u' => wpY_good (fun r' v' => r' = r ∧ i_Rel (k + 4) u' v') v v1 v2) u v1 v2) I ?_
  intro fb fk fs fp fd R S Q W K B G Q' W' V' P h
  by_cases ho : gd_out 4 v1 ∨ gd_out 2 v2
  · exact pl_goodo ho (pl_ygoodo ho ⟨rfl, ir_mk P h⟩)
  · rcases gd_c 4 (by decide) v1 with c | ⟨s, hs, rfl⟩
    · exact absurd (Or.inl c) ho
    · rcases gd_c 2 (by decide) v2 with c | ⟨a, ha, rfl⟩
      · exact absurd (Or.inr c) ho
      · exact pl_good P h hs ha (fun z _ _ _ _ _ _ _ v => pl_ygood P hs ha (fun _ _ _ _ => ⟨rfl, ir_mk P (Or.inr ⟨rfl, v⟩)⟩) (fun y => absurd z y)) (fun z _ _ _ _ _ _ _ v => pl_ygood P hs ha (fun y => absurd y z) (fun _ _ _ _ => ⟨rfl, ir_mk P (Or.inr ⟨rfl, v⟩)⟩))
theorem i_vc_prune {k : Nat} {u : SX} {v : SY} (I : i_Rel k u v) (hk : k + 4 ≤ 2048) : wpX_prune (fun r u' => wpY_prune (fun r' v' => r' = r ∧ i_Rel (k + 4) u' v') v) u := by
  refine ir_el (P := fun u v => wpX_prune (fun r u' => wpY_prune (fun r' v' => r' = r ∧ i_Rel (k + 4) u' v') v) u) I ?_
  intro fb fk fs fp fd R S Q W K B G Q' W' V' P h
  refine px_prune P h (fun p _ _ _ _ _ _ _ hp hn => ?_)
  exact py_prune P hp hn (fun _ _ _ => ⟨rfl, ir_mk (pr_P _ P 4 (by decide)) (Or.inl rfl)⟩)
theorem i_vc_compare {k : Nat} {u : SX} {v : SY} (I : i_Rel k u v) (hk : k + 4 ≤ 2048) (v1 : Int32) (v2 : Int32) (v3 : Int32) : wpX_compare (fun r u' => wpY_compare (fun r' v' => r' = r ∧ i_Rel (k + 4) u' v') v v1 v2 v3) u v1 v2 v3 := by
  refine ir_el (P := fun u v => wpX_compare (fun r u' => wpY_compare (fun r' v' => r' = r ∧ i_Rel (k + 4) u' v') v v1 v2 v3) u v1 v2 v3) I ?_
  intro fb fk fs fp fd R S Q W K B G Q' W' V' P h
  by_cases ho : gd_out 16 v1 ∨ gd_out 16 v2 ∨ gd_out 4 v3
  · exact xv_cmpo ho (yv_cmpo ho ⟨rfl, ir_mk P h⟩)
  · rcases gd_c 16 (by decide) v1 with c | ⟨p, hp, rfl⟩
    · exact absurd (Or.inl c) ho
    · rcases gd_c 16 (by decide) v2 with c | ⟨q, hq, rfl⟩
      · exact absurd (Or.inr (Or.inl c)) ho
      · rcases gd_c 4 (by decide) v3 with c | ⟨s, hs, rfl⟩
        · exact absurd (Or.inr (Or.inr c)) ho
        · exact xv_cmp P hp hq hs (fun _ _ _ _ _ => yv_cmp P hp hq hs (fun _ _ _ => ⟨rfl, ir_mk P h⟩))
end
