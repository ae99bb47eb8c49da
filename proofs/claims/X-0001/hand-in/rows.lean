section
/-! pure rows to paste: stores, nI and lN arithmetic, masks, shifts, narrowing, branches by naturals (pk_le, pk_lt, pk_eq), loops (lp1 .. lp16: the measure of the state; rp1 ..: recursion), negatives. Take what you need -/
theorem pk_us {f : Nat → Int32} {k : Nat} {x : Int32} : upd f k x k = x := if_pos rfl
theorem pk_un {f : Nat → Int32} {k j : Nat} {x : Int32} (h : j ≠ k) : upd f k x j = f j := if_neg h
theorem pk_uLs {f : Nat → Int64} {k : Nat} {x : Int64} : vp_updL f k x k = x := if_pos rfl
theorem pk_uLn {f : Nat → Int64} {k j : Nat} {x : Int64} (h : j ≠ k) : vp_updL f k x j = f j := if_neg h
theorem pk_sub {a b : Nat} (h : b ≤ a) : nI a - nI b = nI (a - b) := by
  obtain ⟨c, rfl⟩ : ∃ c, a = c + b := ⟨a - b, by omega⟩
  rw [← nI_add, Int32.add_sub_cancel, Nat.add_sub_cancel]
theorem pk_m1 (n : Nat) : nI (n + 1) + (-1) = nI n := by
  rw [← nI_1, Int32.add_assoc, show (1 : Int32) + (-1) = 0 from rfl, Int32.add_zero]
theorem pk_mul (a b : Nat) : nI a * nI b = nI (a * b) := (Int32.ofNat_mul a b).symm
theorem pk_div {a d : Nat} (ha : a < 2 ^ 31) (h0 : 0 < d) (hd : d < 2 ^ 31) : nI a / nI d = nI (a / d) := by
  apply Int32.toInt_inj.mp
  rw [lg_idiv_nonneg (by rw [nI_toInt ha]; omega) (by rw [nI_toInt hd]; omega), nI_toInt ha, nI_toInt hd, nI_toInt (Nat.lt_of_le_of_lt (Nat.div_le_self a d) ha)]
  first | rfl | exact (Int.natCast_ediv _ _).symm
theorem pk_rem {a d : Nat} (ha : a < 2 ^ 31) (h0 : 0 < d) (hd : d < 2 ^ 31) : nI a - nI a / nI d * nI d = nI (a % d) := by
  rw [pk_div ha h0 hd, pk_mul, pk_sub (Nat.div_mul_le_self a d)]
  exact congrArg nI (by have := Nat.div_add_mod' a d; omega)
theorem pk_sub_toInt {a b : Nat} (ha : a < 2 ^ 30) (hb : b < 2 ^ 30) : (nI a - nI b).toInt = (a : Int) - b := by
  rw [Int32.toInt_sub, nI_toInt (by omega), nI_toInt (by omega)]
  exact Int.bmod_eq_of_le (by omega) (by omega)
theorem pk_sneg {a b : Nat} (hb : b < 2 ^ 30) (h : a < b) : nI a - nI b < 0 := by
  rw [Int32.lt_iff_toInt_lt, pk_sub_toInt (by omega) hb, show (0 : Int32).toInt = 0 from by decide]
  omega
theorem pk_ix (x : Int32) {n : Nat} (hn : n < 2 ^ 31) : x < 0 ∨ nI n ≤ x ∨ ∃ j : Nat, j < n ∧ x = nI j := by
  by_cases h : x < 0
  · exact Or.inl h
  · obtain ⟨j, hj, rfl⟩ := nI_of h
    by_cases h2 : j < n
    · exact Or.inr (Or.inr ⟨j, h2, rfl⟩)
    · exact Or.inr (Or.inl (nI_le (by omega) hj))
theorem pk_le {x y : Int32} {A B : Prop} (a b : Nat) (f : a ≤ b → A) (g : b < a → B) (hx : x = nI a := by rfl) (hy : y = nI b := by rfl) (ha : a < 2 ^ 31 := by omega) (hb : b < 2 ^ 31 := by omega) : (x ≤ y → A) ∧ (¬ x ≤ y → B) := by
  subst hx hy
  rw [nI_leI ha hb]
  exact ⟨f, fun z => g (by omega)⟩
theorem pk_lt {x y : Int32} {A B : Prop} (a b : Nat) (f : a < b → A) (g : b ≤ a → B) (hx : x = nI a := by rfl) (hy : y = nI b := by rfl) (ha : a < 2 ^ 31 := by omega) (hb : b < 2 ^ 31 := by omega) : (x < y → A) ∧ (¬ x < y → B) := by
  subst hx hy
  rw [nI_ltI ha hb]
  exact ⟨f, fun z => g (by omega)⟩
theorem pk_eq {x y : Int32} {A B : Prop} (a b : Nat) (f : a = b → A) (g : a ≠ b → B) (hx : x = nI a := by rfl) (hy : y = nI b := by rfl) (ha : a < 2 ^ 31 := by omega) (hb : b < 2 ^ 31 := by omega) : (x = y → A) ∧ (¬ x = y → B) := by
  subst hx hy
  rw [nI_eq ha hb]
  exact ⟨f, g⟩
theorem pk_in {x : Int32} (n N : Nat) (h : n < N) (hx : x = nI n := by rfl) (hN : N < 2 ^ 31 := by omega) : vp_in x N := by
  subst hx
  exact vp_in_nI h hN
theorem pk_cl {x : Int32} (n : Nat) (hx : x = nI n := by rfl) (h : n < 2 ^ 31 := by omega) : x.toNatClampNeg = n := by
  subst hx
  exact nI_clamp h
theorem pk_tn {n : Nat} (h : n < 2 ^ 32) : (nI n).toBitVec.toNat = n := Nat.mod_eq_of_lt h
theorem pk_and (x : Int32) {m : Int32} (k : Nat) (hm : m.toBitVec.toNat = 2 ^ k - 1) : x &&& m = nI (x.toBitVec.toNat % 2 ^ k) := by
  apply Int32.toBitVec_inj.mp
  apply BitVec.eq_of_toNat_eq
  rw [Int32.toBitVec_and, BitVec.toNat_and, hm, Nat.and_two_pow_sub_one_eq_mod]
  show _ = (BitVec.ofNat 32 _).toNat
  rw [BitVec.toNat_ofNat]
  exact (Nat.mod_eq_of_lt (Nat.lt_of_le_of_lt (Nat.mod_le _ _) x.toBitVec.isLt)).symm
theorem pk_andN {n : Nat} (h : n < 2 ^ 32) {m : Int32} (k : Nat) (hm : m.toBitVec.toNat = 2 ^ k - 1) : nI n &&& m = nI (n % 2 ^ k) := by
  rw [pk_and _ k hm, pk_tn h]
theorem pk_andE (x : Int32) {m : Int32} (k : Nat) (hm : m.toBitVec.toNat = 2 ^ k - 1) : ∃ j : Nat, j < 2 ^ k ∧ x &&& m = nI j := ⟨_, Nat.mod_lt _ (Nat.two_pow_pos k), pk_and x k hm⟩
theorem pk_andIn (x : Int32) {m : Int32} (k : Nat) (hm : m.toBitVec.toNat = 2 ^ k - 1) (hk : k ≤ 30) : vp_in (x &&& m) (2 ^ k) := by
  obtain ⟨j, hj, e⟩ := pk_andE x k hm
  rw [e]
  exact vp_in_nI hj (Nat.lt_of_le_of_lt (Nat.pow_le_pow_right (by decide) hk) (by decide))
theorem pk_shl (a s : Int32) (k : Nat) (hs : (s.toBitVec.smod 32).toNat = k) : (a <<< s).toBitVec.toNat = a.toBitVec.toNat * 2 ^ k % 2 ^ 32 := by
  show (a.toBitVec <<< (s.toBitVec.smod 32).toNat).toNat = _
  rw [hs, BitVec.toNat_shiftLeft, Nat.shiftLeft_eq]
theorem pk_shlN {n : Nat} (s : Int32) (k : Nat) (hs : (s.toBitVec.smod 32).toNat = k) (h : n * 2 ^ k < 2 ^ 32) : nI n <<< s = nI (n * 2 ^ k) := by
  apply Int32.toBitVec_inj.mp
  apply BitVec.eq_of_toNat_eq
  have hn : n < 2 ^ 32 := Nat.lt_of_le_of_lt (Nat.le_mul_of_pos_right n (Nat.two_pow_pos k)) h
  rw [pk_shl _ _ k hs, pk_tn hn, pk_tn h, Nat.mod_eq_of_lt h]
theorem pk_shr (a s : Int32) (k : Nat) (hs : (s.toBitVec.smod 32).toNat = k) : (a >>> s).toInt = a.toInt >>> k := by
  show (a.toBitVec.sshiftRight (s.toBitVec.smod 32).toNat).toInt = _
  rw [hs, BitVec.toInt_sshiftRight]
  rfl
theorem pk_shrN {n : Nat} (h : n < 2 ^ 31) (s : Int32) (k : Nat) (hs : (s.toBitVec.smod 32).toNat = k) : nI n >>> s = nI (n / 2 ^ k) := by
  apply Int32.toInt_inj.mp
  have h2 : n / 2 ^ k ≤ n := Nat.div_le_self _ _
  rw [pk_shr _ _ k hs, nI_toInt h, nI_toInt (by omega), Int.shiftRight_eq_div_pow]
  rfl
theorem pk_ushr (x s : Int32) (k : Nat) (hs : ((s.toUInt32 &&& Int32.toUInt32 31).toBitVec % 32).toNat = k) : (x.toUInt32 >>> (s.toUInt32 &&& Int32.toUInt32 31)).toInt32.toBitVec.toNat = x.toBitVec.toNat / 2 ^ k := by
  have e : (x.toUInt32 >>> (s.toUInt32 &&& Int32.toUInt32 31)).toInt32.toBitVec = x.toBitVec >>> k := by
    rw [← hs]
    exact UInt32.toBitVec_shiftRight _ _
  rw [e, BitVec.toNat_ushiftRight, Nat.shiftRight_eq_div_pow]
theorem pk_ushrN {n : Nat} (hn : n < 2 ^ 32) (s : Int32) (k : Nat) (hs : ((s.toUInt32 &&& Int32.toUInt32 31).toBitVec % 32).toNat = k) : ((nI n).toUInt32 >>> (s.toUInt32 &&& Int32.toUInt32 31)).toInt32 = nI (n / 2 ^ k) := by
  apply Int32.toBitVec_inj.mp
  apply BitVec.eq_of_toNat_eq
  rw [pk_ushr _ s k hs, pk_tn hn, pk_tn (Nat.lt_of_le_of_lt (Nat.div_le_self _ _) hn)]
theorem pk_nb (z : Int32) : narrow .byte (.int z.toInt8.toInt32) = .int z.toInt8.toInt32 := congrArg Value.int (by simp)
theorem pk_ns (z : Int32) : narrow .short (.int z.toInt16.toInt32) = .int z.toInt16.toInt32 := congrArg Value.int (by simp)
theorem pk_fb (r : Int32) : fits .byte (.int r.toInt8.toInt32) = true := by
  have ⟨a, b⟩ := lg_i2b_range r
  have h1 : (-128 : Int32).toInt = -128 := by decide
  have h2 : (127 : Int32).toInt = 127 := by decide
  simp only [fits, Bool.and_eq_true, decide_eq_true_eq, Int32.le_iff_toInt_le, h1, h2]
  omega
theorem pk_fs (r : Int32) : fits .short (.int r.toInt16.toInt32) = true := by
  have ⟨a, b⟩ := lg_i2s_range r
  have h1 : (-32768 : Int32).toInt = -32768 := by decide
  have h2 : (32767 : Int32).toInt = 32767 := by decide
  simp only [fits, Bool.and_eq_true, decide_eq_true_eq, Int32.le_iff_toInt_le, h1, h2]
  omega
theorem pk_charN {q : Nat} (hq : q < 65536) : narrow .char (.int (nI q)) = .int (nI q) ∧ fits .char (.int (nI q)) = true := by
  constructor
  · have e : (nI q).toUInt32.toUInt16.toUInt32.toInt32 = nI q := by
      apply Int32.toBitVec_inj.mp
      apply BitVec.eq_of_toNat_eq
      show (nI q).toUInt32.toUInt16.toUInt32.toNat = q % 2 ^ 32
      rw [UInt16.toNat_toUInt32, UInt32.toNat_toUInt16, show (nI q).toUInt32.toNat = q % 2 ^ 32 from rfl]
      omega
    exact congrArg Value.int e
  · have a : (0 : Int32) ≤ nI q := nI_pos' (by omega)
    have b : nI q ≤ 65535 := nI_le (b := 65535) (by omega) (by decide)
    show (decide ((0 : Int32) ≤ nI q) && decide (nI q ≤ 65535)) = true
    rw [decide_eq_true a, decide_eq_true b]
    rfl
theorem pk_char (x : Int32) : (x.toUInt32 % 65536).toInt32 = nI (x.toBitVec.toNat % 65536) := by
  apply Int32.toBitVec_inj.mp
  apply BitVec.eq_of_toNat_eq
  rw [pk_tn (by omega)]
  show (x.toUInt32 % 65536).toNat = _
  rw [UInt32.toNat_mod]
  rfl
theorem pk_nc (x : Int32) : narrow .char (.int (x.toUInt32 % 65536).toInt32) = .int (x.toUInt32 % 65536).toInt32 := by
  rw [pk_char]
  exact (pk_charN (Nat.mod_lt _ (by decide))).1
theorem pk_fc (x : Int32) : fits .char (.int (x.toUInt32 % 65536).toInt32) = true := by
  rw [pk_char]
  exact (pk_charN (Nat.mod_lt _ (by decide))).2
theorem pk_vb (z : Int32) : vp_nar .byte z.toInt8.toInt32 = z.toInt8.toInt32 := by rw [vp_nar_byte]; simp
theorem pk_vs (z : Int32) : vp_nar .short z.toInt16.toInt32 = z.toInt16.toInt32 := by rw [vp_nar_short]; simp
theorem pk_vc (z : Int32) : vp_nar .char (z.toUInt32 % 65536).toInt32 = (z.toUInt32 % 65536).toInt32 := Value.int.inj (pk_nc z)
theorem pk_lT {n : Nat} (h : n < 2 ^ 63) : (lN n).toInt = (n : Int) := lg_ofNat_toInt h
theorem pk_lLT {a b : Nat} (ha : a < 2 ^ 63) (hb : b < 2 ^ 63) : lN a < lN b ↔ a < b := by
  rw [Int64.lt_iff_toInt_lt, pk_lT ha, pk_lT hb]; omega
theorem pk_lLE {a b : Nat} (ha : a < 2 ^ 63) (hb : b < 2 ^ 63) : lN a ≤ lN b ↔ a ≤ b := by
  rw [Int64.le_iff_toInt_le, pk_lT ha, pk_lT hb]; omega
theorem pk_lEQ {a b : Nat} (ha : a < 2 ^ 63) (hb : b < 2 ^ 63) : lN a = lN b ↔ a = b := by
  rw [← Int64.toInt_inj, pk_lT ha, pk_lT hb]; omega
theorem pk_lOf {x : Int64} (h : ¬ x < 0) : ∃ k : Nat, k < 2 ^ 63 ∧ x = lN k := by
  rw [Int64.lt_iff_toInt_lt] at h
  have h0 : (0 : Int64).toInt = 0 := by decide
  have hx := Int64.toInt_lt x
  refine ⟨x.toInt.toNat, by omega, Int64.toInt_inj.mp ?_⟩
  rw [pk_lT (by omega)]
  omega
theorem pk_lDiv {a b : Nat} (ha : a < 2 ^ 63) (h0 : 0 < b) (hb : b < 2 ^ 63) : lN a / lN b = lN (a / b) := by
  apply Int64.toInt_inj.mp
  rw [lg_ldiv_nonneg (by rw [pk_lT ha]; omega) (by rw [pk_lT hb]; omega), pk_lT ha, pk_lT hb, pk_lT (Nat.lt_of_le_of_lt (Nat.div_le_self a b) ha)]
  rfl
theorem pk_lRem {a b : Nat} (ha : a < 2 ^ 63) (h0 : 0 < b) (hb : b < 2 ^ 63) : lN a - lN a / lN b * lN b = lN (a % b) := by
  rw [pk_lDiv ha h0 hb, lN_mul, lN_sub (Nat.div_mul_le_self a b)]
  exact congrArg lN (by have := Nat.div_add_mod' a b; omega)
theorem pk_loop {σ : Type} (W : Nat → Nat → σ → Prop) (I : Nat → σ → Prop) (e i0 : Nat) (s : σ) (hi : i0 ≤ e) (h0 : I i0 s) (hx : ∀ n s, I e s → W (n + 1) e s)
    (hs : ∀ n i s, i < e → I i s → (∀ s', I (i + 1) s' → W n (i + 1) s') → W (n + 1) i s) : ∃ n, W n i0 s :=
  ⟨e + 1, loop_i W I e hx hs (e + 1) i0 s hi (by omega) h0⟩
theorem pk_loopD {σ : Type} (W : Nat → Nat → σ → Prop) (I : Nat → σ → Prop) (hx : ∀ n s, I 0 s → W (n + 1) 0 s)
    (hs : ∀ n i s, I (i + 1) s → (∀ s', I i s' → W n i s') → W (n + 1) (i + 1) s) : ∀ (e : Nat) (s : σ), I e s → W (e + 1) e s := by
  intro e
  induction e with
  | zero => exact fun s h => hx 0 s h
  | succ e ih => exact fun s h => hs (e + 1) e s h (fun s' h' => ih s' h')
theorem pk_least (P : Nat → Prop) (h : ∃ k, P k) : ∃ k, P k ∧ ∀ j, j < k → ¬ P j := by
  obtain ⟨k, hk⟩ := h
  induction k using Nat.strongRecOn with
  | ind k ih =>
    by_cases e : ∃ j, j < k ∧ P j
    · obtain ⟨j, hj, pj⟩ := e
      exact ih j hj pj
    · exact ⟨k, hk, fun j hj pj => e ⟨j, hj, pj⟩⟩
/-! ===== Int32 by its bits: bt x i ===== -/
def bt (x : Int32) (i : Nat) : Bool := x.toBitVec.getLsbD i
theorem b_ext {x y : Int32} (h : ∀ i, i < 32 → bt x i = bt y i) : x = y := Int32.toBitVec_inj.mp (BitVec.eq_of_getLsbD_eq (fun i hi => h i hi))
theorem b_or (x y : Int32) (i : Nat) : bt (x ||| y) i = (bt x i || bt y i) := by unfold bt; rw [Int32.toBitVec_or, BitVec.getLsbD_or]
theorem b_and (x y : Int32) (i : Nat) : bt (x &&& y) i = (bt x i && bt y i) := by unfold bt; rw [Int32.toBitVec_and, BitVec.getLsbD_and]
theorem b_xor (x y : Int32) (i : Nat) : bt (x ^^^ y) i = (bt x i ^^ bt y i) := by unfold bt; rw [Int32.toBitVec_xor, BitVec.getLsbD_xor]
theorem b_big {x : Int32} {i : Nat} (h : 32 ≤ i) : bt x i = false := BitVec.getLsbD_of_ge _ _ h
theorem b_m1 : ∀ i, i < 32 → bt (-1) i = true := by decide +kernel
theorem b_0 (i : Nat) : bt 0 i = false := BitVec.getLsbD_zero
theorem s_l : ∀ n, n < 32 → ((nI n &&& 31).toBitVec.smod 32).toNat = n := by decide +kernel
theorem s_u : ∀ n, n < 32 → (((nI n).toUInt32 &&& Int32.toUInt32 31).toBitVec % 32).toNat = n := by decide +kernel
theorem b_shl (n : Nat) (hn : n < 32) (x : Int32) {i : Nat} (hi : i < 32) : bt (x <<< (nI n &&& 31)) i = (decide (n ≤ i) && bt x (i - n)) := by
  unfold bt
  rw [Int32.toBitVec_shiftLeft]
  show (x.toBitVec <<< ((nI n &&& 31).toBitVec.smod 32).toNat).getLsbD i = _
  rw [s_l n hn, BitVec.getLsbD_shiftLeft]
  rcases Nat.lt_or_ge i n with h | h
  · simp [h, Nat.not_le.mpr h]
  · simp [hi, h, Nat.not_lt.mpr h]
theorem b_ushr (n : Nat) (hn : n < 32) (x : Int32) (i : Nat) : bt ((x.toUInt32 >>> ((nI n).toUInt32 &&& Int32.toUInt32 31)).toInt32) i = bt x (n + i) := by
  show (x.toUInt32 >>> ((nI n).toUInt32 &&& Int32.toUInt32 31)).toBitVec.getLsbD i = x.toUInt32.toBitVec.getLsbD (n + i)
  rw [UInt32.toBitVec_shiftRight]
  show (x.toUInt32.toBitVec >>> (((nI n).toUInt32 &&& Int32.toUInt32 31).toBitVec % 32).toNat).getLsbD i = _
  rw [s_u n hn, BitVec.getLsbD_ushiftRight]
theorem b_sshr (n : Nat) (hn : n < 32) (x : Int32) {i : Nat} (hi : i < 32) : bt (x >>> (nI n &&& 31)) i = if n + i < 32 then bt x (n + i) else bt x 31 := by
  unfold bt
  rw [Int32.toBitVec_shiftRight]
  show (x.toBitVec.sshiftRight ((nI n &&& 31).toBitVec.smod 32).toNat).getLsbD i = _
  rw [s_l n hn, BitVec.getLsbD_sshiftRight, BitVec.msb_eq_getLsbD_last]
  simp [hi]
theorem wb_of32 (x : Int32) : ∃ n, n < 2 ^ 32 ∧ x = nI n := ⟨x.toBitVec.toNat, x.toBitVec.isLt, Int32.toBitVec_inj.mp (by show _ = BitVec.ofNat 32 _; simp)⟩
end
section
/-! sums over 0 .. n-1 -/
def zs_S (f : Nat → Int) : Nat → Int
  | 0 => 0
  | n + 1 => zs_S f n + f n
theorem zs_congr {f g : Nat → Int} : ∀ n, (∀ i, i < n → f i = g i) → zs_S f n = zs_S g n := by
  intro n
  induction n with
  | zero => intro _; rfl
  | succ n ih =>
    intro h
    show zs_S f n + f n = zs_S g n + g n
    rw [ih (fun i hi => h i (by omega)), h n (by omega)]
theorem zs_add (f g : Nat → Int) : ∀ n, zs_S (fun i => f i + g i) n = zs_S f n + zs_S g n := by
  intro n
  induction n with
  | zero => rfl
  | succ n ih =>
    show zs_S (fun i => f i + g i) n + (f n + g n) = (zs_S f n + f n) + (zs_S g n + g n)
    rw [ih]; omega
theorem zs_mul (c : Int) (f : Nat → Int) : ∀ n, zs_S (fun i => c * f i) n = c * zs_S f n := by
  intro n
  induction n with
  | zero => show (0 : Int) = c * 0; simp
  | succ n ih =>
    show zs_S (fun i => c * f i) n + c * f n = c * (zs_S f n + f n)
    rw [ih, Int.mul_add]
theorem zs_le {f g : Nat → Int} : ∀ n, (∀ i, i < n → f i ≤ g i) → zs_S f n ≤ zs_S g n := by
  intro n
  induction n with
  | zero => intro _; exact Int.le_refl _
  | succ n ih =>
    intro h
    show zs_S f n + f n ≤ zs_S g n + g n
    have h1 := ih (fun i hi => h i (by omega))
    have h2 := h n (by omega)
    omega
theorem zs_0 : ∀ n, zs_S (fun _ => 0) n = 0 := by
  intro n
  induction n with
  | zero => rfl
  | succ n ih => show zs_S (fun _ => 0) n + 0 = 0; omega
theorem zs_z {f : Nat → Int} (n : Nat) (h : ∀ i, i < n → f i = 0) : zs_S f n = 0 := (zs_congr n h).trans (zs_0 n)
theorem zs_nn {f : Nat → Int} (n : Nat) (h : ∀ i, i < n → 0 ≤ f i) : 0 ≤ zs_S f n := by
  rw [← zs_0 n]; exact zs_le n h
theorem zs_swap (f : Nat → Nat → Int) (m : Nat) : ∀ n, zs_S (fun i => zs_S (f i) m) n = zs_S (fun j => zs_S (fun i => f i j) n) m := by
  intro n
  induction n with
  | zero => exact (zs_0 m).symm
  | succ n ih =>
    show zs_S (fun i => zs_S (f i) m) n + zs_S (f n) m = _
    rw [ih, ← zs_add]
    rfl
theorem zs_one {k : Nat} (c : Int) : ∀ n, k < n → zs_S (fun i => if i = k then c else 0) n = c := by
  intro n
  induction n with
  | zero => intro h; omega
  | succ n ih =>
    intro h
    show zs_S (fun i => if i = k then c else 0) n + (if n = k then c else 0) = c
    by_cases e : n = k
    · rw [if_pos e, zs_z n (fun i hi => if_neg (by omega))]; omega
    · rw [if_neg e, ih (by omega)]; omega
/-- one term is at most the sum of terms that aren't negative -/
theorem zs_term {f : Nat → Int} {k : Nat} (n : Nat) (hk : k < n) (h : ∀ i, i < n → 0 ≤ f i) : f k ≤ zs_S f n := by
  have e := zs_le (f := fun i => if i = k then f k else 0) (g := f) n (fun i hi => by
    by_cases e : i = k
    · subst e; rw [if_pos rfl]; exact Int.le_refl _
    · rw [if_neg e]; exact h i hi)
  rw [zs_one _ n hk] at e
  exact e
/-- reindexing by an involution -/
theorem zs_inv {p : Nat → Nat} (f : Nat → Int) (n : Nat) (hp : ∀ i, i < n → p i < n ∧ p (p i) = i) : zs_S (fun i => f (p i)) n = zs_S f n := by
  have e1 : zs_S (fun i => f (p i)) n = zs_S (fun i => zs_S (fun j => if j = p i then f j else 0) n) n := by
    apply zs_congr
    intro i hi
    rw [zs_congr (g := fun j => if j = p i then f (p i) else 0) n (fun j _ => by
      by_cases e : j = p i
      · rw [if_pos e, if_pos e, e]
      · rw [if_neg e, if_neg e])]
    exact (zs_one _ n (hp i hi).1).symm
  rw [e1, zs_swap (fun i j => if j = p i then f j else 0)]
  apply zs_congr
  intro j hj
  show zs_S (fun i => if j = p i then f j else 0) n = f j
  rw [zs_congr (g := fun i => if i = p j then f j else 0) n (fun i hi => by
    by_cases e : i = p j
    · rw [if_pos e, if_pos (by rw [e]; exact (hp j hj).2.symm)]
    · rw [if_neg e, if_neg (fun z => e (by rw [z]; exact (hp i hi).2.symm))])]
  exact zs_one _ n (hp j hj).1
/-- a set closed under an involution without a fixed point in it has an even number of elements -/
theorem zs_even {p : Nat → Nat} {q : Nat → Bool} (n : Nat) (hp : ∀ i, i < n → p i < n ∧ p (p i) = i)
    (hq : ∀ i, i < n → q i = true → q (p i) = true ∧ p i ≠ i) : zs_S (fun i => if q i = true then 1 else 0) n % 2 = 0 := by
  have e1 : zs_S (fun i => if q i = true then 1 else 0) n = zs_S (fun i => (if q i = true ∧ i < p i then 1 else 0) + (if q i = true ∧ p i < i then 1 else 0)) n := by
    apply zs_congr
    intro i hi
    by_cases h : q i = true
    · have := (hq i hi h).2
      by_cases l : i < p i
      · rw [if_pos h, if_pos ⟨h, l⟩, if_neg (by omega)]; rfl
      · rw [if_pos h, if_neg (by omega), if_pos ⟨h, by omega⟩]; rfl
    · rw [if_neg h, if_neg (fun z => h z.1), if_neg (fun z => h z.1)]; rfl
  have e2 : zs_S (fun i => if q i = true ∧ p i < i then (1 : Int) else 0) n = zs_S (fun i => if q i = true ∧ i < p i then (1 : Int) else 0) n := by
    rw [← zs_inv (p := p) (fun i => if q i = true ∧ p i < i then (1 : Int) else 0) n hp]
    apply zs_congr
    intro i hi
    show (if q (p i) = true ∧ p (p i) < p i then (1 : Int) else 0) = _
    rw [(hp i hi).2]
    by_cases h : q i = true
    · rw [(hq i hi h).1]; simp [h]
    · by_cases h' : q (p i) = true
      · have := (hq (p i) (hp i hi).1 h').1
        rw [(hp i hi).2] at this
        exact absurd this h
      · simp [h, h']
  rw [e1, zs_add, e2]
  omega
/-! matchings: involutions of 0 .. 9, a single vertex is its own partner -/
def zm_M (E : Nat → Nat → Prop) (m : Nat → Nat) : Prop := ∀ v, v < 10 → m v < 10 ∧ m (m v) = v ∧ (m v ≠ v → E v (m v))
def zm_cov (m : Nat → Nat) : Int := zs_S (fun v => if m v = v then 0 else 1) 10
def zm_K (ky : Nat → Nat → Int) (m : Nat → Nat) : Int := zs_S (fun v => if m v = v then 0 else ky v (m v)) 10
/-- the blossoms' part of a slack -/
def zd_z (du : Nat → Int) (al : Nat → Bool) (ms : Nat → Nat → Bool) (u v : Nat) : Int := zs_S (fun b => if (al b && ms b u && ms b v) = true then du b else 0) 16
def zd_sl (ky : Nat → Nat → Int) (du : Nat → Int) (al : Nat → Bool) (ms : Nat → Nat → Bool) (u v : Nat) : Int := du u + du v + zd_z du al ms u v - 2 * ky u v
def zd_cd (ms : Nat → Nat → Bool) (x : Nat) : Int := zs_S (fun v => if ms x v = true then 1 else 0) 10
section
variable {E : Nat → Nat → Prop} {ky : Nat → Nat → Int} {du : Nat → Int} {al : Nat → Bool} {ms : Nat → Nat → Bool} {m : Nat → Nat}
/-- vertices of b matched inside b -/
def zd_C (ms : Nat → Nat → Bool) (m : Nat → Nat) (b : Nat) : Int := zs_S (fun v => if (!(m v == v) && ms b v && ms b (m v)) = true then 1 else 0) 10
theorem zd_C_even (hm : zm_M E m) (b : Nat) : zd_C ms m b % 2 = 0 := by
  apply zs_even (p := m) (q := fun v => !(m v == v) && ms b v && ms b (m v)) 10 (fun i hi => ⟨(hm i hi).1, (hm i hi).2.1⟩)
  intro i hi hq
  simp only [Bool.and_eq_true, Bool.not_eq_true', beq_eq_false_iff_ne, ne_eq] at hq ⊢
  rw [(hm i hi).2.1]
  exact ⟨⟨⟨fun z => hq.1.1 z.symm, hq.2⟩, hq.1.2⟩, hq.1.1⟩
theorem zd_C_le (hm : zm_M E m) {b : Nat} (ho : zd_cd ms b % 2 = 1) : zd_C ms m b ≤ zd_cd ms b - 1 := by
  have h1 := zd_C_even (ms := ms) hm b
  have h2 : zd_C ms m b ≤ zd_cd ms b := by
    apply zs_le
    intro i hi
    by_cases h : ms b i = true
    · rw [if_pos h]; split <;> omega
    · rw [if_neg h, if_neg (by simp [h])]; exact Int.le_refl _
  omega
theorem zd_C_ge {b x : Nat} (hx : x < 10) (hi : ∀ v, v < 10 → ms b v = true → v ≠ x → m v ≠ v ∧ ms b (m v) = true) : zd_cd ms b - 1 ≤ zd_C ms m b := by
  have h : zd_cd ms b ≤ zs_S (fun v => (if (!(m v == v) && ms b v && ms b (m v)) = true then 1 else 0) + (if v = x then 1 else 0)) 10 := by
    apply zs_le
    intro v hv
    by_cases h : ms b v = true
    · by_cases e : v = x
      · rw [if_pos h, if_pos e]; split <;> omega
      · have := hi v hv h e
        rw [if_pos h, if_pos (by simp [this, h]), if_neg e]; omega
    · rw [if_neg h]; split <;> split <;> omega
  rw [zs_add, zs_one _ 10 hx] at h
  show zd_cd ms b - 1 ≤ zd_C ms m b
  unfold zd_C
  omega
/-- the sum of the slacks' positive parts over a matching -/
theorem zd_sum (hm : zm_M E m) : zs_S (fun v => if m v = v then 0 else zd_sl ky du al ms v (m v)) 10 =
    2 * zs_S (fun v => if m v = v then 0 else du v) 10 + zs_S (fun b => if al b = true then du b * zd_C ms m b else 0) 16 - 2 * zm_K ky m := by
  have e1 : zs_S (fun v => if m v = v then 0 else zd_sl ky du al ms v (m v)) 10 =
      zs_S (fun v => (if m v = v then 0 else du v) + ((if m v = v then 0 else du (m v)) + ((if m v = v then 0 else zd_z du al ms v (m v)) + (-2) * (if m v = v then 0 else ky v (m v))))) 10 := by
    apply zs_congr
    intro v _
    by_cases e : m v = v
    · simp [e]
    · simp only [if_neg e, zd_sl]; omega
  have e2 : zs_S (fun v => if m v = v then 0 else du (m v)) 10 = zs_S (fun v => if m v = v then 0 else du v) 10 := by
    rw [← zs_inv (p := m) (fun v => if m v = v then 0 else du v) 10 (fun i hi => ⟨(hm i hi).1, (hm i hi).2.1⟩)]
    apply zs_congr
    intro v hv
    show _ = if m (m v) = m v then 0 else du (m v)
    rw [(hm v hv).2.1]
    by_cases e : m v = v
    · rw [if_pos e, if_pos e.symm]
    · rw [if_neg e, if_neg (fun z => e z.symm)]
  have e3 : zs_S (fun v => if m v = v then 0 else zd_z du al ms v (m v)) 10 = zs_S (fun b => if al b = true then du b * zd_C ms m b else 0) 16 := by
    have : zs_S (fun v => if m v = v then 0 else zd_z du al ms v (m v)) 10 = zs_S (fun v => zs_S (fun b => if (!(m v == v) && ms b v && ms b (m v) && al b) = true then du b else 0) 16) 10 := by
      apply zs_congr
      intro v _
      by_cases e : m v = v
      · rw [if_pos e]; exact (zs_z 16 (fun b _ => if_neg (by simp [e]))).symm
      · rw [if_neg e]
        apply zs_congr
        intro b _
        by_cases h : (al b && ms b v && ms b (m v)) = true
        · rw [if_pos h, if_pos]
          simp only [Bool.and_eq_true] at h
          simp [h, e]
        · rw [if_neg h, if_neg]
          intro z
          apply h
          simp only [Bool.and_eq_true] at z
          simp [z]
    rw [this, zs_swap (fun v b => if (!(m v == v) && ms b v && ms b (m v) && al b) = true then du b else 0)]
    apply zs_congr
    intro b _
    by_cases h : al b = true
    · rw [if_pos h]
      unfold zd_C
      rw [← zs_mul]
      apply zs_congr
      intro v _
      show (if (!(m v == v) && ms b v && ms b (m v) && al b) = true then du b else 0) = du b * (if (!(m v == v) && ms b v && ms b (m v)) = true then 1 else 0)
      by_cases q : (!(m v == v) && ms b v && ms b (m v)) = true
      · rw [if_pos q, if_pos (by rw [q, h]; rfl)]; omega
      · rw [if_neg q, if_neg (fun z => q (by simp only [Bool.and_eq_true] at z ⊢; exact z.1))]; omega
    · rw [if_neg h]
      exact zs_z 10 (fun v _ => if_neg (by simp [h]))
  rw [e1, zs_add, zs_add, zs_add, e2, e3, zs_mul]
  unfold zm_K
  omega
/-- THE MAIN INEQUALITY -/
theorem zd_main {act : Nat → Bool} {bs : Nat → Nat} {lam : Int} {mt N : Nat → Nat}
    (hE : ∀ u v, E u v → act u = true)
    (h1 : ∀ u v, u < 10 → v < 10 → E u v → 0 ≤ zd_sl ky du al ms u v)
    (hz : ∀ b, al b = true → 0 ≤ du b) (ho : ∀ b, al b = true → zd_cd ms b % 2 = 1)
    (hM : zm_M E mt) (ht : ∀ v, v < 10 → mt v ≠ v → zd_sl ky du al ms v (mt v) = 0)
    (hb : ∀ b, al b = true → bs b < 10)
    (hi : ∀ b, al b = true → ∀ v, v < 10 → ms b v = true → v ≠ bs b → mt v ≠ v ∧ ms b (mt v) = true)
    (hl : ∀ v, v < 10 → act v = true → lam ≤ du v) (hf : ∀ v, v < 10 → act v = true → mt v = v → du v = lam)
    (hN : zm_M E N) : zm_K ky N ≤ zm_K ky mt + lam * (zm_cov N - zm_cov mt) := by
  have sN := zd_sum (ky := ky) (du := du) (al := al) (ms := ms) hN
  have sM := zd_sum (ky := ky) (du := du) (al := al) (ms := ms) hM
  have pN : 0 ≤ zs_S (fun v => if N v = v then 0 else zd_sl ky du al ms v (N v)) 10 := by
    apply zs_nn
    intro v hv
    by_cases e : N v = v
    · rw [if_pos e]; exact Int.le_refl _
    · rw [if_neg e]; exact h1 v (N v) hv (hN v hv).1 ((hN v hv).2.2 e)
  have pM : zs_S (fun v => if mt v = v then 0 else zd_sl ky du al ms v (mt v)) 10 = 0 := by
    apply zs_z
    intro v hv
    by_cases e : mt v = v
    · rw [if_pos e]
    · rw [if_neg e]; exact ht v hv e
  have zz : zs_S (fun b => if al b = true then du b * zd_C ms N b else 0) 16 ≤ zs_S (fun b => if al b = true then du b * zd_C ms mt b else 0) 16 := by
    apply zs_le
    intro b _
    by_cases h : al b = true
    · rw [if_pos h, if_pos h]
      apply Int.mul_le_mul_of_nonneg_left _ (hz b h)
      have a1 := zd_C_le (ms := ms) hN (ho b h)
      have a2 := zd_C_ge (ms := ms) (m := mt) (hb b h) (hi b h)
      omega
    · rw [if_neg h, if_neg h]; exact Int.le_refl _
  have aN : zs_S (fun v => if N v = v then 0 else du v) 10 ≤ zs_S (fun v => if act v = true then du v - lam else 0) 10 + lam * zm_cov N := by
    unfold zm_cov
    rw [← zs_mul, ← zs_add]
    apply zs_le
    intro v hv
    by_cases e : N v = v
    · simp only [if_pos e]
      by_cases a : act v = true
      · rw [if_pos a]; have := hl v hv a; omega
      · rw [if_neg a]; omega
    · have a := hE v (N v) ((hN v hv).2.2 e)
      simp only [if_neg e, if_pos a]; omega
  have aM : zs_S (fun v => if mt v = v then 0 else du v) 10 = zs_S (fun v => if act v = true then du v - lam else 0) 10 + lam * zm_cov mt := by
    unfold zm_cov
    rw [← zs_mul, ← zs_add]
    apply zs_congr
    intro v hv
    by_cases e : mt v = v
    · simp only [if_pos e]
      by_cases a : act v = true
      · rw [if_pos a]; have := hf v hv a e; omega
      · rw [if_neg a]; omega
    · have a := hE v (mt v) ((hM v hv).2.2 e)
      simp only [if_neg e, if_pos a]; omega
  rw [Int.mul_sub]
  omega
end
end
section
/-! ways by links, pairs, sums over lists -/
def zl_lk (R : Nat → Nat → Prop) : Nat → List Nat → Nat → Prop
  | x, [], y => R x y
  | x, a :: l, y => R x a ∧ zl_lk R a l y
theorem zl_app {R : Nat → Nat → Prop} {a y : Nat} {l' : List Nat} : ∀ {l : List Nat} {x : Nat}, zl_lk R x (l ++ a :: l') y ↔ zl_lk R x l a ∧ zl_lk R a l' y := by
  intro l
  induction l with
  | nil => intro x; exact Iff.rfl
  | cons b l ih =>
    intro x
    show (R x b ∧ zl_lk R b (l ++ a :: l') y) ↔ (R x b ∧ zl_lk R b l a) ∧ zl_lk R a l' y
    rw [ih, and_assoc]
theorem zl_mono {R R' : Nat → Nat → Prop} {y : Nat} : ∀ {l : List Nat} {x : Nat}, (∀ a b, a ∈ x :: l → (b ∈ l ∨ b = y) → R a b → R' a b) → zl_lk R x l y → zl_lk R' x l y := by
  intro l
  induction l with
  | nil => intro x h k; exact h x y (by simp) (Or.inr rfl) k
  | cons b l ih =>
    intro x h k
    exact ⟨h x b (by simp) (by simp) k.1, ih (fun a c ha hc => h a c (by simp at ha ⊢; exact Or.inr ha) (by rcases hc with hc | hc; exact Or.inl (by simp [hc]); exact Or.inr hc)) k.2⟩
/-- every element of a way has a next one -/
theorem zl_mem {R : Nat → Nat → Prop} {y : Nat} : ∀ {l : List Nat} {x : Nat}, zl_lk R x l y → ∀ a, a ∈ x :: l → ∃ b, (b ∈ l ∨ b = y) ∧ R a b := by
  intro l
  induction l with
  | nil =>
    intro x h a ha
    simp at ha
    subst ha
    exact ⟨y, Or.inr rfl, h⟩
  | cons b l ih =>
    intro x h a ha
    rcases List.mem_cons.mp ha with e | ha
    · subst e; exact ⟨b, by simp, h.1⟩
    · obtain ⟨c, hc, r⟩ := ih h.2 a ha
      refine ⟨c, ?_, r⟩
      rcases hc with hc | hc
      · exact Or.inl (by simp [hc])
      · exact Or.inr hc
def zl_pr (P : Nat → Nat → Prop) : List Nat → Prop
  | [] => True
  | [_] => False
  | x :: y :: l => P x y ∧ zl_pr P l
theorem zl_ind2 {Q : List Nat → Prop} (h0 : Q []) (h1 : ∀ x, Q [x]) (h2 : ∀ x y l, Q l → Q (x :: y :: l)) : ∀ l, Q l := by
  have key : ∀ n l, l.length ≤ n → Q l := by
    intro n
    induction n with
    | zero => intro l hl; cases l with
      | nil => exact h0
      | cons a l => simp at hl
    | succ n ih =>
      intro l hl
      cases l with
      | nil => exact h0
      | cons a l => cases l with
        | nil => exact h1 a
        | cons b l => exact h2 a b l (ih l (by simp at hl; omega))
  exact fun l => key l.length l (Nat.le_refl _)
theorem zl_pr_even {P : Nat → Nat → Prop} : ∀ l, zl_pr P l → l.length % 2 = 0 :=
  zl_ind2 (fun _ => rfl) (fun _ h => h.elim) (fun x y l ih h => by
    have := ih h.2
    show (l.length + 1 + 1) % 2 = 0
    omega)
theorem zl_pr_app {P : Nat → Nat → Prop} {l' : List Nat} : ∀ l, l.length % 2 = 0 → (zl_pr P (l ++ l') ↔ zl_pr P l ∧ zl_pr P l') :=
  zl_ind2 (fun _ => ⟨fun h => ⟨trivial, h⟩, fun h => h.2⟩) (fun x h => by simp at h) (fun x y l ih h => by
    have h' : l.length % 2 = 0 := by simp at h; omega
    show (P x y ∧ zl_pr P (l ++ l')) ↔ (P x y ∧ zl_pr P l) ∧ zl_pr P l'
    rw [ih h', and_assoc])
theorem zl_pr_mono {P P' : Nat → Nat → Prop} : ∀ l, (∀ x y, x ∈ l → y ∈ l → P x y → P' x y) → zl_pr P l → zl_pr P' l :=
  zl_ind2 (fun _ _ => trivial) (fun _ _ h => h) (fun x y l ih h k =>
    ⟨h x y (by simp) (by simp) k.1, ih (fun a b ha hb => h a b (by simp [ha]) (by simp [hb])) k.2⟩)
theorem zl_pr_mem {P : Nat → Nat → Prop} : ∀ l, zl_pr P l → l.Nodup → ∀ z, z ∈ l → ∃ w, w ∈ l ∧ w ≠ z ∧ (P z w ∨ P w z) :=
  zl_ind2 (fun _ _ z hz => by simp at hz) (fun _ h => h.elim) (fun x y l ih h hn z hz => by
    have hxy : x ≠ y := by
      intro e; subst e; simp at hn
    simp at hz
    rcases hz with e | e | hz
    · subst e; exact ⟨y, by simp, fun e => hxy e.symm, Or.inl h.1⟩
    · subst e; exact ⟨x, by simp, hxy, Or.inr h.1⟩
    · obtain ⟨w, hw, hwz, hp⟩ := ih h.2 (by simp at hn; exact hn.2.2) z hz
      exact ⟨w, by simp [hw], hwz, hp⟩)
def zl_sum (f : Nat → Int) : List Nat → Int
  | [] => 0
  | c :: l => f c + zl_sum f l
theorem zl_sum_swap (g : Nat → Nat → Int) (n : Nat) : ∀ L, zl_sum (fun c => zs_S (g c) n) L = zs_S (fun v => zl_sum (fun c => g c v) L) n := by
  intro L
  induction L with
  | nil => exact (zs_0 n).symm
  | cons c L ih =>
    show zs_S (g c) n + zl_sum (fun c => zs_S (g c) n) L = zs_S (fun v => g c v + zl_sum (fun c => g c v) L) n
    rw [ih, zs_add]
theorem zl_sum_odd {f : Nat → Int} : ∀ L, (∀ c, c ∈ L → f c % 2 = 1) → zl_sum f L % 2 = (L.length : Int) % 2 := by
  intro L
  induction L with
  | nil => intro _; rfl
  | cons c L ih =>
    intro h
    have h1 := h c (by simp)
    have h2 := ih (fun d hd => h d (by simp [hd]))
    show (f c + zl_sum f L) % 2 = ((L.length + 1 : Nat) : Int) % 2
    omega
theorem zl_sum_len {f : Nat → Int} : ∀ L, (∀ c, c ∈ L → 1 ≤ f c) → (L.length : Int) ≤ zl_sum f L := by
  intro L
  induction L with
  | nil => intro _; exact Int.le_refl _
  | cons c L ih =>
    intro h
    have h1 := h c (by simp)
    have h2 := ih (fun d hd => h d (by simp [hd]))
    show ((L.length + 1 : Nat) : Int) ≤ f c + zl_sum f L
    omega
theorem zl_sum_app {f : Nat → Int} {L' : List Nat} : ∀ L, zl_sum f (L ++ L') = zl_sum f L + zl_sum f L' := by
  intro L
  induction L with
  | nil => show zl_sum f L' = 0 + zl_sum f L'; omega
  | cons c L ih =>
    show f c + zl_sum f (L ++ L') = f c + zl_sum f L + zl_sum f L'
    rw [ih]; omega
theorem zl_sum_filter {f : Nat → Int} {q : Nat → Bool} : ∀ L, (∀ c, c ∈ L → 0 ≤ f c) → zl_sum f (L.filter q) ≤ zl_sum f L := by
  intro L
  induction L with
  | nil => intro _; exact Int.le_refl _
  | cons c L ih =>
    intro h
    have h1 := h c (by simp)
    have h2 := ih (fun d hd => h d (by simp [hd]))
    rw [List.filter_cons]
    by_cases e : q c = true
    · rw [if_pos e]; show f c + zl_sum f (L.filter q) ≤ f c + zl_sum f L; omega
    · rw [if_neg e]; show zl_sum f (L.filter q) ≤ f c + zl_sum f L; omega
/-- different numbers below n are at most n many -/
theorem zl_pigeon : ∀ (n : Nat) (l : List Nat), l.Nodup → (∀ a, a ∈ l → a < n) → l.length ≤ n := by
  intro n
  induction n with
  | zero => intro l _ h; cases l with
    | nil => exact Nat.le_refl _
    | cons a l => have := h a (by simp); omega
  | succ n ih =>
    intro l hn h
    have h1 := ih (l.filter (fun a => a != n)) (hn.filter _) (fun a ha => by
      simp at ha; have := h a ha.1; omega)
    have h2 : l.length ≤ (l.filter (fun a => a != n)).length + 1 := by
      clear ih h h1
      induction l with
      | nil => simp
      | cons a l ih =>
        have hn' := (List.nodup_cons.mp hn)
        rw [List.filter_cons]
        by_cases e : a = n
        · subst e
          have : l.filter (fun b => b != a) = l := by
            apply List.filter_eq_self.mpr
            intro b hb
            simp
            intro e; subst e; exact hn'.1 hb
          rw [if_neg (by simp), this]; simp
        · rw [if_pos (by simpa using e)]
          have := ih hn'.2
          simp only [List.length_cons]
          omega
    omega
/-! the nodes -/
def zt_al (rg : Nat → List Nat) (x : Nat) : Bool := decide (10 ≤ x) && decide (x < 16) && !(rg x).isEmpty
def zt_lv (rg : Nat → List Nat) (x : Nat) : Prop := x < 10 ∨ zt_al rg x = true
theorem zt_al_iff {rg : Nat → List Nat} {x : Nat} : zt_al rg x = true ↔ 10 ≤ x ∧ x < 16 ∧ rg x ≠ [] := by
  unfold zt_al
  simp [and_assoc]
theorem zt_lv16 {rg : Nat → List Nat} {x : Nat} (h : zt_lv rg x) : x < 16 := by
  rcases h with h | h
  · omega
  · exact (zt_al_iff.mp h).2.1
def zt_A (ms : Nat → Nat → Bool) (rg : Nat → List Nat) : Prop :=
  (∀ x v, ms x v = true → v < 10) ∧
  (∀ x, x < 10 → ∀ v, ms x v = true ↔ v = x) ∧
  (∀ b, zt_al rg b = true → ∃ c t, rg b = c :: t ∧ t.length % 2 = 0 ∧ 2 ≤ t.length ∧ (c :: t).Nodup) ∧
  (∀ b, zt_al rg b = true → ∀ c, c ∈ rg b → zt_lv rg c) ∧
  (∀ b, zt_al rg b = true → ∀ v, ms b v = true ↔ ∃ c, c ∈ rg b ∧ ms c v = true) ∧
  (∀ b, zt_al rg b = true → ∀ c c' v, c ∈ rg b → c' ∈ rg b → ms c v = true → ms c' v = true → c = c') ∧
  (∀ x, zt_lv rg x → ∃ v, ms x v = true) ∧
  (∀ b x v, zt_al rg b = true → zt_lv rg x → x ≠ b → ms b v = true → ms x v = true → ((∀ w, ms b w = true → ms x w = true) ∧ ∃ w, ms x w = true ∧ ¬ ms b w = true) ∨ ∃ c, c ∈ rg b ∧ ∀ w, ms x w = true → ms c w = true)
def zt_T (tp : Nat → Nat) (ms : Nat → Nat → Bool) (rg : Nat → List Nat) : Prop :=
  (∀ v, v < 10 → zt_lv rg (tp v) ∧ ms (tp v) v = true) ∧
  (∀ x v w, zt_lv rg x → ms x v = true → ms x w = true → tp v = tp w)
section
variable {tp : Nat → Nat} {ms : Nat → Nat → Bool} {rg : Nat → List Nat}
theorem zt_lt (h : zt_A ms rg) {x v : Nat} (hv : ms x v = true) : v < 10 := h.1 x v hv
theorem zt_vx (h : zt_A ms rg) {x v : Nat} (hx : x < 10) : ms x v = true ↔ v = x := h.2.1 x hx v
theorem zt_ring (h : zt_A ms rg) {b : Nat} (hb : zt_al rg b = true) : ∃ c t, rg b = c :: t ∧ t.length % 2 = 0 ∧ 2 ≤ t.length ∧ (c :: t).Nodup := h.2.2.1 b hb
theorem zt_kid (h : zt_A ms rg) {b c : Nat} (hb : zt_al rg b = true) (hc : c ∈ rg b) : zt_lv rg c := h.2.2.2.1 b hb c hc
theorem zt_un (h : zt_A ms rg) {b v : Nat} (hb : zt_al rg b = true) : ms b v = true ↔ ∃ c, c ∈ rg b ∧ ms c v = true := h.2.2.2.2.1 b hb v
theorem zt_dj (h : zt_A ms rg) {b c c' v : Nat} (hb : zt_al rg b = true) (hc : c ∈ rg b) (hc' : c' ∈ rg b) (hv : ms c v = true) (hv' : ms c' v = true) : c = c' := h.2.2.2.2.2.1 b hb c c' v hc hc' hv hv'
theorem zt_ne (h : zt_A ms rg) {x : Nat} (hx : zt_lv rg x) : ∃ v, ms x v = true := h.2.2.2.2.2.2.1 x hx
theorem zt_lam (h : zt_A ms rg) {b x v : Nat} (hb : zt_al rg b = true) (hx : zt_lv rg x) (hn : x ≠ b) (hv : ms b v = true) (hv' : ms x v = true) : ((∀ w, ms b w = true → ms x w = true) ∧ ∃ w, ms x w = true ∧ ¬ ms b w = true) ∨ ∃ c, c ∈ rg b ∧ ∀ w, ms x w = true → ms c w = true := h.2.2.2.2.2.2.2 b x v hb hx hn hv hv'
theorem zt_sub (h : zt_A ms rg) {b c v : Nat} (hb : zt_al rg b = true) (hc : c ∈ rg b) (hv : ms c v = true) : ms b v = true := (zt_un h hb).mpr ⟨c, hc, hv⟩
/-- a ring has a child other than a given one -/
theorem zt_other (h : zt_A ms rg) {b c : Nat} (hb : zt_al rg b = true) : ∃ d, d ∈ rg b ∧ d ≠ c := by
  obtain ⟨a, t, e, _, h2, hn⟩ := zt_ring h hb
  rw [e]
  by_cases q : a = c
  · cases t with
    | nil => simp at h2
    | cons d t =>
      refine ⟨d, by simp, ?_⟩
      intro z
      subst q z
      simp at hn
  · exact ⟨a, by simp, q⟩
theorem zs_lt {f g : Nat → Bool} (n k : Nat) (hk : k < n) (h : ∀ v, f v = true → g v = true) (h1 : g k = true) (h2 : ¬ f k = true) :
    zs_S (fun v => if f v = true then 1 else 0) n < zs_S (fun v => if g v = true then 1 else 0) n := by
  have e : zs_S (fun v => (if f v = true then 1 else 0) + (if v = k then 1 else 0)) n ≤ zs_S (fun v => if g v = true then 1 else 0) n := by
    apply zs_le
    intro v _
    by_cases q : v = k
    · subst q; rw [if_neg h2, if_pos rfl, if_pos h1]; exact Int.le_refl _
    · rw [if_neg q]
      by_cases p : f v = true
      · rw [if_pos p, if_pos (h v p)]; exact Int.le_refl _
      · rw [if_neg p]; split <;> omega
  rw [zs_add, zs_one _ n hk] at e
  omega
theorem zt_cd0 (x : Nat) : 0 ≤ zd_cd ms x := zs_nn _ (fun v _ => by split <;> omega)
theorem zt_cd10 (x : Nat) : zd_cd ms x ≤ 10 := by
  have : zd_cd ms x ≤ zs_S (fun _ => 1) 10 := zs_le _ (fun v _ => by split <;> omega)
  exact this
theorem zt_cdkid (h : zt_A ms rg) {b c : Nat} (hb : zt_al rg b = true) (hc : c ∈ rg b) : zd_cd ms c < zd_cd ms b := by
  obtain ⟨d, hd, hdc⟩ := zt_other h hb (c := c)
  obtain ⟨v, hv⟩ := zt_ne h (zt_kid h hb hd)
  exact zs_lt 10 v (zt_lt h hv) (fun w hw => zt_sub h hb hc hw) (zt_sub h hb hd hv) (fun z => hdc (zt_dj h hb hd hc hv z))
theorem zt_cd1 (h : zt_A ms rg) {x : Nat} (hx : zt_lv rg x) : 1 ≤ zd_cd ms x := by
  obtain ⟨v, hv⟩ := zt_ne h hx
  have := zs_term (f := fun v => if ms x v = true then 1 else 0) (k := v) 10 (zt_lt h hv) (fun i _ => by split <;> omega)
  simp only [if_pos hv] at this
  exact this
theorem zt_cdv (h : zt_A ms rg) {x : Nat} (hx : x < 10) : zd_cd ms x = 1 := by
  unfold zd_cd
  rw [zs_congr (g := fun v => if v = x then 1 else 0) 10 (fun v _ => by
    by_cases e : v = x
    · rw [if_pos e, if_pos ((zt_vx h hx).mpr e)]
    · rw [if_neg e, if_neg (fun z => e ((zt_vx h hx).mp z))])]
  exact zs_one _ 10 hx
theorem zt_cdsum (h : zt_A ms rg) {b : Nat} (hb : zt_al rg b = true) : zd_cd ms b = zl_sum (zd_cd ms) (rg b) := by
  show zs_S (fun v => if ms b v = true then 1 else 0) 10 = zl_sum (fun c => zs_S (fun v => if ms c v = true then 1 else 0) 10) (rg b)
  rw [zl_sum_swap (fun c v => if ms c v = true then 1 else 0)]
  apply zs_congr
  intro v _
  obtain ⟨c0, t0, e0, _, _, hn⟩ := zt_ring h hb
  have hn : (rg b).Nodup := by rw [e0]; exact hn
  have key : ∀ L : List Nat, L.Nodup → (∀ c, c ∈ L → c ∈ rg b) → zl_sum (fun c => if ms c v = true then 1 else 0) L = if (∃ c, c ∈ L ∧ ms c v = true) then (1 : Int) else 0 := by
    intro L
    induction L with
    | nil => intro _ _; rw [if_neg (by simp)]; rfl
    | cons c L ih =>
      intro hn hs
      have hn' := List.nodup_cons.mp hn
      show (if ms c v = true then 1 else 0) + zl_sum (fun c => if ms c v = true then 1 else 0) L = _
      rw [ih hn'.2 (fun d hd => hs d (by simp [hd]))]
      by_cases p : ms c v = true
      · rw [if_pos p, if_neg, if_pos ⟨c, by simp, p⟩]; rfl
        rintro ⟨d, hd, q⟩
        have := zt_dj h hb (hs c (by simp)) (hs d (by simp [hd])) p q
        subst this
        exact hn'.1 hd
      · rw [if_neg p]
        by_cases q : ∃ d, d ∈ L ∧ ms d v = true
        · obtain ⟨d, hd, q'⟩ := q
          rw [if_pos ⟨d, hd, q'⟩, if_pos ⟨d, by simp [hd], q'⟩]; rfl
        · rw [if_neg q, if_neg]; rfl
          rintro ⟨d, hd, q'⟩
          rcases List.mem_cons.mp hd with e | hd
          · subst e; exact p q'
          · exact q ⟨d, hd, q'⟩
  have hk := key (rg b) hn (fun c hc => hc)
  show (if ms b v = true then 1 else 0) = zl_sum (fun c => if ms c v = true then 1 else 0) (rg b)
  rw [hk]
  by_cases p : ms b v = true
  · rw [if_pos p, if_pos ((zt_un h hb).mp p)]
  · rw [if_neg p, if_neg (fun z => p ((zt_un h hb).mpr z))]
/-- induction over the nodes -/
theorem zt_ind (h : zt_A ms rg) {Q : Nat → Prop} (hv : ∀ x, x < 10 → Q x) (hb : ∀ b, zt_al rg b = true → (∀ c, zt_lv rg c → zd_cd ms c < zd_cd ms b → Q c) → Q b) : ∀ x, zt_lv rg x → Q x := by
  have key : ∀ n : Nat, ∀ x, zt_lv rg x → zd_cd ms x ≤ n → Q x := by
    intro n
    induction n with
    | zero => intro x hx hc; have := zt_cd1 h hx; omega
    | succ n ih =>
      intro x hx hc
      rcases hx with hx | hx
      · exact hv x hx
      · exact hb x hx (fun c hc' hlt => ih c hc' (by omega))
  intro x hx
  exact key (zd_cd ms x).toNat x hx (by have := zt_cd0 (ms := ms) x; omega)
theorem zt_odd (h : zt_A ms rg) : ∀ x, zt_lv rg x → zd_cd ms x % 2 = 1 := by
  refine zt_ind h (Q := fun x => zd_cd ms x % 2 = 1) ?_ ?_
  · intro x hx; rw [zt_cdv h hx]; rfl
  · intro b hb ih
    rw [zt_cdsum h hb, zl_sum_odd _ (fun c hc => ih c (zt_kid h hb hc) (zt_cdkid h hb hc))]
    obtain ⟨c, t, e, ht, _, _⟩ := zt_ring h hb
    rw [e]
    simp only [List.length_cons]
    omega
theorem zt_len (h : zt_A ms rg) {b : Nat} (hb : zt_al rg b = true) : (rg b).length ≤ 9 := by
  have h1 := zl_sum_len (f := zd_cd ms) (rg b) (fun c hc => zt_cd1 h (zt_kid h hb hc))
  rw [← zt_cdsum h hb] at h1
  have h2 := zt_cd10 (ms := ms) b
  obtain ⟨c, t, e, ht, _, _⟩ := zt_ring h hb
  rw [e] at h1 ⊢
  simp only [List.length_cons] at h1 ⊢
  omega
/-- a live node's set with one element only: a vertex -/
theorem zt_one (h : zt_A ms rg) {x c : Nat} (hx : zt_lv rg x) (hc : c < 10) (hs : ∀ w, ms x w = true → ms c w = true) : x = c := by
  rcases hx with hx | hx
  · exact ((zt_vx h hc).mp (hs x ((zt_vx h hx).mpr rfl)))
  · obtain ⟨c1, t, e, _, h2, hn⟩ := zt_ring h hx
    cases t with
    | nil => simp at h2
    | cons c2 t =>
      obtain ⟨v1, hv1⟩ := zt_ne h (zt_kid h hx (c := c1) (by rw [e]; simp))
      obtain ⟨v2, hv2⟩ := zt_ne h (zt_kid h hx (c := c2) (by rw [e]; simp))
      have e1 := (zt_vx h hc).mp (hs v1 (zt_sub h hx (c := c1) (by rw [e]; simp) hv1))
      have e2 := (zt_vx h hc).mp (hs v2 (zt_sub h hx (c := c2) (by rw [e]; simp) hv2))
      rw [e1] at hv1
      rw [e2] at hv2
      have := zt_dj h hx (c := c1) (c' := c2) (by rw [e]; simp) (by rw [e]; simp) hv1 hv2
      subst this
      simp at hn
/-- a node inside a blossom lies inside a child -/
theorem zt_inkid (h : zt_A ms rg) {b x : Nat} (hb : zt_al rg b = true) (hx : zt_lv rg x) (hn : x ≠ b) (hs : ∀ w, ms x w = true → ms b w = true) : ∃ c, c ∈ rg b ∧ ∀ w, ms x w = true → ms c w = true := by
  obtain ⟨v, hv⟩ := zt_ne h hx
  rcases zt_lam h hb hx hn (hs v hv) hv with ⟨_, w, hw, hw'⟩ | z
  · exact absurd (hs w hw) hw'
  · exact z
/-! tops -/
theorem zt_tlv (h : zt_T tp ms rg) {v : Nat} (hv : v < 10) : zt_lv rg (tp v) := (h.1 v hv).1
theorem zt_tms (h : zt_T tp ms rg) {v : Nat} (hv : v < 10) : ms (tp v) v = true := (h.1 v hv).2
theorem zt_teq (h : zt_T tp ms rg) {x v w : Nat} (hx : zt_lv rg x) (hv : ms x v = true) (hw : ms x w = true) : tp v = tp w := h.2 x v w hx hv hw
theorem zt_tof (hA : zt_A ms rg) (h : zt_T tp ms rg) {v w : Nat} (hv : v < 10) (hw : ms (tp v) w = true) : tp w = tp v :=
  zt_teq h (zt_tlv h hv) hw (zt_tms h hv)
theorem zt_tsame (h : zt_T tp ms rg) {v w : Nat} (hv : v < 10) (hw : w < 10) (e : tp v = tp w) : ms (tp v) w = true := by
  rw [e]; exact zt_tms h hw
/-- a child isn't a top -/
theorem zt_kidtop (hA : zt_A ms rg) (h : zt_T tp ms rg) {b c v : Nat} (hb : zt_al rg b = true) (hc : c ∈ rg b) (hv : v < 10) : tp v ≠ c := by
  intro e
  obtain ⟨d, hd, hdc⟩ := zt_other hA hb (c := c)
  obtain ⟨w, hw⟩ := zt_ne hA (zt_kid hA hb hd)
  have hvc : ms c v = true := by rw [← e]; exact zt_tms h hv
  have e2 := zt_teq h (Or.inr hb) (zt_sub hA hb hc hvc) (zt_sub hA hb hd hw)
  have : ms c w = true := by rw [← e, e2]; exact zt_tms h (zt_lt hA hw)
  exact hdc (zt_dj hA hb hd hc hw this)
end
end
section
/-! the matching inside the nodes -/
def zt_P (mt bs nf nt : Nat → Nat) (x y : Nat) : Prop := bs x = nf x ∧ bs y = nt x ∧ mt (nf x) = nt x ∧ mt (nt x) = nf x
def zt_Loc (mt bs nf nt : Nat → Nat) (rg : Nat → List Nat) (b : Nat) : Prop := ∀ c t, rg b = c :: t → bs b = bs c ∧ zl_pr (zt_P mt bs nf nt) t
def zt_R (E : Nat → Nat → Prop) (ms : Nat → Nat → Bool) (nx nf nt : Nat → Nat) (x y : Nat) : Prop := nx x = y ∧ ms x (nf x) = true ∧ ms y (nt x) = true ∧ E (nf x) (nt x)
def zt_Lnk (E : Nat → Nat → Prop) (ms : Nat → Nat → Bool) (nx nf nt : Nat → Nat) (rg : Nat → List Nat) : Prop :=
  ∀ b, zt_al rg b = true → ∀ c t, rg b = c :: t → zl_lk (zt_R E ms nx nf nt) c t c
/-- good: x and all inside it have their bases within, and the ring condition -/
def zt_Good (mt bs nf nt : Nat → Nat) (ms : Nat → Nat → Bool) (rg : Nat → List Nat) (x0 : Nat) : Prop :=
  ∀ y, zt_lv rg y → (∀ w, ms y w = true → ms x0 w = true) → ms y (bs y) = true ∧ (zt_al rg y = true → zt_Loc mt bs nf nt rg y)
section
variable {mt bs nx nf nt : Nat → Nat} {ms : Nat → Nat → Bool} {rg : Nat → List Nat} {E : Nat → Nat → Prop}
theorem zt_links (h : zt_A ms rg) (hL : zt_Lnk E ms nx nf nt rg) {b x : Nat} (hb : zt_al rg b = true) (hx : x ∈ rg b) :
    nx x ∈ rg b ∧ ms x (nf x) = true ∧ ms (nx x) (nt x) = true ∧ E (nf x) (nt x) := by
  obtain ⟨c, t, e, _⟩ := zt_ring h hb
  obtain ⟨y, hy, r⟩ := zl_mem (hL b hb c t e) x (by rw [← e]; exact hx)
  obtain ⟨r1, r2, r3, r4⟩ := r
  subst r1
  refine ⟨?_, r2, r3, r4⟩
  rw [e]
  rcases hy with hy | hy
  · simp [hy]
  · rw [hy]; simp
theorem zt_MI (h : zt_A ms rg) {T : Nat → Nat → Prop} (hT : ∀ b, zt_al rg b = true → ∀ x, x ∈ rg b → T (nf x) (nt x) ∧ T (nt x) (nf x))
    {x0 : Nat} (hg : zt_Good mt bs nf nt ms rg x0) : ∀ x, zt_lv rg x → (∀ w, ms x w = true → ms x0 w = true) →
    ∀ v, ms x v = true → v ≠ bs x → ms x (mt v) = true ∧ mt v ≠ v ∧ mt (mt v) = v ∧ mt v ≠ bs x ∧ T v (mt v) := by
  refine zt_ind h (Q := fun x => (∀ w, ms x w = true → ms x0 w = true) → ∀ v, ms x v = true → v ≠ bs x → ms x (mt v) = true ∧ mt v ≠ v ∧ mt (mt v) = v ∧ mt v ≠ bs x ∧ T v (mt v)) ?_ ?_
  · intro x hx hs v hv hn
    have e1 := (zt_vx h hx).mp hv
    have e2 := (zt_vx h hx).mp (hg x (Or.inl hx) hs).1
    exact absurd (e1.trans e2.symm) hn
  · intro b hb ih hs v hv hn
    obtain ⟨c, t, e, _, _, hnd⟩ := zt_ring h hb
    obtain ⟨hbs, hpr⟩ := (hg b (Or.inr hb) hs).2 hb c t e
    have hgk : ∀ d, d ∈ rg b → ms d (bs d) = true := fun d hd => (hg d (zt_kid h hb hd) (fun w hw => hs w (zt_sub h hb hd hw))).1
    obtain ⟨d, hd, hvd⟩ := (zt_un h hb).mp hv
    have hc : c ∈ rg b := by rw [e]; simp
    by_cases q : v = bs d
    · have hdc : d ≠ c := by intro z; subst z; exact hn (q.trans hbs.symm)
      have hdt : d ∈ t := by
        rw [e] at hd
        rcases List.mem_cons.mp hd with z | z
        · exact absurd z hdc
        · exact z
      have hnd' := List.nodup_cons.mp hnd
      obtain ⟨y, hy, hyd, hp⟩ := zl_pr_mem t hpr hnd'.2 d hdt
      have hyb : y ∈ rg b := by rw [e]; simp [hy]
      have hyc : y ≠ c := by intro z; subst z; exact hnd'.1 hy
      have hmv : mt v = bs y ∧ mt (bs y) = v ∧ T v (mt v) := by
        rcases hp with ⟨p1, p2, p3, p4⟩ | ⟨p1, p2, p3, p4⟩
        · have : v = nf d := q.trans p1
          refine ⟨by rw [this, p3, p2], by rw [p2, p4, this], ?_⟩
          rw [this, p3]; exact (hT b hb d hd).1
        · have : v = nt y := q.trans p2
          refine ⟨by rw [this, p4, p1], by rw [p1, p3, this], ?_⟩
          rw [this, p4]; exact (hT b hb y hyb).2
      have hyy := hgk y hyb
      refine ⟨?_, ?_, ?_, ?_, hmv.2.2⟩
      · rw [hmv.1]; exact zt_sub h hb hyb hyy
      · intro z
        rw [hmv.1] at z
        rw [z] at hyy
        exact hyd (zt_dj h hb hyb hd hyy hvd)
      · rw [hmv.1]; exact hmv.2.1
      · rw [hmv.1, hbs]
        intro z
        rw [z] at hyy
        exact hyc (zt_dj h hb hyb hc hyy (hgk c hc))
    · obtain ⟨i1, i2, i3, i4, i5⟩ := ih d (zt_kid h hb hd) (zt_cdkid h hb hd) (fun w hw => hs w (zt_sub h hb hd hw)) v hvd q
      refine ⟨zt_sub h hb hd i1, i2, i3, ?_, i5⟩
      rw [hbs]
      intro z
      by_cases w : d = c
      · subst w; exact i4 z
      · rw [z] at i1
        exact w (zt_dj h hb hd hc i1 (hgk c hc))
end
/-- none -/
def zn_N : Nat := 4294967295
theorem zn_eq : nI zn_N = -1 := by decide +kernel
/-- the graph -/
def zi_G (E : Nat → Nat → Prop) (ky : Nat → Nat → Int) (act : Nat → Bool) : Prop :=
  (∀ u v, E u v → u < 10 ∧ v < 10 ∧ u ≠ v ∧ act u = true ∧ act v = true) ∧ (∀ u v, E u v → E v u) ∧ (∀ u v, ky u v = ky v u)
/-- the matching and the bases -/
def zi_M (E : Nat → Nat → Prop) (mt bs nf nt : Nat → Nat) (ms : Nat → Nat → Bool) (rg : Nat → List Nat) : Prop :=
  zm_M E mt ∧ (∀ y, zt_lv rg y → ms y (bs y) = true ∧ (zt_al rg y = true → zt_Loc mt bs nf nt rg y))
/-- the duals -/
def zi_D (E : Nat → Nat → Prop) (ky : Nat → Nat → Int) (act : Nat → Bool) (mt nf nt : Nat → Nat) (du : Nat → Int) (ms : Nat → Nat → Bool) (rg : Nat → List Nat) (lam : Int) : Prop :=
  (∀ u v, E u v → 0 ≤ zd_sl ky du (zt_al rg) ms u v) ∧
  (∀ v, v < 10 → mt v ≠ v → zd_sl ky du (zt_al rg) ms v (mt v) = 0) ∧
  (∀ b, zt_al rg b = true → 0 ≤ du b ∧ du b % 2 = 0) ∧
  (∀ v, v < 10 → act v = true → lam ≤ du v) ∧
  (∀ v, v < 10 → act v = true → mt v = v → du v = lam) ∧
  (∀ b, zt_al rg b = true → ∀ x, x ∈ rg b → zd_sl ky du (zt_al rg) ms (nf x) (nt x) = 0) ∧
  (∀ b, zt_al rg b = true → ∀ u v, ms b u = true → ms b v = true → (du u - du v) % 2 = 0)
/-- the forest -/
def zi_F (E : Nat → Nat → Prop) (act : Nat → Bool) (mt tp bs uf ut : Nat → Nat) (lb : Nat → Int) (ms : Nat → Nat → Bool) (rg : Nat → List Nat) (rk : Nat → Nat) : Prop :=
  (∀ x, lb x = 0 ∨ lb x = 1 ∨ lb x = -1) ∧
  (∀ x, lb x ≠ 0 → zt_lv rg x ∧ ∀ v, ms x v = true → tp v = x) ∧
  (∀ x, lb x = 1 → uf x = bs x ∧ ((ut x = zn_N ∧ mt (bs x) = bs x ∧ act (bs x) = true) ∨
    (ut x < 10 ∧ mt (bs x) = ut x ∧ ut x ≠ bs x ∧ lb (tp (ut x)) = -1 ∧ bs (tp (ut x)) = ut x ∧ rk (tp (ut x)) < rk x))) ∧
  (∀ x, lb x = -1 → ut x < 10 ∧ ms x (uf x) = true ∧ E (uf x) (ut x) ∧ lb (tp (ut x)) = 1 ∧ rk (tp (ut x)) < rk x ∧
    mt (bs x) ≠ bs x ∧ lb (tp (mt (bs x))) = 1 ∧ ut (tp (mt (bs x))) = bs x) ∧
  (∀ v, v < 10 → act v = true → mt v = v → lb (tp v) = 1)
/-- the forest's duals -/
def zi_FD (ky : Nat → Nat → Int) (tp uf ut : Nat → Nat) (du lb : Nat → Int) (ms : Nat → Nat → Bool) (rg : Nat → List Nat) (lam : Int) : Prop :=
  (∀ x, lb x = -1 → zd_sl ky du (zt_al rg) ms (uf x) (ut x) = 0) ∧
  (∀ v, v < 10 → lb (tp v) ≠ 0 → (du v - lam) % 2 = 0)
section
variable {E : Nat → Nat → Prop} {ky : Nat → Nat → Int} {act : Nat → Bool} {mt tp bs uf ut nx nf nt : Nat → Nat} {du lb : Nat → Int} {ms : Nat → Nat → Bool} {rg : Nat → List Nat} {rk : Nat → Nat} {lam : Int}
theorem zd_zsym (al : Nat → Bool) (u v : Nat) : zd_z du al ms u v = zd_z du al ms v u := by
  apply zs_congr
  intro b _
  rw [Bool.and_assoc, Bool.and_comm (ms b u), ← Bool.and_assoc]
theorem zd_slsym (hG : zi_G E ky act) (al : Nat → Bool) (u v : Nat) : zd_sl ky du al ms u v = zd_sl ky du al ms v u := by
  unfold zd_sl
  rw [zd_zsym al u v, hG.2.2 u v]
  omega
theorem zi_good (hM : zi_M E mt bs nf nt ms rg) (x0 : Nat) : zt_Good mt bs nf nt ms rg x0 := fun y hy _ => hM.2 y hy
/-- inside a node: every vertex but the base has its partner within -/
theorem zi_in (h : zt_A ms rg) (hM : zi_M E mt bs nf nt ms rg) {x v : Nat} (hx : zt_lv rg x) (hv : ms x v = true) (hn : v ≠ bs x) :
    ms x (mt v) = true ∧ mt v ≠ v ∧ mt v ≠ bs x := by
  obtain ⟨i1, i2, _, i4, _⟩ := zt_MI h (T := fun _ _ => True) (fun _ _ _ _ => ⟨trivial, trivial⟩) (zi_good hM x) x hx (fun w hw => hw) v hv hn
  exact ⟨i1, i2, i4⟩
/-- the base is single or its partner lies outside -/
theorem zi_out (h : zt_A ms rg) (hM : zi_M E mt bs nf nt ms rg) {x : Nat} (hx : zt_lv rg x) (hn : mt (bs x) ≠ bs x) : ¬ ms x (mt (bs x)) = true := by
  intro z
  have hb := (hM.2 x hx).1
  have e := (hM.1 (bs x) (zt_lt h hb)).2.1
  obtain ⟨_, _, i3⟩ := zi_in h hM hx z hn
  exact i3 e
/-- a vertex that is matched out of its top is its base -/
theorem zi_bs (h : zt_A ms rg) (hT : zt_T tp ms rg) (hM : zi_M E mt bs nf nt ms rg) {v : Nat} (hv : v < 10) (hn : tp (mt v) ≠ tp v) : v = bs (tp v) := by
  by_cases e : v = bs (tp v)
  · exact e
  · obtain ⟨i1, _, _⟩ := zi_in h hM (zt_tlv hT hv) (zt_tms hT hv) e
    exact absurd (zt_tof h hT hv i1) hn
theorem zi_bsfree (h : zt_A ms rg) (hT : zt_T tp ms rg) (hM : zi_M E mt bs nf nt ms rg) {v : Nat} (hv : v < 10) (hn : mt v = v) : v = bs (tp v) := by
  by_cases e : v = bs (tp v)
  · exact e
  · obtain ⟨_, i2, _⟩ := zi_in h hM (zt_tlv hT hv) (zt_tms hT hv) e
    exact absurd hn i2
/-- THE MAIN INEQUALITY at work -/
theorem zi_main (hG : zi_G E ky act) (h : zt_A ms rg) (hM : zi_M E mt bs nf nt ms rg) (hD : zi_D E ky act mt nf nt du ms rg lam) {N : Nat → Nat} (hN : zm_M E N) :
    zm_K ky N ≤ zm_K ky mt + lam * (zm_cov N - zm_cov mt) :=
  zd_main (E := E) (act := act) (bs := bs) (al := zt_al rg) (ms := ms) (du := du) (fun u v e => (hG.1 u v e).2.2.2.1) (fun u v _ _ e => hD.1 u v e) (fun b hb => (hD.2.2.1 b hb).1)
    (fun b hb => zt_odd h b (Or.inr hb)) hM.1 hD.2.1 (fun b hb => zt_lt h (hM.2 b (Or.inr hb)).1)
    (fun b hb v _ hv hn => by obtain ⟨i1, i2, _⟩ := zi_in h hM (Or.inr hb) hv hn; exact ⟨i2, i1⟩)
    hD.2.2.2.1 hD.2.2.2.2.1 hN
/-- labels of a matched pair of tops -/
theorem zi_opp (h : zt_A ms rg) (hT : zt_T tp ms rg) (hM : zi_M E mt bs nf nt ms rg) (hF : zi_F E act mt tp bs uf ut lb ms rg rk) {v : Nat} (hv : v < 10) (hn : tp (mt v) ≠ tp v) :
    lb (tp v) + lb (tp (mt v)) = 0 := by
  have half : ∀ w, w < 10 → tp (mt w) ≠ tp w → (lb (tp w) = 1 → lb (tp (mt w)) = -1) ∧ (lb (tp w) = -1 → lb (tp (mt w)) = 1) := by
    intro w hw hne
    have hb := zi_bs h hT hM hw hne
    have hmw : mt w ≠ w := fun z => hne (by rw [z])
    constructor
    · intro h1
      obtain ⟨_, h2 | h2⟩ := hF.2.2.1 (tp w) h1
      · rw [← hb] at h2; exact absurd h2.2.1 hmw
      · obtain ⟨_, e, _, e2, _⟩ := h2
        rw [← hb] at e
        rw [e]; exact e2
    · intro h1
      obtain ⟨_, _, _, _, _, _, e2, _⟩ := hF.2.2.2.1 (tp w) h1
      rw [← hb] at e2
      exact e2
  have a := half v hv hn
  have b := half (mt v) (hM.1 v hv).1 (by rw [(hM.1 v hv).2.1]; exact fun z => hn z.symm)
  rw [(hM.1 v hv).2.1] at b
  rcases hF.1 (tp v) with z | z | z
  · rcases hF.1 (tp (mt v)) with y | y | y
    · omega
    · have := b.1 y; omega
    · have := b.2 y; omega
  · have := a.1 z; omega
  · have := a.2 z; omega
/-! moving the duals -/
def zi_mv (tp : Nat → Nat) (lb du : Nat → Int) (de : Int) : Nat → Int := fun x => if x < 10 then du x - lb (tp x) * de else du x + 2 * lb x * de
theorem zi_zdiff (h : zt_A ms rg) (hT : zt_T tp ms rg) (hF : zi_F E act mt tp bs uf ut lb ms rg rk) (de : Int) {u v : Nat} (hu : u < 10) (hv : v < 10) (hn : u ≠ v) :
    zd_z (zi_mv tp lb du de) (zt_al rg) ms u v = zd_z du (zt_al rg) ms u v + (if tp u = tp v then 2 * lb (tp u) * de else 0) := by
  have hd : zd_z (zi_mv tp lb du de) (zt_al rg) ms u v = zs_S (fun b => (if (zt_al rg b && ms b u && ms b v) = true then du b else 0) + (if (zt_al rg b && ms b u && ms b v) = true then 2 * lb b * de else 0)) 16 := by
    apply zs_congr
    intro b _
    by_cases q : (zt_al rg b && ms b u && ms b v) = true
    · rw [if_pos q, if_pos q, if_pos q]
      simp only [Bool.and_eq_true] at q
      have := zt_al_iff.mp q.1.1
      unfold zi_mv
      rw [if_neg (by omega)]
    · rw [if_neg q, if_neg q, if_neg q]; rfl
  rw [hd, zs_add]
  show zd_z du (zt_al rg) ms u v + _ = _
  congr 1
  by_cases e : tp u = tp v
  · rw [if_pos e]
    have hx : zt_al rg (tp u) = true := by
      rcases zt_tlv hT hu with z | z
      · exfalso
        have a := (zt_vx h z).mp (zt_tms hT hu)
        have b := (zt_vx h z).mp (by rw [e]; exact zt_tms hT hv)
        exact hn (a.trans b.symm)
      · exact z
    rw [zs_congr (g := fun b => if b = tp u then 2 * lb (tp u) * de else 0) 16]
    · exact zs_one _ 16 (zt_al_iff.mp hx).2.1
    · intro b _
      by_cases z : b = tp u
      · subst z
        rw [if_pos rfl, if_pos (by simp only [Bool.and_eq_true]; exact ⟨⟨hx, zt_tms hT hu⟩, by rw [e]; exact zt_tms hT hv⟩)]
      · rw [if_neg z]
        by_cases q : (zt_al rg b && ms b u && ms b v) = true
        · rw [if_pos q]
          simp only [Bool.and_eq_true] at q
          have : lb b = 0 := by
            by_cases l : lb b = 0
            · exact l
            · exact absurd ((hF.2.1 b l).2 u q.1.2).symm z
          rw [this]; omega
        · rw [if_neg q]
  · rw [if_neg e]
    apply zs_z
    intro b _
    apply if_neg
    intro q
    simp only [Bool.and_eq_true] at q
    exact e (zt_teq hT (Or.inr q.1.1) q.1.2 q.2)
theorem zi_sldiff (h : zt_A ms rg) (hT : zt_T tp ms rg) (hF : zi_F E act mt tp bs uf ut lb ms rg rk) (de : Int) {u v : Nat} (hu : u < 10) (hv : v < 10) (hn : u ≠ v) :
    zd_sl ky (zi_mv tp lb du de) (zt_al rg) ms u v = zd_sl ky du (zt_al rg) ms u v - (if tp u = tp v then 0 else (lb (tp u) + lb (tp v)) * de) := by
  unfold zd_sl
  rw [zi_zdiff h hT hF de hu hv hn]
  have e1 : zi_mv tp lb du de u = du u - lb (tp u) * de := if_pos hu
  have e2 : zi_mv tp lb du de v = du v - lb (tp v) * de := if_pos hv
  rw [e1, e2]
  by_cases e : tp u = tp v
  · rw [if_pos e, if_pos e, ← e, Int.mul_assoc]; omega
  · rw [if_neg e, if_neg e, Int.add_mul]; omega
theorem zi_move (hG : zi_G E ky act) (h : zt_A ms rg) (hT : zt_T tp ms rg) (hL : zt_Lnk E ms nx nf nt rg) (hM : zi_M E mt bs nf nt ms rg) (hD : zi_D E ky act mt nf nt du ms rg lam)
    (hF : zi_F E act mt tp bs uf ut lb ms rg rk) (hFD : zi_FD ky tp uf ut du lb ms rg lam) {de : Int} (h0 : 0 ≤ de)
    (c1 : ∀ u v, E u v → lb (tp u) = 1 → lb (tp v) = 0 → de ≤ zd_sl ky du (zt_al rg) ms u v)
    (c2 : ∀ u v, E u v → lb (tp u) = 1 → lb (tp v) = 1 → tp u ≠ tp v → 2 * de ≤ zd_sl ky du (zt_al rg) ms u v)
    (c3 : ∀ b, zt_al rg b = true → lb b = -1 → 2 * de ≤ du b) :
    zi_D E ky act mt nf nt (zi_mv tp lb du de) ms rg (lam - de) ∧ zi_FD ky tp uf ut (zi_mv tp lb du de) lb ms rg (lam - de) := by
  have hvx : ∀ v, v < 10 → zi_mv tp lb du de v = du v - lb (tp v) * de := fun v hv => if_pos hv
  have hbl : ∀ b, zt_al rg b = true → zi_mv tp lb du de b = du b + 2 * lb b * de := fun b hb => if_neg (by have := (zt_al_iff.mp hb).1; omega)
  refine ⟨⟨?_, ?_, ?_, ?_, ?_, ?_, ?_⟩, ?_, ?_⟩
  · intro u v e
    obtain ⟨hu, hv, hn, _, _⟩ := hG.1 u v e
    rw [zi_sldiff h hT hF de hu hv hn]
    have s := hD.1 u v e
    by_cases q : tp u = tp v
    · rw [if_pos q]; omega
    · rw [if_neg q]
      rcases hF.1 (tp u) with a | a | a <;> rcases hF.1 (tp v) with b | b | b <;> rw [a, b]
      · omega
      · have := c1 v u (hG.2.1 u v e) b a
        rw [zd_slsym hG] at this; omega
      · omega
      · have := c1 u v e a b; omega
      · have := c2 u v e a b q; omega
      · omega
      · omega
      · omega
      · omega
  · intro v hv hn
    have hm := hM.1 v hv
    rw [zi_sldiff h hT hF de hv hm.1 (fun z => hn z.symm), hD.2.1 v hv hn]
    by_cases q : tp v = tp (mt v)
    · rw [if_pos q]; rfl
    · rw [if_neg q, zi_opp h hT hM hF hv (fun z => q z.symm)]; omega
  · intro b hb
    rw [hbl b hb]
    obtain ⟨d1, d2⟩ := hD.2.2.1 b hb
    rcases hF.1 b with a | a | a <;> rw [a]
    · omega
    · omega
    · have := c3 b hb a; omega
  · intro v hv ha
    rw [hvx v hv]
    have d := hD.2.2.2.1 v hv ha
    rcases hF.1 (tp v) with a | a | a <;> rw [a] <;> omega
  · intro v hv ha hf
    rw [hvx v hv, hF.2.2.2.2 v hv ha hf, hD.2.2.2.2.1 v hv ha hf]; omega
  · intro b hb x hx
    obtain ⟨l1, l2, l3, l4⟩ := zt_links h hL hb hx
    obtain ⟨hu, hv, hn, _, _⟩ := hG.1 _ _ l4
    rw [zi_sldiff h hT hF de hu hv hn, hD.2.2.2.2.2.1 b hb x hx, if_pos]
    · rfl
    · exact zt_teq hT (Or.inr hb) (zt_sub h hb hx l2) (zt_sub h hb l1 l3)
  · intro b hb u v hu hv
    rw [hvx u (zt_lt h hu), hvx v (zt_lt h hv), zt_teq hT (Or.inr hb) hu hv]
    have := hD.2.2.2.2.2.2 b hb u v hu hv
    omega
  · intro x hx
    obtain ⟨f1, f2, f3, f4, _⟩ := hF.2.2.2.1 x hx
    obtain ⟨hu, hv, hn, _, _⟩ := hG.1 _ _ f3
    have e := (hF.2.1 x (by omega)).2 _ f2
    rw [zi_sldiff h hT hF de hu hv hn, hFD.1 x hx, if_neg, e, hx, f4]
    · omega
    · intro z
      rw [e] at z
      rw [← z, hx] at f4
      omega
  · intro v hv hn
    rw [hvx v hv]
    have := hFD.2 v hv hn
    rcases hF.1 (tp v) with a | a | a
    · exact absurd a hn
    · rw [a]; omega
    · rw [a]; omega
end
end
section
/-! one cell written -/
def zu_U {α : Type} (f : Nat → α) (i : Nat) (v : α) : Nat → α := fun j => if j = i then v else f j
theorem zu_s {α : Type} {f : Nat → α} {i : Nat} {v : α} : zu_U f i v i = v := if_pos rfl
theorem zu_n {α : Type} {f : Nat → α} {i j : Nat} {v : α} (h : j ≠ i) : zu_U f i v j = f j := if_neg h
section
variable {E : Nat → Nat → Prop} {ky : Nat → Nat → Int} {act : Nat → Bool} {mt tp bs uf ut nx nf nt : Nat → Nat} {du lb : Nat → Int} {ms : Nat → Nat → Bool} {rg : Nat → List Nat} {rk : Nat → Nat} {lam : Int}
/-- all members of a blossom are active -/
theorem zi_act (hG : zi_G E ky act) (h : zt_A ms rg) (hL : zt_Lnk E ms nx nf nt rg) : ∀ b, zt_lv rg b → zt_al rg b = true → ∀ v, ms b v = true → act v = true := by
  refine zt_ind h (Q := fun b => zt_al rg b = true → ∀ v, ms b v = true → act v = true) ?_ ?_
  · intro x hx hb
    have := (zt_al_iff.mp hb).1
    omega
  · intro b hb ih _ v hv
    obtain ⟨c, hc, hvc⟩ := (zt_un h hb).mp hv
    rcases zt_kid h hb hc with z | z
    · obtain ⟨_, l2, _, l4⟩ := zt_links h hL hb hc
      have e1 := (zt_vx h z).mp l2
      have e2 := (zt_vx h z).mp hvc
      rw [e2, ← e1]
      exact (hG.1 _ _ l4).2.2.2.1
    · exact ih c (zt_kid h hb hc) (zt_cdkid h hb hc) z v hvc
/-- a top that holds an active vertex has active members -/
theorem zi_actT (hG : zi_G E ky act) (h : zt_A ms rg) (hT : zt_T tp ms rg) (hL : zt_Lnk E ms nx nf nt rg) {v w : Nat} (hv : v < 10) (ha : act v = true) (hw : ms (tp v) w = true) : act w = true := by
  rcases zt_tlv hT hv with z | z
  · have e1 := (zt_vx h z).mp (zt_tms hT hv)
    have e2 := (zt_vx h z).mp hw
    rw [e2, ← e1]; exact ha
  · exact zi_act hG h hL _ (Or.inr z) z w hw
theorem zi_z0 (hT : zt_T tp ms rg) {u v : Nat} (e : tp u ≠ tp v) : zd_z du (zt_al rg) ms u v = 0 := by
  apply zs_z
  intro b _
  apply if_neg
  intro q
  simp only [Bool.and_eq_true] at q
  exact e (zt_teq hT (Or.inr q.1.1) q.1.2 q.2)
theorem zi_par (h : zt_A ms rg) (hT : zt_T tp ms rg) (hD : zi_D E ky act mt nf nt du ms rg lam) {v w : Nat} (hv : v < 10) (hw : w < 10) (e : tp v = tp w) : (du v - du w) % 2 = 0 := by
  rcases zt_tlv hT hv with z | z
  · have e1 := (zt_vx h z).mp (zt_tms hT hv)
    have e2 := (zt_vx h z).mp (by rw [e]; exact zt_tms hT hw)
    rw [e2, ← e1]; omega
  · exact hD.2.2.2.2.2.2 (tp v) z v w (zt_tms hT hv) (by rw [e]; exact zt_tms hT hw)
theorem zi_tight (hT : zt_T tp ms rg) {u v : Nat} (e : tp u ≠ tp v) (hs : zd_sl ky du (zt_al rg) ms u v = 0) : du u + du v = 2 * ky u v := by
  unfold zd_sl at hs
  rw [zi_z0 hT e] at hs
  omega
/-! the ways up -/
def zf_UP (tp ut : Nat → Nat) : Nat → List Nat → Prop
  | x, [] => ut x = zn_N
  | x, y :: l => ut x < 10 ∧ tp (ut x) = y ∧ zf_UP tp ut y l
theorem zf_ex (hF : zi_F E act mt tp bs uf ut lb ms rg rk) : ∀ x, lb x ≠ 0 → ∃ l, zf_UP tp ut x l := by
  have key : ∀ n x, rk x ≤ n → lb x ≠ 0 → ∃ l, zf_UP tp ut x l := by
    intro n
    induction n with
    | zero =>
      intro x hx hl
      rcases hF.1 x with a | a | a
      · exact absurd a hl
      · obtain ⟨_, b | b⟩ := hF.2.2.1 x a
        · exact ⟨[], b.1⟩
        · have := b.2.2.2.2.2; omega
      · have := (hF.2.2.2.1 x a).2.2.2.2.1; omega
    | succ n ih =>
      intro x hx hl
      rcases hF.1 x with a | a | a
      · exact absurd a hl
      · obtain ⟨_, b | b⟩ := hF.2.2.1 x a
        · exact ⟨[], b.1⟩
        · obtain ⟨b1, _, _, b4, _, b6⟩ := b
          obtain ⟨l, hl⟩ := ih (tp (ut x)) (by omega) (by omega)
          exact ⟨_ :: l, b1, rfl, hl⟩
      · obtain ⟨b1, _, _, b4, b5, _⟩ := hF.2.2.2.1 x a
        obtain ⟨l, hl⟩ := ih (tp (ut x)) (by omega) (by omega)
        exact ⟨_ :: l, b1, rfl, hl⟩
  exact fun x => key (rk x) x (Nat.le_refl _)
theorem zf_uniq : ∀ {l l' : List Nat} {x : Nat}, zf_UP tp ut x l → zf_UP tp ut x l' → l = l' := by
  intro l
  induction l with
  | nil =>
    intro l' x h h'
    cases l' with
    | nil => rfl
    | cons y l' =>
      have : ut x = zn_N := h
      have h2 := h'.1
      rw [this] at h2
      exact absurd h2 (by decide)
  | cons y l ih =>
    intro l' x h h'
    cases l' with
    | nil =>
      have : ut x = zn_N := h'
      have h2 := h.1
      rw [this] at h2
      exact absurd h2 (by decide)
    | cons y' l' =>
      have e : y = y' := h.2.1.symm.trans h'.2.1
      subst e
      rw [ih h.2.2 h'.2.2]
/-- one step up -/
theorem zf_step (hF : zi_F E act mt tp bs uf ut lb ms rg rk) {x : Nat} (hl : lb x ≠ 0) (hu : ut x < 10) : lb (tp (ut x)) = - lb x ∧ rk (tp (ut x)) < rk x := by
  rcases hF.1 x with a | a | a
  · exact absurd a hl
  · obtain ⟨_, b | b⟩ := hF.2.2.1 x a
    · rw [b.1] at hu; exact absurd hu (by decide)
    · rw [a]; exact ⟨b.2.2.2.1, b.2.2.2.2.2⟩
  · obtain ⟨b1, _, _, b4, b5, _⟩ := hF.2.2.2.1 x a
    rw [a]; exact ⟨b4, b5⟩
theorem zf_all (hF : zi_F E act mt tp bs uf ut lb ms rg rk) : ∀ {l : List Nat} {x : Nat}, lb x ≠ 0 → zf_UP tp ut x l → ∀ y, y ∈ l → lb y ≠ 0 ∧ rk y < rk x := by
  intro l
  induction l with
  | nil => intro x _ _ y hy; simp at hy
  | cons z l ih =>
    intro x hx h y hy
    obtain ⟨h1, h2, h3⟩ := h
    have s := zf_step hF hx h1
    rw [h2] at s
    have hz : lb z ≠ 0 := by
      rcases hF.1 x with a | a | a <;> omega
    rcases List.mem_cons.mp hy with e | hy
    · rw [e]; exact ⟨hz, s.2⟩
    · have := ih hz h3 y hy
      exact ⟨this.1, by omega⟩
theorem zf_nodup (hF : zi_F E act mt tp bs uf ut lb ms rg rk) : ∀ {l : List Nat} {x : Nat}, lb x ≠ 0 → zf_UP tp ut x l → (x :: l).Nodup := by
  intro l
  induction l with
  | nil => intro x _ _; simp
  | cons z l ih =>
    intro x hx h
    have ha := zf_all hF hx h
    refine List.nodup_cons.mpr ⟨fun hm => ?_, ih (ha z (by simp)).1 h.2.2⟩
    have := (ha x hm).2
    omega
/-- the way from a place on a way -/
theorem zf_tail : ∀ {A C : List Nat} {x m : Nat}, zf_UP tp ut x (A ++ m :: C) → zf_UP tp ut m C := by
  intro A
  induction A with
  | nil => intro C x m h; exact h.2.2
  | cons a A ih => intro C x m h; exact ih h.2.2
/-! the measure of the rounds -/
def zf_mu (tp bs : Nat → Nat) (lb : Nat → Int) (rg : Nat → List Nat) : Int :=
  zs_S (fun v => if lb (tp v) = 1 then 0 else 1) 10 + zs_S (fun b => if zt_al rg b = true ∧ lb (tp (bs b)) ≠ 1 then 1 else 0) 16
theorem zf_mu_v {tp' bs' : Nat → Nat} {lb' : Nat → Int} {rg' : Nat → List Nat} (h1 : ∀ v, v < 10 → lb (tp v) = 1 → lb' (tp' v) = 1)
    (h2 : ∀ b, b < 16 → zt_al rg' b = true → lb' (tp' (bs' b)) ≠ 1 → zt_al rg b = true ∧ lb (tp (bs b)) ≠ 1) {k : Nat} (hk : k < 10) (k1 : lb (tp k) ≠ 1) (k2 : lb' (tp' k) = 1) :
    zf_mu tp' bs' lb' rg' < zf_mu tp bs lb rg := by
  have a : zs_S (fun v => (if lb' (tp' v) = 1 then 0 else 1) + (if v = k then 1 else 0)) 10 ≤ zs_S (fun v => if lb (tp v) = 1 then 0 else 1) 10 := by
    apply zs_le
    intro v hv
    by_cases e : v = k
    · subst e; rw [if_pos k2, if_neg k1, if_pos rfl]; exact Int.le_refl _
    · rw [if_neg e]
      by_cases q : lb (tp v) = 1
      · rw [if_pos q, if_pos (h1 v hv q)]; exact Int.le_refl _
      · rw [if_neg q]; split <;> omega
  have b : zs_S (fun b => if zt_al rg' b = true ∧ lb' (tp' (bs' b)) ≠ 1 then 1 else 0) 16 ≤ zs_S (fun b => if zt_al rg b = true ∧ lb (tp (bs b)) ≠ 1 then 1 else 0) 16 := by
    apply zs_le
    intro b hb
    by_cases q : zt_al rg' b = true ∧ lb' (tp' (bs' b)) ≠ 1
    · rw [if_pos q, if_pos (h2 b hb q.1 q.2)]; exact Int.le_refl _
    · rw [if_neg q]; split <;> omega
  rw [zs_add, zs_one _ 10 hk] at a
  unfold zf_mu
  omega
theorem zf_mu_b {tp' bs' : Nat → Nat} {lb' : Nat → Int} {rg' : Nat → List Nat} (h1 : ∀ v, v < 10 → lb (tp v) = 1 → lb' (tp' v) = 1)
    (h2 : ∀ b, b < 16 → zt_al rg' b = true → lb' (tp' (bs' b)) ≠ 1 → zt_al rg b = true ∧ lb (tp (bs b)) ≠ 1) {k : Nat} (hk : k < 16) (k1 : zt_al rg k = true) (k2 : lb (tp (bs k)) ≠ 1) (k3 : ¬ zt_al rg' k = true) :
    zf_mu tp' bs' lb' rg' < zf_mu tp bs lb rg := by
  have a : zs_S (fun v => if lb' (tp' v) = 1 then 0 else 1) 10 ≤ zs_S (fun v => if lb (tp v) = 1 then 0 else 1) 10 := by
    apply zs_le
    intro v hv
    by_cases q : lb (tp v) = 1
    · rw [if_pos q, if_pos (h1 v hv q)]; exact Int.le_refl _
    · rw [if_neg q]; split <;> omega
  have b : zs_S (fun b => (if zt_al rg' b = true ∧ lb' (tp' (bs' b)) ≠ 1 then 1 else 0) + (if b = k then 1 else 0)) 16 ≤ zs_S (fun b => if zt_al rg b = true ∧ lb (tp (bs b)) ≠ 1 then 1 else 0) 16 := by
    apply zs_le
    intro b hb
    by_cases e : b = k
    · subst e; rw [if_neg (fun z => k3 z.1), if_pos rfl, if_pos ⟨k1, k2⟩]; exact Int.le_refl _
    · rw [if_neg e]
      by_cases q : zt_al rg' b = true ∧ lb' (tp' (bs' b)) ≠ 1
      · rw [if_pos q, if_pos (h2 b hb q.1 q.2)]; exact Int.le_refl _
      · rw [if_neg q]; split <;> omega
  rw [zs_add, zs_one _ 16 hk] at b
  unfold zf_mu
  omega
theorem zf_mu_0 : 0 ≤ zf_mu tp bs lb rg := by
  have a := zs_nn (f := fun v => if lb (tp v) = 1 then 0 else 1) 10 (fun v _ => by split <;> omega)
  have b := zs_nn (f := fun b => if zt_al rg b = true ∧ lb (tp (bs b)) ≠ 1 then 1 else 0) 16 (fun v _ => by split <;> omega)
  unfold zf_mu
  omega
theorem zf_mu_16 : zf_mu tp bs lb rg ≤ 16 := by
  have a : zs_S (fun v => if lb (tp v) = 1 then 0 else 1) 10 ≤ zs_S (fun _ => 1) 10 := zs_le 10 (fun v _ => by split <;> omega)
  have b : zs_S (fun b => if zt_al rg b = true ∧ lb (tp (bs b)) ≠ 1 then 1 else 0) 16 ≤ zs_S (fun b => if 10 ≤ b then 1 else 0) 16 := zs_le 16 (fun b _ => by
    by_cases q : zt_al rg b = true ∧ lb (tp (bs b)) ≠ 1
    · rw [if_pos q, if_pos (zt_al_iff.mp q.1).1]; exact Int.le_refl _
    · rw [if_neg q]; split <;> omega)
  have a' : zs_S (fun _ => 1) 10 = 10 := by decide +kernel
  have b' : zs_S (fun b => if 10 ≤ b then 1 else 0) 16 = 6 := by decide +kernel
  unfold zf_mu
  omega
/-! growing a tree -/
theorem zi_grow (hG : zi_G E ky act) (h : zt_A ms rg) (hT : zt_T tp ms rg) (hL : zt_Lnk E ms nx nf nt rg) (hM : zi_M E mt bs nf nt ms rg) (hD : zi_D E ky act mt nf nt du ms rg lam)
    (hF : zi_F E act mt tp bs uf ut lb ms rg rk) (hFD : zi_FD ky tp uf ut du lb ms rg lam) {u v : Nat} (he : E u v) (hu : lb (tp u) = 1) (hv : lb (tp v) = 0)
    (hs : zd_sl ky du (zt_al rg) ms u v = 0) :
    mt (bs (tp v)) ≠ bs (tp v) ∧ tp (mt (bs (tp v))) ≠ tp v ∧
    (∃ rk', zi_F E act mt tp bs (zu_U (zu_U uf (tp v) v) (tp (mt (bs (tp v)))) (mt (bs (tp v)))) (zu_U (zu_U ut (tp v) u) (tp (mt (bs (tp v)))) (bs (tp v))) (zu_U (zu_U lb (tp v) (-1)) (tp (mt (bs (tp v)))) 1) ms rg rk') ∧
    zi_FD ky tp (zu_U (zu_U uf (tp v) v) (tp (mt (bs (tp v)))) (mt (bs (tp v)))) (zu_U (zu_U ut (tp v) u) (tp (mt (bs (tp v)))) (bs (tp v))) du (zu_U (zu_U lb (tp v) (-1)) (tp (mt (bs (tp v)))) 1) ms rg lam ∧
    zf_mu tp bs (zu_U (zu_U lb (tp v) (-1)) (tp (mt (bs (tp v)))) 1) rg < zf_mu tp bs lb rg := by
  obtain ⟨hu10, hv10, huv, hau, hav⟩ := hG.1 u v he
  have hxl := zt_tlv hT hv10
  have hbx := (hM.2 (tp v) hxl).1
  have hb10 := zt_lt h hbx
  have htb : tp (bs (tp v)) = tp v := zt_tof h hT hv10 hbx
  have hfar : mt (bs (tp v)) ≠ bs (tp v) := by
    intro z
    have := hF.2.2.2.2 _ hb10 (zi_actT hG h hT hL hv10 hav hbx) z
    rw [htb] at this
    omega
  have hf10 := (hM.1 _ hb10).1
  have hff := (hM.1 _ hb10).2.1
  have hyx : tp (mt (bs (tp v))) ≠ tp v := by
    intro z
    apply zi_out h hM hxl hfar
    have := zt_tms hT hf10
    rw [z] at this
    exact this
  have hly : lb (tp (mt (bs (tp v)))) = 0 := by
    have := zi_opp h hT hM hF hb10 (by rw [htb]; exact hyx)
    rw [htb] at this; omega
  have hby : mt (bs (tp v)) = bs (tp (mt (bs (tp v)))) := zi_bs h hT hM hf10 (by rw [hff, htb]; exact fun z => hyx z.symm)
  generalize hfd : mt (bs (tp v)) = far at *
  generalize hyd : tp far = y at *
  generalize hxd : tp v = x at *
  have huy : tp u ≠ y := by intro z; rw [z] at hu; omega
  have hux : tp u ≠ x := by intro z; rw [z] at hu; omega
  have hlb : ∀ z, z ≠ x → z ≠ y → zu_U (zu_U lb x (-1)) y 1 z = lb z := fun z a b => (zu_n b).trans (zu_n a)
  have hlx : zu_U (zu_U lb x (-1)) y 1 x = -1 := (zu_n (fun z => hyx z.symm)).trans zu_s
  have hl1 : ∀ z, lb z ≠ 0 → zu_U (zu_U lb x (-1)) y 1 z = lb z := fun z a => hlb z (fun e => a (by rw [e]; exact hv)) (fun e => a (by rw [e]; exact hly))
  have hrk : ∀ z, lb z ≠ 0 → zu_U (zu_U rk x (rk (tp u) + 1)) y (rk (tp u) + 2) z = rk z := fun z a => (zu_n (fun e => a (by rw [e]; exact hly))).trans (zu_n (fun e => a (by rw [e]; exact hv)))
  have huf : ∀ z, lb z ≠ 0 → zu_U (zu_U uf x v) y far z = uf z := fun z a => (zu_n (fun e => a (by rw [e]; exact hly))).trans (zu_n (fun e => a (by rw [e]; exact hv)))
  have hut : ∀ z, lb z ≠ 0 → zu_U (zu_U ut x u) y (bs x) z = ut z := fun z a => (zu_n (fun e => a (by rw [e]; exact hly))).trans (zu_n (fun e => a (by rw [e]; exact hv)))
  refine ⟨hfar, hyx, ⟨zu_U (zu_U rk x (rk (tp u) + 1)) y (rk (tp u) + 2), ?_, ?_, ?_, ?_, ?_⟩, ⟨?_, ?_⟩, ?_⟩
  · intro z
    by_cases a : z = y
    · subst a; rw [zu_s]; omega
    · by_cases b : z = x
      · subst b; rw [hlx]; omega
      · rw [hlb z b a]; exact hF.1 z
  · intro z hz
    by_cases a : z = y
    · subst a
      rw [← hyd]
      exact ⟨zt_tlv hT hf10, fun w hw => zt_tof h hT hf10 hw⟩
    · by_cases b : z = x
      · subst b
        rw [← hxd]
        exact ⟨zt_tlv hT hv10, fun w hw => zt_tof h hT hv10 hw⟩
      · rw [hlb z b a] at hz; exact hF.2.1 z hz
  · intro z hz
    by_cases a : z = y
    · subst a
      rw [zu_s, zu_s, zu_s]
      refine ⟨hby, Or.inr ⟨hb10, by rw [← hby]; exact hff, by rw [← hby]; exact fun e => hfar e.symm, ?_, ?_, ?_⟩⟩
      · rw [htb]; exact hlx
      · rw [htb]
      · rw [htb, zu_n (fun e => hyx e.symm), zu_s]; omega
    · by_cases b : z = x
      · subst b; rw [hlx] at hz; omega
      · rw [hlb z b a] at hz
        have h0 : lb z ≠ 0 := by omega
        rw [huf z h0, hut z h0, hrk z h0]
        obtain ⟨c1, c2 | c2⟩ := hF.2.2.1 z hz
        · exact ⟨c1, Or.inl c2⟩
        · obtain ⟨d1, d2, d3, d4, d5, d6⟩ := c2
          refine ⟨c1, Or.inr ⟨d1, d2, d3, ?_, d5, ?_⟩⟩
          · rw [hl1 _ (by omega)]; exact d4
          · rw [hrk _ (by omega)]; exact d6
  · intro z hz
    by_cases a : z = y
    · subst a; rw [zu_s] at hz; omega
    · by_cases b : z = x
      · subst b
        rw [zu_n (fun e => hyx e.symm), zu_s, zu_n (fun e => hyx e.symm), zu_s, hl1 _ (by omega), hrk _ (by omega), hfd, hyd, zu_s, zu_s, zu_n (fun e => hyx e.symm), zu_s]
        exact ⟨hu10, by rw [← hxd]; exact zt_tms hT hv10, hG.2.1 _ _ he, hu, by omega, hfar, rfl, rfl⟩
      · rw [hlb z b a] at hz
        have h0 : lb z ≠ 0 := by omega
        rw [huf z h0, hut z h0, hrk z h0]
        obtain ⟨d1, d2, d3, d4, d5, d6, d7, d8⟩ := hF.2.2.2.1 z hz
        rw [hl1 _ (by omega), hrk _ (by omega), hl1 _ (by omega), hut _ (by omega)]
        exact ⟨d1, d2, d3, d4, d5, d6, d7, d8⟩
  · intro w hw ha hf
    have := hF.2.2.2.2 w hw ha hf
    rw [hl1 _ (by omega)]; exact this
  · intro z hz
    by_cases a : z = y
    · subst a; rw [zu_s] at hz; omega
    · by_cases b : z = x
      · subst b
        rw [zu_n (fun e => hyx e.symm), zu_s, zu_n (fun e => hyx e.symm), zu_s, zd_slsym hG]
        exact hs
      · rw [hlb z b a] at hz
        have h0 : lb z ≠ 0 := by omega
        rw [huf z h0, hut z h0]
        exact hFD.1 z hz
  · intro w hw hl
    have pu := hFD.2 u hu10 (by omega)
    have t1 := zi_tight hT (by rw [hxd]; exact hux) hs
    have t2 := zi_tight hT (u := bs x) (v := far) (by rw [htb, hyd]; exact fun e => hyx e.symm) (by rw [← hfd]; exact hD.2.1 _ hb10 (by rw [hfd]; exact hfar))
    have p1 := zi_par h hT hD hb10 hv10 (by rw [htb, hxd])
    by_cases a : tp w = y
    · have := zi_par h hT hD hw hf10 (by rw [a, hyd])
      omega
    · by_cases b : tp w = x
      · have := zi_par h hT hD hw hv10 (by rw [b, hxd])
        omega
      · rw [hlb _ b a] at hl
        exact hFD.2 w hw hl
  · apply zf_mu_v (k := far)
    · intro w _ hw
      rw [hl1 _ (by omega)]; exact hw
    · intro b _ hb hl
      refine ⟨hb, fun z => hl ?_⟩
      rw [hl1 _ (by omega)]; exact z
    · exact hf10
    · rw [hyd]; omega
    · rw [hyd]; exact zu_s
end
end
section
/-! forming a blossom, given its ring -/
section
variable {E : Nat → Nat → Prop} {ky : Nat → Nat → Int} {act : Nat → Bool} {mt tp bs uf ut nx nf nt : Nat → Nat} {du lb : Nat → Int} {ms : Nat → Nat → Bool} {rg : Nat → List Nat} {rk : Nat → Nat} {lam : Int}
def zg_ms (ms : Nat → Nat → Bool) (nb : Nat) (L : List Nat) : Nat → Nat → Bool := zu_U ms nb (fun w => L.any (fun c => ms c w))
def zg_tp (tp : Nat → Nat) (ms : Nat → Nat → Bool) (nb : Nat) (L : List Nat) : Nat → Nat := fun w => if L.any (fun c => ms c w) = true then nb else tp w
def zg_lb (lb : Nat → Int) (nb : Nat) (L : List Nat) : Nat → Int := fun x => if x = nb then 1 else if x ∈ L then 0 else lb x
theorem zi_form (hG : zi_G E ky act) (h : zt_A ms rg) (hT : zt_T tp ms rg) (hL : zt_Lnk E ms nx nf nt rg) (hM : zi_M E mt bs nf nt ms rg) (hD : zi_D E ky act mt nf nt du ms rg lam)
    (hF : zi_F E act mt tp bs uf ut lb ms rg rk) (hFD : zi_FD ky tp uf ut du lb ms rg lam)
    {m nb : Nat} {t : List Nat} {nx' nf' nt' : Nat → Nat} (hnb : 10 ≤ nb) (hnb' : nb < 16) (hdead : rg nb = [])
    (hnd : (m :: t).Nodup) (hte : t.length % 2 = 0) (ht2 : 2 ≤ t.length)
    (fa : ∀ x, x ∈ m :: t → lb x ≠ 0 ∧ rk m ≤ rk x ∧ (x = m ∨ (ut x < 10 ∧ tp (ut x) ∈ m :: t)))
    (fb : ∀ p, p ∈ m :: t → lb p = -1 → ∃ x, x ∈ m :: t ∧ lb x = 1 ∧ ut x < 10 ∧ tp (ut x) = p)
    (fc : lb m = 1) (fd : ∃ p, p ∈ m :: t ∧ lb p = -1)
    (hk : zl_lk (fun x y => zt_R E ms nx' nf' nt' x y ∧ zd_sl ky du (zt_al rg) ms (nf' x) (nt' x) = 0) m t m)
    (hp : zl_pr (zt_P mt bs nf' nt') t)
    (hoff : ∀ x, x ∉ m :: t → nx' x = nx x ∧ nf' x = nf x ∧ nt' x = nt x) :
    zt_A (zg_ms ms nb (m :: t)) (zu_U rg nb (m :: t)) ∧ zt_T (zg_tp tp ms nb (m :: t)) (zg_ms ms nb (m :: t)) (zu_U rg nb (m :: t)) ∧
    zt_Lnk E (zg_ms ms nb (m :: t)) nx' nf' nt' (zu_U rg nb (m :: t)) ∧
    zi_M E mt (zu_U bs nb (bs m)) nf' nt' (zg_ms ms nb (m :: t)) (zu_U rg nb (m :: t)) ∧
    zi_D E ky act mt nf' nt' (zu_U du nb 0) (zg_ms ms nb (m :: t)) (zu_U rg nb (m :: t)) lam ∧
    (∃ rk', zi_F E act mt (zg_tp tp ms nb (m :: t)) (zu_U bs nb (bs m)) (zu_U uf nb (uf m)) (zu_U ut nb (ut m)) (zg_lb lb nb (m :: t)) (zg_ms ms nb (m :: t)) (zu_U rg nb (m :: t)) rk') ∧
    zi_FD ky (zg_tp tp ms nb (m :: t)) (zu_U uf nb (uf m)) (zu_U ut nb (ut m)) (zu_U du nb 0) (zg_lb lb nb (m :: t)) (zg_ms ms nb (m :: t)) (zu_U rg nb (m :: t)) lam ∧
    zf_mu (zg_tp tp ms nb (m :: t)) (zu_U bs nb (bs m)) (zg_lb lb nb (m :: t)) (zu_U rg nb (m :: t)) < zf_mu tp bs lb rg := by
  generalize hLe : m :: t = L at *
  have hmL : m ∈ L := by rw [← hLe]; simp
  have hnal : ¬ zt_al rg nb = true := by rw [zt_al_iff]; exact fun z => z.2.2 hdead
  have hnlv : ¬ zt_lv rg nb := by
    rintro (z | z)
    · omega
    · exact hnal z
  have hLne : L ≠ [] := by rw [← hLe]; simp
  have alnb : zt_al (zu_U rg nb L) nb = true := zt_al_iff.mpr ⟨hnb, hnb', by rw [zu_s]; exact hLne⟩
  have alo : ∀ b, b ≠ nb → zt_al (zu_U rg nb L) b = zt_al rg b := fun b hb => by unfold zt_al; rw [zu_n hb]
  have lvo : ∀ b, b ≠ nb → (zt_lv (zu_U rg nb L) b ↔ zt_lv rg b) := fun b hb => by unfold zt_lv; rw [alo b hb]
  have lvn : ∀ b, zt_lv rg b → zt_lv (zu_U rg nb L) b := fun b hb => (lvo b (fun z => hnlv (z ▸ hb))).mpr hb
  have mso : ∀ x, x ≠ nb → ∀ w, zg_ms ms nb L x w = ms x w := fun x hx w => by unfold zg_ms; rw [zu_n hx]
  have msn : ∀ w, zg_ms ms nb L nb w = true ↔ ∃ c, c ∈ L ∧ ms c w = true := fun w => by
    unfold zg_ms; rw [zu_s]; exact List.any_eq_true
  -- members of L are tops
  have topL : ∀ x, x ∈ L → zt_lv rg x ∧ ∀ v, ms x v = true → tp v = x := fun x hx => hF.2.1 x (fa x hx).1
  have Lnb : ∀ x, x ∈ L → x ≠ nb := fun x hx z => hnlv (z ▸ (topL x hx).1)
  have inL : ∀ w, w < 10 → ((∃ c, c ∈ L ∧ ms c w = true) ↔ tp w ∈ L) := fun w hw => by
    constructor
    · rintro ⟨c, hc, hcw⟩
      rw [(topL c hc).2 w hcw]; exact hc
    · intro hc
      exact ⟨tp w, hc, zt_tms hT hw⟩
  have tpi : ∀ w, w < 10 → tp w ∈ L → zg_tp tp ms nb L w = nb := fun w hw hc => by
    unfold zg_tp; rw [if_pos (List.any_eq_true.mpr ((inL w hw).mpr hc))]
  have tpo : ∀ w, w < 10 → tp w ∉ L → zg_tp tp ms nb L w = tp w := fun w hw hc => by
    unfold zg_tp; rw [if_neg (fun z => hc ((inL w hw).mp (List.any_eq_true.mp z)))]
  have lbn : zg_lb lb nb L nb = 1 := if_pos rfl
  have lbi : ∀ x, x ∈ L → zg_lb lb nb L x = 0 := fun x hx => by unfold zg_lb; rw [if_neg (Lnb x hx), if_pos hx]
  have lbo : ∀ x, x ≠ nb → x ∉ L → zg_lb lb nb L x = lb x := fun x hx hx' => by unfold zg_lb; rw [if_neg hx, if_neg hx']
  have lb0 : lb nb = 0 := by
    by_cases z : lb nb = 0
    · exact z
    · exact absurd (hF.2.1 nb z).1 hnlv
  -- labels after: what a new label tells
  have lbne : ∀ x, zg_lb lb nb L x ≠ 0 → x = nb ∨ (x ≠ nb ∧ x ∉ L ∧ lb x ≠ 0 ∧ zg_lb lb nb L x = lb x) := fun x hx => by
    by_cases a : x = nb
    · exact Or.inl a
    · by_cases b : x ∈ L
      · exact absurd (lbi x b) hx
      · rw [lbo x a b] at hx; exact Or.inr ⟨a, b, hx, lbo x a b⟩
  have lbtp : ∀ w, w < 10 → lb (tp w) = 1 → zg_lb lb nb L (zg_tp tp ms nb L w) = 1 := fun w hw hl => by
    by_cases c : tp w ∈ L
    · rw [tpi w hw c]; exact lbn
    · rw [tpo w hw c, lbo _ (fun z => hnlv (z ▸ zt_tlv hT hw)) c]; exact hl
  have kidL : ∀ b, zt_al rg b = true → ∀ c, c ∈ rg b → c ∉ L := fun b hb c hc hcL => by
    obtain ⟨v, hv⟩ := zt_ne h (topL c hcL).1
    exact zt_kidtop h hT hb hc (zt_lt h hv) ((topL c hcL).2 v hv)
  have kidnb : ∀ b, zt_al rg b = true → ∀ c, c ∈ rg b → c ≠ nb := fun b hb c hc z => hnlv (z ▸ zt_kid h hb hc)
  have zeq : ∀ u v, zd_z (zu_U du nb 0) (zt_al (zu_U rg nb L)) (zg_ms ms nb L) u v = zd_z du (zt_al rg) ms u v := fun u v => by
    apply zs_congr
    intro b _
    by_cases a : b = nb
    · subst a
      have : ¬ (zt_al rg b && ms b u && ms b v) = true := by
        simp only [Bool.and_eq_true]; exact fun z => hnal z.1.1
      rw [zu_s, if_neg this]
      split <;> rfl
    · rw [alo b a, mso b a, mso b a, zu_n a]
  have sleq : ∀ u v, u < 10 → v < 10 → zd_sl ky (zu_U du nb 0) (zt_al (zu_U rg nb L)) (zg_ms ms nb L) u v = zd_sl ky du (zt_al rg) ms u v := fun u v hu hv => by
    unfold zd_sl
    rw [zeq, zu_n (show u ≠ nb by omega), zu_n (show v ≠ nb by omega)]
  have hA' : zt_A (zg_ms ms nb L) (zu_U rg nb L) := by
    refine ⟨?_, ?_, ?_, ?_, ?_, ?_, ?_, ?_⟩
    · intro x v hv
      by_cases a : x = nb
      · subst a
        obtain ⟨c, _, hc⟩ := (msn v).mp hv
        exact zt_lt h hc
      · rw [mso x a] at hv; exact zt_lt h hv
    · intro x hx v
      rw [mso x (by omega)]; exact zt_vx h hx
    · intro b hb
      by_cases a : b = nb
      · subst a
        exact ⟨m, t, by rw [zu_s, hLe], hte, ht2, by rw [hLe]; exact hnd⟩
      · rw [alo b a] at hb; rw [zu_n a]; exact zt_ring h hb
    · intro b hb c hc
      by_cases a : b = nb
      · subst a
        rw [zu_s] at hc
        exact lvn c (topL c hc).1
      · rw [alo b a] at hb; rw [zu_n a] at hc; exact lvn c (zt_kid h hb hc)
    · intro b hb v
      by_cases a : b = nb
      · subst a
        rw [msn, zu_s]
        constructor
        · rintro ⟨c, hc, hv⟩; exact ⟨c, hc, by rw [mso c (Lnb c hc)]; exact hv⟩
        · rintro ⟨c, hc, hv⟩; exact ⟨c, hc, by rw [mso c (Lnb c hc)] at hv; exact hv⟩
      · rw [alo b a] at hb
        rw [mso b a, zu_n a, zt_un h hb]
        constructor
        · rintro ⟨c, hc, hv⟩; exact ⟨c, hc, by rw [mso c (kidnb b hb c hc)]; exact hv⟩
        · rintro ⟨c, hc, hv⟩; exact ⟨c, hc, by rw [mso c (kidnb b hb c hc)] at hv; exact hv⟩
    · intro b hb c c' v hc hc' hv hv'
      by_cases a : b = nb
      · subst a
        rw [zu_s] at hc hc'
        rw [mso c (Lnb c hc)] at hv
        rw [mso c' (Lnb c' hc')] at hv'
        exact ((topL c hc).2 v hv).symm.trans ((topL c' hc').2 v hv')
      · rw [alo b a] at hb
        rw [zu_n a] at hc hc'
        rw [mso c (kidnb b hb c hc)] at hv
        rw [mso c' (kidnb b hb c' hc')] at hv'
        exact zt_dj h hb hc hc' hv hv'
    · intro x hx
      by_cases a : x = nb
      · subst a
        obtain ⟨v, hv⟩ := zt_ne h (topL m hmL).1
        exact ⟨v, (msn v).mpr ⟨m, hmL, hv⟩⟩
      · obtain ⟨v, hv⟩ := zt_ne h ((lvo x a).mp hx)
        exact ⟨v, by rw [mso x a]; exact hv⟩
    · intro b x v hb hx hxb hv hv'
      by_cases a : b = nb
      · subst a
        rw [mso x hxb] at hv'
        rw [lvo x hxb] at hx
        obtain ⟨c, hc, hcv⟩ := (msn v).mp hv
        refine Or.inr ⟨c, by rw [zu_s]; exact hc, fun w hw => ?_⟩
        rw [mso x hxb] at hw
        have e := zt_teq hT hx hv' hw
        rw [(topL c hc).2 v hcv] at e
        rw [mso c (Lnb c hc), e]
        exact zt_tms hT (zt_lt h hw)
      · rw [alo b a] at hb
        rw [mso b a] at hv
        by_cases a' : x = nb
        · subst a'
          obtain ⟨c, hc, hcv⟩ := (msn v).mp hv'
          have sub : ∀ w, ms b w = true → ms c w = true := fun w hw => by
            have e := zt_teq hT (Or.inr hb) hv hw
            rw [(topL c hc).2 v hcv] at e
            rw [e]; exact zt_tms hT (zt_lt h hw)
          refine Or.inl ⟨fun w hw => ?_, ?_⟩
          · rw [mso b a] at hw
            exact (msn w).mpr ⟨c, hc, sub w hw⟩
          · obtain ⟨d, hd, hdc⟩ : ∃ d, d ∈ L ∧ d ≠ c := by
              by_cases q : m = c
              · cases t with
                | nil => simp at ht2
                | cons d t =>
                  refine ⟨d, by rw [← hLe]; simp, ?_⟩
                  intro z
                  subst q z
                  rw [← hLe] at hnd
                  simp at hnd
              · exact ⟨m, hmL, q⟩
            obtain ⟨w, hw⟩ := zt_ne h (topL d hd).1
            refine ⟨w, (msn w).mpr ⟨d, hd, hw⟩, fun z => ?_⟩
            rw [mso b a] at z
            exact hdc (((topL d hd).2 w hw).symm.trans ((topL c hc).2 w (sub w z)))
        · rw [mso x a'] at hv'
          rw [lvo x a'] at hx
          rcases zt_lam h hb hx hxb hv hv' with z | ⟨c, hc, z⟩
          · obtain ⟨z1, w', z2, z3⟩ := z
            exact Or.inl ⟨fun w hw => by rw [mso b a] at hw; rw [mso x a']; exact z1 w hw, w', by rw [mso x a']; exact z2, by rw [mso b a]; exact z3⟩
          · exact Or.inr ⟨c, by rw [zu_n a]; exact hc, fun w hw => by rw [mso x a'] at hw; rw [mso c (kidnb b hb c hc)]; exact z w hw⟩
  have hT' : zt_T (zg_tp tp ms nb L) (zg_ms ms nb L) (zu_U rg nb L) := by
    refine ⟨?_, ?_⟩
    · intro v hv
      by_cases c : tp v ∈ L
      · rw [tpi v hv c]
        exact ⟨Or.inr alnb, (msn v).mpr ⟨_, c, zt_tms hT hv⟩⟩
      · rw [tpo v hv c]
        have a : tp v ≠ nb := fun z => hnlv (z ▸ zt_tlv hT hv)
        exact ⟨lvn _ (zt_tlv hT hv), by rw [mso _ a]; exact zt_tms hT hv⟩
    · intro x v w hx hv hw
      have hv10 := zt_lt hA' hv
      have hw10 := zt_lt hA' hw
      by_cases a : x = nb
      · subst a
        rw [tpi v hv10 ((inL v hv10).mp ((msn v).mp hv)), tpi w hw10 ((inL w hw10).mp ((msn w).mp hw))]
      · rw [mso x a] at hv hw
        have e := zt_teq hT ((lvo x a).mp hx) hv hw
        by_cases c : tp v ∈ L
        · rw [tpi v hv10 c, tpi w hw10 (e ▸ c)]
        · rw [tpo v hv10 c, tpo w hw10 (e ▸ c), e]
  have hL' : zt_Lnk E (zg_ms ms nb L) nx' nf' nt' (zu_U rg nb L) := by
    intro b hb c s hcs
    by_cases a : b = nb
    · subst a
      rw [zu_s, ← hLe] at hcs
      obtain ⟨rfl, rfl⟩ := List.cons.inj hcs
      refine zl_mono (fun x y hx hy r => ?_) hk
      rw [hLe] at hx
      have hy' : y ∈ L := by
        rcases hy with hy | hy
        · rw [← hLe]; simp [hy]
        · rw [hy]; exact hmL
      obtain ⟨⟨r1, r2, r3, r4⟩, _⟩ := r
      exact ⟨r1, by rw [mso x (Lnb x hx)]; exact r2, by rw [mso y (Lnb y hy')]; exact r3, r4⟩
    · rw [alo b a] at hb
      rw [zu_n a] at hcs
      refine zl_mono (fun x y hx hy r => ?_) (hL b hb c s hcs)
      rw [← hcs] at hx
      have hy' : y ∈ rg b := by
        rw [hcs]
        rcases hy with hy | hy
        · simp [hy]
        · rw [hy]; simp
      obtain ⟨o1, o2, o3⟩ := hoff x (kidL b hb x hx)
      obtain ⟨r1, r2, r3, r4⟩ := r
      unfold zt_R
      rw [o1, o2, o3, mso x (kidnb b hb x hx), mso y (kidnb b hb y hy')]
      exact ⟨r1, r2, r3, r4⟩
  have hM' : zi_M E mt (zu_U bs nb (bs m)) nf' nt' (zg_ms ms nb L) (zu_U rg nb L) := by
    refine ⟨hM.1, fun y hy => ?_⟩
    by_cases a : y = nb
    · subst a
      rw [zu_s]
      refine ⟨(msn _).mpr ⟨m, hmL, (hM.2 m (topL m hmL).1).1⟩, fun _ c s hcs => ?_⟩
      rw [zu_s, ← hLe] at hcs
      obtain ⟨rfl, rfl⟩ := List.cons.inj hcs
      rw [zu_s, zu_n (Lnb _ hmL)]
      refine ⟨rfl, zl_pr_mono t (fun x z hx hz q => ?_) hp⟩
      have hx' := Lnb x (by rw [← hLe]; simp [hx])
      have hz' := Lnb z (by rw [← hLe]; simp [hz])
      unfold zt_P
      rw [zu_n hx', zu_n hz']
      exact q
    · have hy' := (lvo y a).mp hy
      rw [zu_n a, mso y a]
      refine ⟨(hM.2 y hy').1, fun hb c s hcs => ?_⟩
      rw [alo y a] at hb
      rw [zu_n a] at hcs
      obtain ⟨q1, q2⟩ := (hM.2 y hy').2 hb c s hcs
      have hc : c ∈ rg y := by rw [hcs]; simp
      rw [zu_n a, zu_n (kidnb y hb c hc)]
      refine ⟨q1, zl_pr_mono s (fun x z hx hz q => ?_) q2⟩
      have hx1 : x ∈ rg y := by rw [hcs]; simp [hx]
      have hz1 : z ∈ rg y := by rw [hcs]; simp [hz]
      obtain ⟨o1, o2, o3⟩ := hoff x (kidL y hb x hx1)
      unfold zt_P
      rw [zu_n (kidnb y hb x hx1), zu_n (kidnb y hb z hz1), o2, o3]
      exact q
  have hD' : zi_D E ky act mt nf' nt' (zu_U du nb 0) (zg_ms ms nb L) (zu_U rg nb L) lam := by
    refine ⟨?_, ?_, ?_, ?_, ?_, ?_, ?_⟩
    · intro u v e
      obtain ⟨hu, hv, _⟩ := hG.1 u v e
      rw [sleq u v hu hv]; exact hD.1 u v e
    · intro v hv hn
      rw [sleq v _ hv (hM.1 v hv).1]; exact hD.2.1 v hv hn
    · intro b hb
      by_cases a : b = nb
      · subst a; rw [zu_s]; omega
      · rw [alo b a] at hb; rw [zu_n a]; exact hD.2.2.1 b hb
    · intro v hv ha
      rw [zu_n (show v ≠ nb by omega)]; exact hD.2.2.2.1 v hv ha
    · intro v hv ha hf
      rw [zu_n (show v ≠ nb by omega)]; exact hD.2.2.2.2.1 v hv ha hf
    · intro b hb x hx
      obtain ⟨_, _, _, l4⟩ := zt_links hA' hL' hb hx
      obtain ⟨hu, hv, _⟩ := hG.1 _ _ l4
      rw [sleq _ _ hu hv]
      by_cases a : b = nb
      · subst a
        rw [zu_s, ← hLe] at hx
        obtain ⟨y, _, r⟩ := zl_mem hk x hx
        exact r.2
      · rw [alo b a] at hb
        rw [zu_n a] at hx
        obtain ⟨o1, o2, o3⟩ := hoff x (kidL b hb x hx)
        rw [o2, o3]
        exact hD.2.2.2.2.2.1 b hb x hx
    · intro b hb u v hu hv
      have hu10 := zt_lt hA' hu
      have hv10 := zt_lt hA' hv
      rw [zu_n (show u ≠ nb by omega), zu_n (show v ≠ nb by omega)]
      by_cases a : b = nb
      · subst a
        have pu := hFD.2 u hu10 (fa _ ((inL u hu10).mp ((msn u).mp hu))).1
        have pv := hFD.2 v hv10 (fa _ ((inL v hv10).mp ((msn v).mp hv))).1
        omega
      · rw [alo b a] at hb
        rw [mso b a] at hu hv
        exact hD.2.2.2.2.2.2 b hb u v hu hv
  have tpbs : ∀ x, zt_lv rg x → bs x < 10 := fun x hx => zt_lt h (hM.2 x hx).1
  -- an outer node outside L has its parent outside; an inner one outside L is parent of m or of one outside
  have outp : ∀ x, x ∉ L → lb x = 1 → ut x < 10 → tp (ut x) ∉ L := fun x hx hl hu hc => by
    obtain ⟨_, q | q⟩ := hF.2.2.1 x hl
    · rw [q.1] at hu; exact absurd hu (by decide)
    · obtain ⟨q1, q2, q3, q4, q5, q6⟩ := q
      obtain ⟨y, hy, y1, y2, y3⟩ := fb _ hc q4
      obtain ⟨_, r | r⟩ := hF.2.2.1 y y1
      · rw [r.1] at y2; exact absurd y2 (by decide)
      · obtain ⟨r1, r2, r3, r4, r5, r6⟩ := r
        rw [y3, q5] at r5
        have hxl := hF.2.1 x (by omega)
        have hyl := hF.2.1 y (by omega)
        have e1 : bs x = bs y := by
          have a1 := (hM.1 (bs x) (tpbs x hxl.1)).2.1
          have a2 := (hM.1 (bs y) (tpbs y hyl.1)).2.1
          rw [q2, r5, ← r2, a2] at a1
          exact a1.symm
        have e2 : x = y := by
          rw [← hxl.2 _ (hM.2 x hxl.1).1, ← hyl.2 _ (hM.2 y hyl.1).1, e1]
        exact hx (e2 ▸ hy)
  refine ⟨hA', hT', hL', hM', hD', ⟨zu_U rk nb (rk m), ?_, ?_, ?_, ?_, ?_⟩, ⟨?_, ?_⟩, ?_⟩
  · intro x
    by_cases a : zg_lb lb nb L x = 0
    · exact Or.inl a
    · rcases lbne x a with z | z
      · subst z; exact Or.inr (Or.inl lbn)
      · rw [z.2.2.2]; exact hF.1 x
  · intro x hx
    rcases lbne x hx with z | z
    · subst z
      exact ⟨Or.inr alnb, fun v hv => by
        have hv10 := zt_lt hA' hv
        exact tpi v hv10 ((inL v hv10).mp ((msn v).mp hv))⟩
    · obtain ⟨f1, f2⟩ := hF.2.1 x z.2.2.1
      refine ⟨lvn x f1, fun v hv => ?_⟩
      rw [mso x z.1] at hv
      have e := f2 v hv
      rw [tpo v (zt_lt h hv) (by rw [e]; exact z.2.1), e]
  · intro x hx
    rcases lbne x (by omega) with z | z
    · subst z
      rw [zu_s, zu_s, zu_s]
      obtain ⟨q1, q2 | q2⟩ := hF.2.2.1 m fc
      · exact ⟨q1, Or.inl q2⟩
      · obtain ⟨r1, r2, r3, r4, r5, r6⟩ := q2
        have hpL : tp (ut m) ∉ L := fun z => by
          have := (fa _ z).2.1; omega
        have hpn : tp (ut m) ≠ x := fun z => hnlv (z ▸ zt_tlv hT r1)
        refine ⟨q1, Or.inr ⟨r1, r2, r3, ?_, ?_, ?_⟩⟩
        · rw [tpo _ r1 hpL, lbo _ hpn hpL]; exact r4
        · rw [tpo _ r1 hpL, zu_n hpn]; exact r5
        · rw [tpo _ r1 hpL, zu_n hpn, zu_s]; exact r6
    · obtain ⟨z1, z2, z3, z4⟩ := z
      rw [z4] at hx
      rw [zu_n z1, zu_n z1, zu_n z1, zu_n z1]
      obtain ⟨q1, q2 | q2⟩ := hF.2.2.1 x hx
      · exact ⟨q1, Or.inl q2⟩
      · obtain ⟨r1, r2, r3, r4, r5, r6⟩ := q2
        have hpL := outp x z2 hx r1
        have hpn : tp (ut x) ≠ nb := fun z => hnlv (z ▸ zt_tlv hT r1)
        refine ⟨q1, Or.inr ⟨r1, r2, r3, ?_, ?_, ?_⟩⟩
        · rw [tpo _ r1 hpL, lbo _ hpn hpL]; exact r4
        · rw [tpo _ r1 hpL, zu_n hpn]; exact r5
        · rw [tpo _ r1 hpL, zu_n hpn]; exact r6
  · intro x hx
    rcases lbne x (by omega) with z | z
    · subst z; rw [lbn] at hx; omega
    · obtain ⟨z1, z2, z3, z4⟩ := z
      rw [z4] at hx
      rw [zu_n z1, zu_n z1, zu_n z1, zu_n z1, mso x z1]
      obtain ⟨q1, q2, q3, q4, q5, q6, q7, q8⟩ := hF.2.2.2.1 x hx
      have hxl := hF.2.1 x z3
      have hm10 := (hM.1 (bs x) (tpbs x hxl.1)).1
      refine ⟨q1, q2, q3, lbtp _ q1 q4, ?_, q6, lbtp _ hm10 q7, ?_⟩
      · by_cases c : tp (ut x) ∈ L
        · rw [tpi _ q1 c, zu_s]
          have := (fa _ c).2.1; omega
        · rw [tpo _ q1 c, zu_n (show tp (ut x) ≠ nb from fun z => hnlv (z ▸ zt_tlv hT q1))]; exact q5
      · by_cases c : tp (mt (bs x)) ∈ L
        · have em : tp (mt (bs x)) = m := by
            rcases (fa _ c).2.2 with e | ⟨_, e⟩
            · exact e
            · rw [q8, hxl.2 _ (hM.2 x hxl.1).1] at e
              exact absurd e z2
          rw [tpi _ hm10 c, zu_s, ← em]; exact q8
        · rw [tpo _ hm10 c, zu_n (show tp (mt (bs x)) ≠ nb from fun z => hnlv (z ▸ zt_tlv hT hm10))]; exact q8
  · intro v hv ha hf
    exact lbtp v hv (hF.2.2.2.2 v hv ha hf)
  · intro x hx
    rcases lbne x (by omega) with z | z
    · subst z; rw [lbn] at hx; omega
    · obtain ⟨z1, z2, z3, z4⟩ := z
      rw [z4] at hx
      obtain ⟨q1, q2, q3, _⟩ := hF.2.2.2.1 x hx
      rw [zu_n z1, zu_n z1, sleq _ _ (zt_lt h q2) q1]
      exact hFD.1 x hx
  · intro v hv hl
    rw [zu_n (show v ≠ nb by omega)]
    apply hFD.2 v hv
    by_cases c : tp v ∈ L
    · exact (fa _ c).1
    · rw [tpo v hv c, lbo _ (fun z => hnlv (z ▸ zt_tlv hT hv)) c] at hl; exact hl
  · obtain ⟨p, hp1, hp2⟩ := fd
    obtain ⟨k, hk'⟩ := zt_ne h (topL p hp1).1
    have hk10 := zt_lt h hk'
    have ek := (topL p hp1).2 k hk'
    apply zf_mu_v (k := k)
    · intro v hv hl; exact lbtp v hv hl
    · intro b hb16 hb hl
      by_cases a : b = nb
      · subst a
        exfalso; apply hl
        have e := zt_lt h (hM.2 m (topL m hmL).1).1
        rw [zu_s, tpi _ e (by rw [(topL m hmL).2 _ (hM.2 m (topL m hmL).1).1]; exact hmL)]
        exact lbn
      · rw [alo b a] at hb
        rw [zu_n a] at hl
        exact ⟨hb, fun z => hl (lbtp _ (tpbs b (Or.inr hb)) z)⟩
    · exact hk10
    · rw [ek, hp2]; omega
    · rw [tpi k hk10 (by rw [ek]; exact hp1)]; exact lbn
end
end
section
/-! lists whose neighbours are related -/
def zl_ch (R : Nat → Nat → Prop) : List Nat → Prop
  | [] => True
  | [_] => True
  | x :: y :: l => R x y ∧ zl_ch R (y :: l)
theorem zl_ch_lk {R : Nat → Nat → Prop} {y : Nat} : ∀ {l : List Nat} {x : Nat}, zl_ch R (x :: (l ++ [y])) ↔ zl_lk R x l y := by
  intro l
  induction l with
  | nil => intro x; exact ⟨fun h => h.1, fun h => ⟨h, trivial⟩⟩
  | cons a l ih =>
    intro x
    show (R x a ∧ zl_ch R (a :: (l ++ [y]))) ↔ (R x a ∧ zl_lk R a l y)
    rw [ih]
theorem zl_ch_app {R : Nat → Nat → Prop} {l2 : List Nat} (h2 : zl_ch R l2) : ∀ {l1 : List Nat}, zl_ch R l1 → (∀ x y, l1.getLast? = some x → l2.head? = some y → R x y) → zl_ch R (l1 ++ l2) := by
  intro l1
  induction l1 with
  | nil => intro _ _; exact h2
  | cons a l ih =>
    intro h hj
    cases l with
    | nil =>
      cases l2 with
      | nil => exact trivial
      | cons b l2 => exact ⟨hj a b (by simp) (by simp), h2⟩
    | cons b l =>
      exact ⟨h.1, ih h.2 (fun x y hx hy => hj x y (by rw [List.getLast?_cons_cons]; exact hx) hy)⟩
theorem zl_ch_pre {R : Nat → Nat → Prop} {l2 : List Nat} : ∀ {l1 : List Nat}, zl_ch R (l1 ++ l2) → zl_ch R l1 := by
  intro l1
  induction l1 with
  | nil => intro _; exact trivial
  | cons a l ih =>
    intro h
    cases l with
    | nil => exact trivial
    | cons b l => exact ⟨h.1, ih h.2⟩
theorem zl_ch_mono {R R' : Nat → Nat → Prop} (hR : ∀ x y, R x y → R' x y) : ∀ {l : List Nat}, zl_ch R l → zl_ch R' l := by
  intro l
  induction l with
  | nil => intro _; exact trivial
  | cons a l ih =>
    intro h
    cases l with
    | nil => exact trivial
    | cons b l => exact ⟨hR _ _ h.1, ih h.2⟩
theorem zl_ch_rev {R : Nat → Nat → Prop} : ∀ {l : List Nat}, zl_ch R l → zl_ch (fun x y => R y x) l.reverse := by
  intro l
  induction l with
  | nil => intro _; exact trivial
  | cons a l ih =>
    intro h
    cases l with
    | nil => exact trivial
    | cons b l =>
      rw [List.reverse_cons]
      refine zl_ch_app (R := fun x y => R y x) (l2 := [a]) trivial (ih h.2) (fun x y hx hy => ?_)
      rw [List.getLast?_reverse] at hx
      simp at hx hy
      subst hx hy
      exact h.1
theorem zl_ch_in {R : Nat → Nat → Prop} {m : Nat} : ∀ {l : List Nat}, zl_ch R (l ++ [m]) → zl_ch (fun x y => x ∈ l ∧ R x y) (l ++ [m]) := by
  intro l
  induction l with
  | nil => intro _; exact trivial
  | cons a l ih =>
    intro h
    cases l with
    | nil => exact ⟨⟨by simp, h.1⟩, trivial⟩
    | cons b l => exact ⟨⟨by simp, h.1⟩, zl_ch_mono (fun x y q => ⟨by simp at q ⊢; exact Or.inr q.1, q.2⟩) (ih h.2)⟩
theorem zl_pr_rev {P : Nat → Nat → Prop} : ∀ l, zl_pr P l → zl_pr (fun x y => P y x) l.reverse :=
  zl_ind2 (fun _ => trivial) (fun _ h => h.elim) (fun x y l ih h => by
    have e : (x :: y :: l).reverse = l.reverse ++ [y, x] := by simp
    rw [e]
    have hl := zl_pr_even l h.2
    exact (zl_pr_app _ (by rw [List.length_reverse]; exact hl)).mpr ⟨ih h.2, h.1, trivial⟩)
section
variable {E : Nat → Nat → Prop} {ky : Nat → Nat → Int} {act : Nat → Bool} {mt tp bs uf ut nx nf nt : Nat → Nat} {du lb : Nat → Int} {ms : Nat → Nat → Bool} {rg : Nat → List Nat} {rk : Nat → Nat} {lam : Int}
theorem zf_ch : ∀ {l : List Nat} {x : Nat}, zf_UP tp ut x l → zl_ch (fun x y => ut x < 10 ∧ tp (ut x) = y) (x :: l) := by
  intro l
  induction l with
  | nil => intro x _; exact trivial
  | cons y l ih => intro x h; exact ⟨⟨h.1, h.2.1⟩, ih h.2.2⟩
theorem zf_at {a x : Nat} {la A C : List Nat} (e : a :: la = A ++ x :: C) (h : zf_UP tp ut a la) : zf_UP tp ut x C := by
  cases A with
  | nil => obtain ⟨rfl, rfl⟩ := List.cons.inj e; exact h
  | cons b A =>
    obtain ⟨rfl, rfl⟩ := List.cons.inj e
    exact zf_tail h
/-- the edge up from a labelled node that isn't a root -/
theorem zf_edge (h : zt_A ms rg) (hT : zt_T tp ms rg) (hM : zi_M E mt bs nf nt ms rg) (hD : zi_D E ky act mt nf nt du ms rg lam)
    (hF : zi_F E act mt tp bs uf ut lb ms rg rk) (hFD : zi_FD ky tp uf ut du lb ms rg lam) {x : Nat} (hl : lb x ≠ 0) (hu : ut x < 10) :
    ms x (uf x) = true ∧ ms (tp (ut x)) (ut x) = true ∧ E (uf x) (ut x) ∧ zd_sl ky du (zt_al rg) ms (uf x) (ut x) = 0 := by
  have hxl := hF.2.1 x hl
  rcases hF.1 x with a | a | a
  · exact absurd a hl
  · obtain ⟨c, b | b⟩ := hF.2.2.1 x a
    · rw [b.1] at hu; exact absurd hu (by decide)
    · obtain ⟨_, b2, b3, _⟩ := b
      have hb := (hM.2 x hxl.1).1
      have hb10 := zt_lt h hb
      rw [c]
      refine ⟨hb, zt_tms hT hu, ?_, ?_⟩
      · have := (hM.1 _ hb10).2.2 (by rw [b2]; exact b3)
        rw [b2] at this; exact this
      · have := hD.2.1 _ hb10 (by rw [b2]; exact b3)
        rw [b2] at this; exact this
  · obtain ⟨b1, b2, b3, _⟩ := hF.2.2.2.1 x a
    exact ⟨b2, zt_tms hT hu, b3, hFD.1 x a⟩
/-- an outer node that isn't a root, and its parent -/
theorem zf_pair (h : zt_A ms rg) (hM : zi_M E mt bs nf nt ms rg) (hF : zi_F E act mt tp bs uf ut lb ms rg rk) {x : Nat} (hl : lb x = 1) (hu : ut x < 10) :
    uf x = bs x ∧ mt (bs x) = ut x ∧ bs (tp (ut x)) = ut x ∧ mt (ut x) = bs x ∧ x = tp (mt (bs (tp (ut x)))) := by
  have hxl := hF.2.1 x (by omega)
  have hb := (hM.2 x hxl.1).1
  obtain ⟨c, b | b⟩ := hF.2.2.1 x hl
  · rw [b.1] at hu; exact absurd hu (by decide)
  · obtain ⟨_, b2, b3, b4, b5, _⟩ := b
    have e := (hM.1 _ (zt_lt h hb)).2.1
    rw [b2] at e
    refine ⟨c, b2, b5, e, ?_⟩
    rw [b5, e]
    exact (hxl.2 _ hb).symm
theorem zf_pairs (hF : zi_F E act mt tp bs uf ut lb ms rg rk) : ∀ A : List Nat, ∀ x rest m C, x :: rest = A ++ m :: C → zf_UP tp ut x rest → lb x = 1 → lb m = 1 →
    zl_pr (fun x y => lb x = 1 ∧ ut x < 10 ∧ tp (ut x) = y ∧ lb y = -1) A :=
  zl_ind2 (fun _ _ _ _ _ _ _ _ => trivial)
    (fun a x rest m C e hU hx hm => by
      obtain ⟨rfl, rfl⟩ := List.cons.inj e
      obtain ⟨h1, h2, _⟩ := hU
      have := (zf_step hF (by omega) h1).1
      rw [h2] at this
      omega)
    (fun a b A ih x rest m C e hU hx hm => by
      obtain ⟨rfl, rfl⟩ := List.cons.inj e
      obtain ⟨h1, h2, h3⟩ := hU
      have s1 := (zf_step hF (by omega) h1).1
      rw [h2] at s1
      refine ⟨⟨hx, h1, h2, by omega⟩, ?_⟩
      cases hA : A ++ m :: C with
      | nil => simp at hA
      | cons y r =>
        have h3' : zf_UP tp ut b (A ++ m :: C) := h3
        rw [hA] at h3'
        obtain ⟨g1, g2, g3⟩ := h3'
        have s2 := (zf_step hF (by omega) g1).1
        rw [g2] at s2
        exact ih y r m C hA.symm g3 (by omega) hm)
theorem zi_path (hG : zi_G E ky act) (h : zt_A ms rg) (hT : zt_T tp ms rg) (hM : zi_M E mt bs nf nt ms rg) (hD : zi_D E ky act mt nf nt du ms rg lam)
    (hF : zi_F E act mt tp bs uf ut lb ms rg rk) (hFD : zi_FD ky tp uf ut du lb ms rg lam)
    {u v m : Nat} {la lv A B C C' : List Nat} {nx' nf' nt' : Nat → Nat} (he : E u v) (hu : lb (tp u) = 1) (hv : lb (tp v) = 1) (huv : tp u ≠ tp v) (hs : zd_sl ky du (zt_al rg) ms u v = 0)
    (Ua : zf_UP tp ut (tp u) la) (Ub : zf_UP tp ut (tp v) lv) (ea : tp u :: la = A ++ m :: C) (eb : tp v :: lv = B ++ m :: C') (hB : ∀ y, y ∈ B → y ∉ tp u :: la)
    (k1 : ∀ x, x ∈ A → nx' x = tp (ut x) ∧ nf' x = uf x ∧ nt' x = ut x)
    (k2 : ∀ x, x ∈ B → nx' (tp (ut x)) = x ∧ nf' (tp (ut x)) = ut x ∧ nt' (tp (ut x)) = uf x)
    (k3 : nx' (tp v) = tp u ∧ nf' (tp v) = v ∧ nt' (tp v) = u) :
    (m :: (B.reverse ++ A)).Nodup ∧ (B.reverse ++ A).length % 2 = 0 ∧ 2 ≤ (B.reverse ++ A).length ∧
    (∀ x, x ∈ m :: (B.reverse ++ A) → lb x ≠ 0 ∧ rk m ≤ rk x ∧ (x = m ∨ (ut x < 10 ∧ tp (ut x) ∈ m :: (B.reverse ++ A)))) ∧
    (∀ p, p ∈ m :: (B.reverse ++ A) → lb p = -1 → ∃ x, x ∈ m :: (B.reverse ++ A) ∧ lb x = 1 ∧ ut x < 10 ∧ tp (ut x) = p) ∧
    lb m = 1 ∧ (∃ p, p ∈ m :: (B.reverse ++ A) ∧ lb p = -1) ∧
    zl_lk (fun x y => zt_R E ms nx' nf' nt' x y ∧ zd_sl ky du (zt_al rg) ms (nf' x) (nt' x) = 0) m (B.reverse ++ A) m ∧
    zl_pr (zt_P mt bs nf' nt') (B.reverse ++ A) := by
  have nda := zf_nodup hF (by omega) Ua
  have ndb := zf_nodup hF (by omega) Ub
  have alla : ∀ x, x ∈ tp u :: la → lb x ≠ 0 := fun x hx => by
    rcases List.mem_cons.mp hx with e | hx
    · rw [e]; omega
    · exact (zf_all hF (by omega) Ua x hx).1
  have allb : ∀ x, x ∈ tp v :: lv → lb x ≠ 0 := fun x hx => by
    rcases List.mem_cons.mp hx with e | hx
    · rw [e]; omega
    · exact (zf_all hF (by omega) Ub x hx).1
  have lbm0 : lb m ≠ 0 := alla m (by rw [ea]; simp)
  -- a place before m on a way
  have bef : ∀ (a : Nat) (l A C : List Nat), (∀ x, x ∈ a :: l → lb x ≠ 0) → zf_UP tp ut a l → a :: l = A ++ m :: C → ∀ x, x ∈ A → lb x ≠ 0 ∧ rk m < rk x ∧ ut x < 10 ∧ (tp (ut x) = m ∨ tp (ut x) ∈ A) := by
    intro a l A C hall hU e x hx
    obtain ⟨A1, A2, rfl⟩ := List.append_of_mem hx
    have e' : a :: l = A1 ++ x :: (A2 ++ m :: C) := by rw [e]; simp
    have hU' := zf_at e' hU
    have hx0 := hall x (by rw [e']; simp)
    refine ⟨hx0, (zf_all hF hx0 hU' m (by simp)).2, ?_⟩
    cases A2 with
    | nil => exact ⟨hU'.1, Or.inl hU'.2.1⟩
    | cons b A2 => exact ⟨hU'.1, Or.inr (by rw [hU'.2.1]; simp)⟩
  have befA := bef (tp u) la A C alla Ua ea
  have befB := bef (tp v) lv B C' allb Ub eb
  -- the last one before m
  have last : ∀ (a : Nat) (l A C : List Nat), (∀ x, x ∈ a :: l → lb x ≠ 0) → lb a = 1 → zf_UP tp ut a l → a :: l = A ++ m :: C → lb m = -1 → ∃ x, x ∈ A ∧ x = tp (mt (bs m)) := by
    intro a l A C hall h1 hU e hm
    rcases List.eq_nil_or_concat A with hA | ⟨A', x, hA⟩
    · subst hA
      obtain ⟨rfl, rfl⟩ := List.cons.inj e
      omega
    · rw [List.concat_eq_append] at hA
      subst hA
      have e' : a :: l = A' ++ x :: (m :: C) := by rw [e]; simp
      have hU' := zf_at e' hU
      have hx0 := hall x (by rw [e']; simp)
      have s := (zf_step hF hx0 hU'.1).1
      rw [hU'.2.1, hm] at s
      have := (zf_pair h hM hF (x := x) (by omega) hU'.1).2.2.2.2
      rw [hU'.2.1] at this
      exact ⟨x, by simp, this⟩
  have fc : lb m = 1 := by
    rcases hF.1 m with a | a | a
    · exact absurd a lbm0
    · exact a
    · exfalso
      obtain ⟨x, hx, ex⟩ := last (tp u) la A C alla hu Ua ea a
      obtain ⟨y, hy, ey⟩ := last (tp v) lv B C' allb hv Ub eb a
      apply hB y hy
      rw [ey, ← ex, ea]
      simp [hx]
  have prA := zf_pairs hF A _ _ _ _ ea Ua hu fc
  have prB := zf_pairs hF B _ _ _ _ eb Ub hv fc
  have ndA : A.Nodup ∧ m ∉ A := by
    rw [ea] at nda
    have := List.nodup_append.mp nda
    exact ⟨this.1, fun z => this.2.2 m z m (by simp) rfl⟩
  have ndB : B.Nodup ∧ m ∉ B := by
    rw [eb] at ndb
    have := List.nodup_append.mp ndb
    exact ⟨this.1, fun z => this.2.2 m z m (by simp) rfl⟩
  have dAB : ∀ x, x ∈ B → x ∉ A := fun x hx hxA => hB x hx (by rw [ea]; simp [hxA])
  have evA := zl_pr_even A prA
  have evB := zl_pr_even B prB
  have hne : A ≠ [] ∨ B ≠ [] := by
    by_cases a : A = []
    · right
      intro b
      subst a b
      obtain ⟨e1, _⟩ := List.cons.inj ea
      obtain ⟨e2, _⟩ := List.cons.inj eb
      exact huv (e1.trans e2.symm)
    · exact Or.inl a
  have fdg : ∀ A : List Nat, A ≠ [] → zl_pr (fun x y => lb x = 1 ∧ ut x < 10 ∧ tp (ut x) = y ∧ lb y = -1) A → ∃ p, p ∈ A ∧ lb p = -1 := by
    intro A hA hp
    cases A with
    | nil => exact absurd rfl hA
    | cons a A => cases A with
      | nil => exact hp.elim
      | cons b A => exact ⟨b, by simp, hp.1.2.2.2⟩
  have fd : ∃ p, p ∈ m :: (B.reverse ++ A) ∧ lb p = -1 := by
    rcases hne with a | a
    · obtain ⟨p, hp, l⟩ := fdg A a prA
      exact ⟨p, by simp [hp], l⟩
    · obtain ⟨p, hp, l⟩ := fdg B a prB
      exact ⟨p, by simp [hp], l⟩
  have len : (B.reverse ++ A).length = B.length + A.length := by simp
  have hlen2 : 2 ≤ B.length + A.length := by
    rcases hne with a | a
    · cases A with
      | nil => exact absurd rfl a
      | cons x A => cases A with
        | nil => simp at evA
        | cons y A => simp only [List.length_cons]; omega
    · cases B with
      | nil => exact absurd rfl a
      | cons x B => cases B with
        | nil => simp at evB
        | cons y B => simp only [List.length_cons]; omega
  have fa : ∀ x, x ∈ m :: (B.reverse ++ A) → lb x ≠ 0 ∧ rk m ≤ rk x ∧ (x = m ∨ (ut x < 10 ∧ tp (ut x) ∈ m :: (B.reverse ++ A))) := by
    intro x hx
    simp at hx
    rcases hx with e | hx | hx
    · subst e; exact ⟨lbm0, Nat.le_refl _, Or.inl rfl⟩
    · obtain ⟨q1, q2, q3, q4⟩ := befB x hx
      refine ⟨q1, by omega, Or.inr ⟨q3, ?_⟩⟩
      rcases q4 with q4 | q4 <;> simp [q4]
    · obtain ⟨q1, q2, q3, q4⟩ := befA x hx
      refine ⟨q1, by omega, Or.inr ⟨q3, ?_⟩⟩
      rcases q4 with q4 | q4 <;> simp [q4]
  have fb : ∀ p, p ∈ m :: (B.reverse ++ A) → lb p = -1 → ∃ x, x ∈ m :: (B.reverse ++ A) ∧ lb x = 1 ∧ ut x < 10 ∧ tp (ut x) = p := by
    intro p hp hl
    simp at hp
    rcases hp with e | hp | hp
    · subst e; omega
    · obtain ⟨w, hw, _, q | q⟩ := zl_pr_mem B prB ndB.1 p hp
      · omega
      · exact ⟨w, by simp [hw], q.1, q.2.1, q.2.2.1⟩
    · obtain ⟨w, hw, _, q | q⟩ := zl_pr_mem A prA ndA.1 p hp
      · omega
      · exact ⟨w, by simp [hw], q.1, q.2.1, q.2.2.1⟩
  obtain ⟨hu10, hv10, _⟩ := hG.1 u v he
  have hnd : (m :: (B.reverse ++ A)).Nodup := by
    refine List.nodup_cons.mpr ⟨?_, List.nodup_append.mpr ⟨(by unfold List.Nodup; rw [List.pairwise_reverse]; exact ndB.1.imp (fun q => q.symm)), ndA.1, ?_⟩⟩
    · simp; exact ⟨ndB.2, ndA.2⟩
    · intro x hx y hy e
      subst e
      exact dAB x (by simpa using hx) hy
  refine ⟨hnd, by rw [len]; omega, by rw [len]; omega, fa, fb, fc, fd, ?_, ?_⟩
  · rw [← zl_ch_lk]
    have e : m :: (B.reverse ++ A ++ [m]) = (B ++ [m]).reverse ++ (A ++ [m]) := by simp
    rw [e]
    have chA : zl_ch (fun x y => ut x < 10 ∧ tp (ut x) = y) (A ++ [m]) := by
      have := zf_ch Ua
      rw [ea, show A ++ m :: C = (A ++ [m]) ++ C by simp] at this
      exact zl_ch_pre this
    have chB : zl_ch (fun x y => ut x < 10 ∧ tp (ut x) = y) (B ++ [m]) := by
      have := zf_ch Ub
      rw [eb, show B ++ m :: C' = (B ++ [m]) ++ C' by simp] at this
      exact zl_ch_pre this
    refine zl_ch_app (zl_ch_mono ?_ (zl_ch_in chA)) (zl_ch_mono ?_ (zl_ch_rev (zl_ch_in chB))) ?_
    · rintro x y ⟨hx, q1, q2⟩
      obtain ⟨w1, w2, w3, w4⟩ := zf_edge h hT hM hD hF hFD (befA x hx).1 q1
      obtain ⟨a1, a2, a3⟩ := k1 x hx
      unfold zt_R
      rw [a1, a2, a3, q2]
      rw [q2] at w2
      exact ⟨⟨rfl, w1, w2, w3⟩, w4⟩
    · rintro y x ⟨hx, q1, q2⟩
      obtain ⟨w1, w2, w3, w4⟩ := zf_edge h hT hM hD hF hFD (befB x hx).1 q1
      obtain ⟨a1, a2, a3⟩ := k2 x hx
      rw [q2] at a1 a2 a3 w2
      unfold zt_R
      rw [a1, a2, a3]
      exact ⟨⟨rfl, w2, w1, hG.2.1 _ _ w3⟩, by rw [zd_slsym hG]; exact w4⟩
    · intro x y hx hy
      rw [List.getLast?_reverse] at hx
      have e1 : (B ++ [m]).head? = some (tp v) := by
        cases B with
        | nil => obtain ⟨e1, _⟩ := List.cons.inj eb; simp [e1]
        | cons b B => obtain ⟨e1, _⟩ := List.cons.inj eb; simp [e1]
      have e2 : (A ++ [m]).head? = some (tp u) := by
        cases A with
        | nil => obtain ⟨e1, _⟩ := List.cons.inj ea; simp [e1]
        | cons b A => obtain ⟨e1, _⟩ := List.cons.inj ea; simp [e1]
      rw [e1] at hx
      rw [e2] at hy
      obtain rfl := Option.some.inj hx
      obtain rfl := Option.some.inj hy
      unfold zt_R
      rw [k3.1, k3.2.1, k3.2.2]
      exact ⟨⟨rfl, zt_tms hT hv10, zt_tms hT hu10, hG.2.1 _ _ he⟩, by rw [zd_slsym hG]; exact hs⟩
  · refine (zl_pr_app _ (by rw [List.length_reverse]; exact evB)).mpr ⟨?_, ?_⟩
    · refine zl_pr_mono _ ?_ (zl_pr_rev B prB)
      rintro y x hy hx ⟨q1, q2, q3, q4⟩
      obtain ⟨p1, p2, p3, p4, _⟩ := zf_pair h hM hF q1 q2
      obtain ⟨a1, a2, a3⟩ := k2 x (by simpa using hx)
      rw [q3] at a1 a2 a3 p3
      unfold zt_P
      rw [a2, a3, p1]
      exact ⟨p3, rfl, p4, p2⟩
    · refine zl_pr_mono _ ?_ prA
      rintro x y hx hy ⟨q1, q2, q3, q4⟩
      obtain ⟨p1, p2, p3, p4, _⟩ := zf_pair h hM hF q1 q2
      obtain ⟨a1, a2, a3⟩ := k1 x hx
      rw [q3] at p3
      unfold zt_P
      rw [a2, a3, p1]
      exact ⟨rfl, p3, p2, p4⟩
end
end
section
/-! opening a blossom -/
theorem zl_ch_pred {R : Nat → Nat → Prop} : ∀ {l : List Nat} {a : Nat}, zl_ch R (a :: l) → ∀ y, y ∈ l → ∃ p, p ∈ a :: l ∧ R p y := by
  intro l
  induction l with
  | nil => intro a _ y hy; simp at hy
  | cons b l ih =>
    intro a h y hy
    rcases List.mem_cons.mp hy with e | hy
    · subst e; exact ⟨a, by simp, h.1⟩
    · obtain ⟨p, hp, r⟩ := ih h.2 y hy
      exact ⟨p, by simp at hp ⊢; exact Or.inr hp, r⟩
theorem zl_ch_succ {R : Nat → Nat → Prop} : ∀ {l : List Nat} {a : Nat}, zl_ch R (a :: l) → ∀ x, x ∈ a :: l → (a :: l).getLast? = some x ∨ ∃ y, y ∈ l ∧ R x y := by
  intro l
  induction l with
  | nil => intro a _ x hx; simp at hx; subst hx; exact Or.inl rfl
  | cons b l ih =>
    intro a h x hx
    rcases List.mem_cons.mp hx with e | hx
    · subst e; exact Or.inr ⟨b, by simp, h.1⟩
    · rcases ih h.2 x hx with e | ⟨y, hy, r⟩
      · left; rw [List.getLast?_cons_cons]; exact e
      · exact Or.inr ⟨y, by simp [hy], r⟩
theorem zl_rank : ∀ (l : List Nat) (a : Nat), (a :: l).Nodup → ∃ f : Nat → Nat, f a = 0 ∧ (∀ x, x ∈ a :: l → f x ≤ l.length) ∧ zl_ch (fun p y => f p < f y) (a :: l) := by
  intro l
  induction l with
  | nil => intro a _; exact ⟨fun _ => 0, rfl, fun _ _ => Nat.zero_le _, trivial⟩
  | cons b l ih =>
    intro a hn
    have hn' := List.nodup_cons.mp hn
    obtain ⟨f, f0, f1, f2⟩ := ih b hn'.2
    refine ⟨zu_U (fun x => f x + 1) a 0, zu_s, ?_, ?_, ?_⟩
    · intro x hx
      by_cases e : x = a
      · subst e; rw [zu_s]; omega
      · rw [zu_n e]
        rcases List.mem_cons.mp hx with z | z
        · exact absurd z e
        · have := f1 x z
          simp only [List.length_cons]; omega
    · show zu_U (fun x => f x + 1) a 0 a < zu_U (fun x => f x + 1) a 0 b
      rw [zu_s, zu_n (fun e => hn'.1 (by rw [← e]; simp))]; omega
    · have gen : ∀ l' : List Nat, (∀ x, x ∈ l' → x ≠ a) → zl_ch (fun p y => f p < f y) l' → zl_ch (fun p y => zu_U (fun x => f x + 1) a 0 p < zu_U (fun x => f x + 1) a 0 y) l' := by
        intro l'
        induction l' with
        | nil => intro _ _; exact trivial
        | cons c l' ih' =>
          intro hne hc
          cases l' with
          | nil => exact trivial
          | cons d l' =>
            refine ⟨?_, ih' (fun x hx => hne x (by simp at hx ⊢; exact Or.inr hx)) hc.2⟩
            show zu_U (fun x => f x + 1) a 0 c < zu_U (fun x => f x + 1) a 0 d
            rw [zu_n (hne c (by simp)), zu_n (hne d (by simp))]
            have : f c < f d := hc.1
            omega
      exact gen (b :: l) (fun x hx e => hn'.1 (by rw [← e]; exact hx)) f2
section
variable {E : Nat → Nat → Prop} {ky : Nat → Nat → Int} {act : Nat → Bool} {mt tp bs uf ut nx nf nt : Nat → Nat} {du lb : Nat → Int} {ms : Nat → Nat → Bool} {rg : Nat → List Nat} {rk : Nat → Nat} {lam : Int}
def zo_R (E : Nat → Nat → Prop) (ky : Nat → Nat → Int) (mt bs uf' ut' : Nat → Nat) (du lb' : Nat → Int) (ms : Nat → Nat → Bool) (rg : Nat → List Nat) (p y : Nat) : Prop :=
  ms y (uf' y) = true ∧ ms p (ut' y) = true ∧ E (uf' y) (ut' y) ∧ zd_sl ky du (zt_al rg) ms (uf' y) (ut' y) = 0 ∧ lb' y = - lb' p ∧
  (lb' p = -1 → bs y = uf' y ∧ bs p = ut' y ∧ mt (uf' y) = ut' y ∧ mt (ut' y) = uf' y)
theorem zi_open (hG : zi_G E ky act) (h : zt_A ms rg) (hT : zt_T tp ms rg) (hL : zt_Lnk E ms nx nf nt rg) (hM : zi_M E mt bs nf nt ms rg) (hD : zi_D E ky act mt nf nt du ms rg lam)
    (hF : zi_F E act mt tp bs uf ut lb ms rg rk) (hFD : zi_FD ky tp uf ut du lb ms rg lam)
    {b c0 at' : Nat} {t l : List Nat} {tp' uf' ut' : Nat → Nat} {lb' : Nat → Int} (hb : zt_al rg b = true) (hlb : lb b = -1) (hz : du b = 0) (hrg : rg b = c0 :: t)
    (t1 : ∀ v c, c ∈ rg b → ms c v = true → tp' v = c) (t2 : ∀ v, v < 10 → ¬ ms b v = true → tp' v = tp v)
    (hnd : (at' :: l).Nodup) (hsub : ∀ x, x ∈ at' :: l → x ∈ rg b) (hlast : (at' :: l).getLast? = some c0) (hat : ms at' (uf b) = true)
    (ha1 : lb' at' = -1) (ha2 : uf' at' = uf b) (ha3 : ut' at' = ut b) (hch : zl_ch (zo_R E ky mt bs uf' ut' du lb' ms rg) (at' :: l)) (hc0 : lb' c0 = -1)
    (hpm : ∀ x, x ∈ at' :: l → lb' x = 1 ∨ lb' x = -1) (hb0 : lb' b = 0) (hoff : ∀ x, x ∉ at' :: l → x ≠ b → lb' x = lb x ∧ uf' x = uf x ∧ ut' x = ut x) :
    zt_A ms (zu_U rg b []) ∧ zt_T tp' ms (zu_U rg b []) ∧ zt_Lnk E ms nx nf nt (zu_U rg b []) ∧ zi_M E mt bs nf nt ms (zu_U rg b []) ∧
    zi_D E ky act mt nf nt du ms (zu_U rg b []) lam ∧ (∃ rk', zi_F E act mt tp' bs uf' ut' lb' ms (zu_U rg b []) rk') ∧
    zi_FD ky tp' uf' ut' du lb' ms (zu_U rg b []) lam ∧ zf_mu tp' bs lb' (zu_U rg b []) < zf_mu tp bs lb rg := by
  have hb10 := (zt_al_iff.mp hb).1
  have hbtop := (hF.2.1 b (by omega)).2
  have alb : ¬ zt_al (zu_U rg b []) b = true := by rw [zt_al_iff, zu_s]; exact fun z => z.2.2 rfl
  have alo : ∀ x, x ≠ b → zt_al (zu_U rg b []) x = zt_al rg x := fun x hx => by unfold zt_al; rw [zu_n hx]
  have aln : ∀ x, zt_al (zu_U rg b []) x = true → x ≠ b ∧ zt_al rg x = true := fun x hx => by
    have e : x ≠ b := fun z => alb (z ▸ hx)
    rw [alo x e] at hx; exact ⟨e, hx⟩
  have lvn : ∀ x, zt_lv (zu_U rg b []) x → x ≠ b ∧ zt_lv rg x := fun x hx => by
    rcases hx with z | z
    · exact ⟨by omega, Or.inl z⟩
    · exact ⟨(aln x z).1, Or.inr (aln x z).2⟩
  have lvo : ∀ x, x ≠ b → zt_lv rg x → zt_lv (zu_U rg b []) x := fun x hx hl => by
    rcases hl with z | z
    · exact Or.inl z
    · exact Or.inr (by rw [alo x hx]; exact z)
  have kidb : ∀ x, zt_al rg x = true → b ∉ rg x := fun x hx hbx => by
    obtain ⟨v, hv⟩ := zt_ne h (Or.inr hb)
    exact zt_kidtop h hT hx hbx (zt_lt h hv) (hbtop v hv)
  have kidne : ∀ c, c ∈ rg b → c ≠ b := fun c hc z => kidb b hb (z ▸ hc)
  have kidtop : ∀ c, c ∈ rg b → ∀ v, v < 10 → tp v ≠ c := fun c hc v hv => zt_kidtop h hT hb hc hv
  have zeq : ∀ u v, zd_z du (zt_al (zu_U rg b [])) ms u v = zd_z du (zt_al rg) ms u v := fun u v => by
    apply zs_congr
    intro x _
    by_cases a : x = b
    · subst a
      rw [hz]
      split <;> split <;> rfl
    · rw [alo x a]
  have sleq : ∀ u v, zd_sl ky du (zt_al (zu_U rg b [])) ms u v = zd_sl ky du (zt_al rg) ms u v := fun u v => by
    unfold zd_sl; rw [zeq]
  have hA' : zt_A ms (zu_U rg b []) := by
    refine ⟨h.1, h.2.1, ?_, ?_, ?_, ?_, ?_, ?_⟩
    · intro x hx
      obtain ⟨n, hx⟩ := aln x hx
      rw [zu_n n]; exact zt_ring h hx
    · intro x hx c hc
      obtain ⟨n, hx⟩ := aln x hx
      rw [zu_n n] at hc
      exact lvo c (fun z => kidb x hx (z ▸ hc)) (zt_kid h hx hc)
    · intro x hx v
      obtain ⟨n, hx⟩ := aln x hx
      rw [zu_n n]; exact zt_un h hx
    · intro x hx c c' v hc hc' hv hv'
      obtain ⟨n, hx⟩ := aln x hx
      rw [zu_n n] at hc hc'
      exact zt_dj h hx hc hc' hv hv'
    · intro x hx; exact zt_ne h (lvn x hx).2
    · intro x y v hx hy hn hv hv'
      obtain ⟨n, hx⟩ := aln x hx
      rw [zu_n n]
      exact zt_lam h hx (lvn y hy).2 hn hv hv'
  have tpin : ∀ v, ms b v = true → ∃ c, c ∈ rg b ∧ ms c v = true ∧ tp' v = c := fun v hv => by
    obtain ⟨c, hc, hcv⟩ := (zt_un h hb).mp hv
    exact ⟨c, hc, hcv, t1 v c hc hcv⟩
  have tpb : ∀ v, v < 10 → (ms b v = true ↔ tp v = b) := fun v hv => ⟨fun z => hbtop v z, fun z => by rw [← z]; exact zt_tms hT hv⟩
  have tpout : ∀ v, v < 10 → tp v ≠ b → tp' v = tp v := fun v hv hn => t2 v hv (fun z => hn ((tpb v hv).mp z))
  have hT' : zt_T tp' ms (zu_U rg b []) := by
    refine ⟨?_, ?_⟩
    · intro v hv
      by_cases q : ms b v = true
      · obtain ⟨c, hc, hcv, e⟩ := tpin v q
        rw [e]
        exact ⟨lvo c (kidne c hc) (zt_kid h hb hc), hcv⟩
      · rw [t2 v hv q]
        exact ⟨lvo _ (fun z => q ((tpb v hv).mpr z)) (zt_tlv hT hv), zt_tms hT hv⟩
    · intro x v w hx hv hw
      obtain ⟨n, hx⟩ := lvn x hx
      have e := zt_teq hT hx hv hw
      have hv10 := zt_lt h hv
      have hw10 := zt_lt h hw
      by_cases q : ms b v = true
      · rcases zt_lam h hb hx n q hv with ⟨_, w', z1, z2⟩ | ⟨c, hc, z⟩
        · exfalso
          have e2 := zt_teq hT hx hv z1
          rw [(tpb v hv10).mp q] at e2
          exact z2 ((tpb w' (zt_lt h z1)).mpr e2.symm)
        · rw [t1 v c hc (z v hv), t1 w c hc (z w hw)]
      · have q' : ¬ ms b w = true := fun z => q ((tpb v hv10).mpr (e.trans ((tpb w hw10).mp z)))
        rw [t2 v hv10 q, t2 w hw10 q', e]
  have hL' : zt_Lnk E ms nx nf nt (zu_U rg b []) := by
    intro x hx c s hcs
    obtain ⟨n, hx⟩ := aln x hx
    rw [zu_n n] at hcs
    exact hL x hx c s hcs
  have hM' : zi_M E mt bs nf nt ms (zu_U rg b []) := by
    refine ⟨hM.1, fun y hy => ?_⟩
    obtain ⟨n, hy⟩ := lvn y hy
    refine ⟨(hM.2 y hy).1, fun ha c s hcs => ?_⟩
    rw [zu_n n] at hcs
    exact (hM.2 y hy).2 (aln y ha).2 c s hcs
  have hD' : zi_D E ky act mt nf nt du ms (zu_U rg b []) lam := by
    refine ⟨?_, ?_, ?_, hD.2.2.2.1, hD.2.2.2.2.1, ?_, ?_⟩
    · intro u v e; rw [sleq]; exact hD.1 u v e
    · intro v hv hn; rw [sleq]; exact hD.2.1 v hv hn
    · intro x hx; exact hD.2.2.1 x (aln x hx).2
    · intro x hx y hy
      obtain ⟨n, hx⟩ := aln x hx
      rw [zu_n n] at hy
      rw [sleq]; exact hD.2.2.2.2.2.1 x hx y hy
    · intro x hx; exact hD.2.2.2.2.2.2 x (aln x hx).2
  -- facts about b
  obtain ⟨fb1, fb2, fb3, fb4, fb5, fb6, fb7, fb8⟩ := hF.2.2.2.1 b hlb
  have hbs := (hM.2 b (Or.inr hb)).1
  have hbs10 := zt_lt h hbs
  have hmb10 := (hM.1 _ hbs10).1
  have hc0b : c0 ∈ rg b := by rw [hrg]; simp
  have hbsc : bs b = bs c0 := ((hM.2 b (Or.inr hb)).2 hb c0 t hrg).1
  have hc0bs : ms c0 (bs b) = true := by rw [hbsc]; exact (hM.2 c0 (zt_kid h hb hc0b)).1
  have offT : ∀ v, v < 10 → tp v ≠ b → lb' (tp v) = lb (tp v) ∧ uf' (tp v) = uf (tp v) ∧ ut' (tp v) = ut (tp v) := fun v hv hn =>
    hoff _ (fun z => kidtop _ (hsub _ z) v hv rfl) hn
  have lbT : ∀ v, v < 10 → lb (tp v) = 1 → lb' (tp' v) = 1 := fun v hv hl => by
    have hn : tp v ≠ b := fun z => by rw [z, hlb] at hl; omega
    rw [tpout v hv hn, (offT v hv hn).1]; exact hl
  obtain ⟨f, f0, f1, f2⟩ := zl_rank l at' hnd
  have hl9 : l.length ≤ 9 := by
    have a1 := zl_pigeon 16 (at' :: l) hnd (fun x hx => zt_lv16 (zt_kid h hb (hsub x hx)))
    have key : (at' :: l).length ≤ (rg b).length := by
      have gen : ∀ (X Y : List Nat), X.Nodup → (∀ x, x ∈ X → x ∈ Y) → X.length ≤ Y.length := by
        intro X
        induction X with
        | nil => intro Y _ _; simp
        | cons x X ih =>
          intro Y hn hs
          have hn' := List.nodup_cons.mp hn
          obtain ⟨Y1, Y2, rfl⟩ := List.append_of_mem (hs x (by simp))
          have := ih (Y1 ++ Y2) hn'.2 (fun y hy => by
            have hyY := hs y (by simp [hy])
            have : y ≠ x := fun e => hn'.1 (e ▸ hy)
            simp at hyY ⊢
            rcases hyY with q | q | q
            · exact Or.inl q
            · exact absurd q this
            · exact Or.inr q)
          simp at this ⊢
          omega
      exact gen _ _ hnd hsub
    have := zt_len h hb
    simp only [List.length_cons] at key
    omega
  have rkA : ∀ (p y : Nat), p ∈ at' :: l → y ∈ at' :: l → f p < f y → (if p ∈ at' :: l then 20 * rk b + f p else 20 * rk p) < (if y ∈ at' :: l then 20 * rk b + f y else 20 * rk y) := fun p y hp hy hlt => by
    rw [if_pos hp, if_pos hy]; omega
  have rkO : ∀ p, p ∉ at' :: l → (if p ∈ at' :: l then 20 * rk b + f p else 20 * rk p) = 20 * rk p := fun p hp => if_neg hp
  have rkI : ∀ p, p ∈ at' :: l → 20 * rk b ≤ (if p ∈ at' :: l then 20 * rk b + f p else 20 * rk p) ∧ (if p ∈ at' :: l then 20 * rk b + f p else 20 * rk p) ≤ 20 * rk b + 9 := fun p hp => by
    rw [if_pos hp]
    have := f1 p hp
    omega
  -- both relations along the arc at once
  have hch2 : zl_ch (fun p y => zo_R E ky mt bs uf' ut' du lb' ms rg p y ∧ f p < f y) (at' :: l) := by
    have gen : ∀ l' : List Nat, zl_ch (zo_R E ky mt bs uf' ut' du lb' ms rg) l' → zl_ch (fun p y => f p < f y) l' → zl_ch (fun p y => zo_R E ky mt bs uf' ut' du lb' ms rg p y ∧ f p < f y) l' := by
      intro l'
      induction l' with
      | nil => intro _ _; exact trivial
      | cons a l' ih =>
        intro k1 k2
        cases l' with
        | nil => exact trivial
        | cons d l' => exact ⟨⟨k1.1, k2.1⟩, ih k1.2 k2.2⟩
    exact gen _ hch f2
  have topA : ∀ x, x ∈ at' :: l → ∀ v, ms x v = true → tp' v = x := fun x hx v hv => t1 v x (hsub x hx) hv
  have hc0l : c0 ∈ at' :: l := List.mem_of_getLast? hlast
  -- the child side of an inner node of the arc
  have inn : ∀ x, x ∈ at' :: l → lb' x = -1 → mt (bs x) ≠ bs x ∧ lb' (tp' (mt (bs x))) = 1 ∧ ut' (tp' (mt (bs x))) = bs x := by
    intro x hx hl
    rcases zl_ch_succ hch x hx with e | ⟨y, hy, r⟩
    · rw [hlast] at e
      obtain rfl := Option.some.inj e
      rw [← hbsc]
      have hn : tp (mt (bs b)) ≠ b := fun z => zi_out h hM (Or.inr hb) fb6 (by have := zt_tms hT hmb10; rw [z] at this; exact this)
      rw [tpout _ hmb10 hn, (offT _ hmb10 hn).1, (offT _ hmb10 hn).2.2]
      exact ⟨fb6, fb7, fb8⟩
    · obtain ⟨r1, r2, r3, r4, r5, r6⟩ := r
      obtain ⟨p1, p2, p3, p4⟩ := r6 hl
      have hne := (hG.1 _ _ r3).2.2.1
      rw [p2, p4, topA y (by simp [hy]) _ r1]
      exact ⟨hne, by rw [r5, hl]; rfl, rfl⟩
  have dec : ∀ x, zt_lv rg x → bs x < 10 := fun x hx => zt_lt h (hM.2 x hx).1
  refine ⟨hA', hT', hL', hM', hD', ⟨fun x => if x ∈ at' :: l then 20 * rk b + f x else 20 * rk x, ?_, ?_, ?_, ?_, ?_⟩, ⟨?_, ?_⟩, ?_⟩
  · intro x
    by_cases q : x ∈ at' :: l
    · exact Or.inr (hpm x q)
    · by_cases a : x = b
      · subst a; exact Or.inl hb0
      · rw [(hoff x q a).1]; exact hF.1 x
  · intro x hx
    by_cases q : x ∈ at' :: l
    · exact ⟨lvo x (kidne x (hsub x q)) (zt_kid h hb (hsub x q)), topA x q⟩
    · by_cases a : x = b
      · subst a; exact absurd hb0 hx
      · rw [(hoff x q a).1] at hx
        obtain ⟨g1, g2⟩ := hF.2.1 x hx
        refine ⟨lvo x a g1, fun v hv => ?_⟩
        have := g2 v hv
        rw [tpout v (zt_lt h hv) (by rw [this]; exact a), this]
  · intro x hx
    by_cases q : x ∈ at' :: l
    · have hxl : x ∈ l := by
        rcases List.mem_cons.mp q with e | e
        · subst e; omega
        · exact e
      obtain ⟨p, hp, r, hr⟩ := zl_ch_pred hch2 x hxl
      obtain ⟨r1, r2, r3, r4, r5, r6⟩ := r
      have hlp : lb' p = -1 := by omega
      obtain ⟨p1, p2, p3, p4⟩ := r6 hlp
      have hne := (hG.1 _ _ r3).2.2.1
      refine ⟨p1.symm, Or.inr ⟨zt_lt h r2, by rw [p1]; exact p3, by rw [p1]; exact fun z => hne z.symm, ?_, ?_, ?_⟩⟩
      · rw [topA p hp _ r2]; exact hlp
      · rw [topA p hp _ r2]; exact p2
      · rw [topA p hp _ r2]; exact rkA p x hp q hr
    · have a : x ≠ b := fun z => by rw [z, hb0] at hx; omega
      obtain ⟨o1, o2, o3⟩ := hoff x q a
      rw [o1] at hx
      rw [o2, o3]
      obtain ⟨g1, g2 | g2⟩ := hF.2.2.1 x hx
      · exact ⟨g1, Or.inl g2⟩
      · obtain ⟨d1, d2, d3, d4, d5, d6⟩ := g2
        refine ⟨g1, Or.inr ⟨d1, d2, d3, ?_, ?_, ?_⟩⟩
        · by_cases w : tp (ut x) = b
          · rw [w] at d5
            rw [← d5, t1 _ c0 hc0b hc0bs]; exact hc0
          · rw [tpout _ d1 w, (offT _ d1 w).1]; exact d4
        · by_cases w : tp (ut x) = b
          · rw [w] at d5
            rw [← d5, t1 _ c0 hc0b hc0bs]; exact hbsc.symm
          · rw [tpout _ d1 w]; exact d5
        · show (if tp' (ut x) ∈ at' :: l then 20 * rk b + f (tp' (ut x)) else 20 * rk (tp' (ut x))) < (if x ∈ at' :: l then 20 * rk b + f x else 20 * rk x)
          rw [rkO x q]
          by_cases w : tp (ut x) = b
          · rw [w] at d5 d6
            rw [← d5, t1 _ c0 hc0b hc0bs]
            have := (rkI c0 hc0l).2
            omega
          · rw [tpout _ d1 w, rkO _ (fun z => kidtop _ (hsub _ z) _ d1 rfl)]
            omega
  · intro x hx
    by_cases q : x ∈ at' :: l
    · obtain ⟨i1, i2, i3⟩ := inn x q hx
      rcases List.mem_cons.mp q with e | e
      · subst e
        have hn : tp (ut b) ≠ b := fun z => by rw [z, hlb] at fb4; omega
        rw [ha2, ha3]
        refine ⟨fb1, hat, fb3, ?_, ?_, i1, i2, i3⟩
        · rw [tpout _ fb1 hn, (offT _ fb1 hn).1]; exact fb4
        · show (if tp' (ut b) ∈ x :: l then 20 * rk b + f (tp' (ut b)) else 20 * rk (tp' (ut b))) < (if x ∈ x :: l then 20 * rk b + f x else 20 * rk x)
          rw [tpout _ fb1 hn, rkO _ (fun z => kidtop _ (hsub _ z) _ fb1 rfl)]
          have := (rkI x q).1
          omega
      · obtain ⟨p, hp, r, hr⟩ := zl_ch_pred hch2 x e
        obtain ⟨r1, r2, r3, r4, r5, r6⟩ := r
        refine ⟨zt_lt h r2, r1, r3, ?_, ?_, i1, i2, i3⟩
        · rw [topA p hp _ r2]; omega
        · rw [topA p hp _ r2]; exact rkA p x hp q hr
    · have a : x ≠ b := fun z => by rw [z, hb0] at hx; omega
      obtain ⟨o1, o2, o3⟩ := hoff x q a
      rw [o1] at hx
      rw [o2, o3]
      obtain ⟨g1, g2, g3, g4, g5, g6, g7, g8⟩ := hF.2.2.2.1 x hx
      have n1 : tp (ut x) ≠ b := fun z => by rw [z, hlb] at g4; omega
      have hm10 := (hM.1 _ (dec x (hF.2.1 x (by omega)).1)).1
      have n2 : tp (mt (bs x)) ≠ b := fun z => by rw [z, hlb] at g7; omega
      refine ⟨g1, g2, g3, ?_, ?_, g6, ?_, ?_⟩
      · rw [tpout _ g1 n1, (offT _ g1 n1).1]; exact g4
      · show (if tp' (ut x) ∈ at' :: l then 20 * rk b + f (tp' (ut x)) else 20 * rk (tp' (ut x))) < (if x ∈ at' :: l then 20 * rk b + f x else 20 * rk x)
        rw [rkO x q, tpout _ g1 n1, rkO _ (fun z => kidtop _ (hsub _ z) _ g1 rfl)]
        omega
      · rw [tpout _ hm10 n2, (offT _ hm10 n2).1]; exact g7
      · rw [tpout _ hm10 n2, (offT _ hm10 n2).2.2]; exact g8
  · intro v hv ha hf
    exact lbT v hv (hF.2.2.2.2 v hv ha hf)
  · intro x hx
    rw [sleq]
    by_cases q : x ∈ at' :: l
    · rcases List.mem_cons.mp q with e | e
      · subst e
        rw [ha2, ha3]; exact hFD.1 b hlb
      · obtain ⟨p, hp, r⟩ := zl_ch_pred hch x e
        exact r.2.2.2.1
    · have a : x ≠ b := fun z => by rw [z, hb0] at hx; omega
      obtain ⟨o1, o2, o3⟩ := hoff x q a
      rw [o1] at hx
      rw [o2, o3]
      exact hFD.1 x hx
  · intro v hv hl
    apply hFD.2 v hv
    by_cases q : tp v = b
    · rw [q]; omega
    · rw [tpout v hv q, (offT v hv q).1] at hl; exact hl
  · apply zf_mu_b (k := b)
    · intro v hv hl; exact lbT v hv hl
    · intro x _ hx hl
      obtain ⟨n, hx'⟩ := aln x hx
      exact ⟨hx', fun z => hl (lbT _ (dec x (Or.inr hx')) z)⟩
    · exact (zt_al_iff.mp hb).2.1
    · exact hb
    · rw [hbtop _ hbs, hlb]; omega
    · exact alb
end
end
section
/-! rebasing: what the stack of blossoms leaves behind -/
section
variable {E : Nat → Nat → Prop} {nx nf nt : Nat → Nat} {ms : Nat → Nat → Bool}
def zr_sub (ms : Nat → Nat → Bool) (x c : Nat) : Prop := ∀ w, ms x w = true → ms c w = true
def zr_RB (E : Nat → Nat → Prop) (nx nf nt : Nat → Nat) (ms : Nat → Nat → Bool) (cs : List Nat) (bs mt : Nat → Nat) (rg : Nat → List Nat) (bs' mt' : Nat → Nat) (rg' : Nat → List Nat) : Prop :=
  (∀ x c, c ∈ rg' x ↔ c ∈ rg x) ∧ (zt_A ms rg' ∧ zt_Lnk E ms nx nf nt rg') ∧
  (∀ x, (∀ c, c ∈ cs → ¬ zr_sub ms x c) → rg' x = rg x) ∧
  (∀ x, (∀ c, c ∈ cs → x = c ∨ ¬ zr_sub ms x c) → bs' x = bs x) ∧
  (∀ v, (∀ c, c ∈ cs → ¬ ms c v = true ∨ v = bs c) → mt' v = mt v) ∧
  (∀ c, c ∈ cs → zt_Good mt' bs' nf nt ms rg' c)
theorem zr_nil {rg rg' : Nat → List Nat} (hm : ∀ x c, c ∈ rg' x ↔ c ∈ rg x) (x : Nat) : rg' x = [] ↔ rg x = [] := by
  rw [List.eq_nil_iff_forall_not_mem, List.eq_nil_iff_forall_not_mem]
  exact ⟨fun h a ha => h a ((hm x a).mpr ha), fun h a ha => h a ((hm x a).mp ha)⟩
theorem zr_al {rg rg' : Nat → List Nat} (hm : ∀ x c, c ∈ rg' x ↔ c ∈ rg x) (x : Nat) : zt_al rg' x = zt_al rg x := by
  rw [Bool.eq_iff_iff, zt_al_iff, zt_al_iff, ne_eq, ne_eq, zr_nil hm]
theorem zr_lv {rg rg' : Nat → List Nat} (hm : ∀ x c, c ∈ rg' x ↔ c ∈ rg x) (x : Nat) : zt_lv rg' x ↔ zt_lv rg x := by
  unfold zt_lv; rw [zr_al hm]
theorem zr_refl {bs mt : Nat → Nat} {rg : Nat → List Nat} (h : zt_A ms rg) (hL : zt_Lnk E ms nx nf nt rg) {cs : List Nat} (hg : ∀ c, c ∈ cs → zt_Good mt bs nf nt ms rg c) : zr_RB E nx nf nt ms cs bs mt rg bs mt rg :=
  ⟨fun _ _ => Iff.rfl, ⟨h, hL⟩, fun _ _ => rfl, fun _ _ => rfl, fun _ _ => rfl, hg⟩
/-- goodness depends on what is inside alone -/
theorem zr_gcongr {bs mt bs' mt' : Nat → Nat} {rg rg' : Nat → List Nat} (h : zt_A ms rg) {c : Nat} (hm : ∀ x, zt_al rg' x = zt_al rg x)
    (hr : ∀ y, zt_lv rg y → zr_sub ms y c → rg' y = rg y) (hb : ∀ y, zt_lv rg y → zr_sub ms y c → bs' y = bs y) (hv : ∀ v, ms c v = true → mt' v = mt v)
    (hg : zt_Good mt bs nf nt ms rg c) : zt_Good mt' bs' nf nt ms rg' c := by
  intro y hy hs
  have hy' : zt_lv rg y := by unfold zt_lv at hy ⊢; rw [hm] at hy; exact hy
  rw [hb y hy' hs, hm y]
  refine ⟨(hg y hy' hs).1, fun ha d t e => ?_⟩
  rw [hr y hy' hs] at e
  obtain ⟨q1, q2⟩ := (hg y hy' hs).2 ha d t e
  have kid : ∀ x, x ∈ rg y → zt_lv rg x ∧ zr_sub ms x c := fun x hx => ⟨zt_kid h ha hx, fun w hw => hs w (zt_sub h ha hx hw)⟩
  have hd := kid d (by rw [e]; simp)
  rw [hb y hy' hs, hb d hd.1 hd.2]
  refine ⟨q1, zl_pr_mono t (fun x z hx hz q => ?_) q2⟩
  have kx := kid x (by rw [e]; simp [hx])
  have kz := kid z (by rw [e]; simp [hz])
  obtain ⟨p1, p2, p3, p4⟩ := q
  have gx := kx.2 _ (hg x kx.1 kx.2).1
  have gz := kz.2 _ (hg z kz.1 kz.2).1
  rw [p1] at gx
  rw [p2] at gz
  unfold zt_P
  rw [hb x kx.1 kx.2, hb z kz.1 kz.2, hv _ gx, hv _ gz]
  exact ⟨p1, p2, p3, p4⟩
def zr_dis (ms : Nat → Nat → Bool) (c d : Nat) : Prop := ∀ v, ms c v = true → ms d v = true → False
theorem zr_dsub {rg : Nat → List Nat} (h : zt_A ms rg) {c d y : Nat} (hd : zr_dis ms c d) (hy : zt_lv rg y) (hs : zr_sub ms y c) : ¬ zr_sub ms y d := fun z => by
  obtain ⟨v, hv⟩ := zt_ne h hy
  exact hd v (hs v hv) (z v hv)
theorem zr_comp {bs mt bs1 mt1 bs2 mt2 : Nat → Nat} {rg rg1 rg2 : Nat → List Nat} (h : zt_A ms rg) {c : Nat} {cs : List Nat} (hc : zt_lv rg c) (hcs : ∀ d, d ∈ cs → zt_lv rg d ∧ zr_dis ms c d)
    (h1 : zr_RB E nx nf nt ms [c] bs mt rg bs1 mt1 rg1) (h2 : zr_RB E nx nf nt ms cs bs1 mt1 rg1 bs2 mt2 rg2) : zr_RB E nx nf nt ms (cs ++ [c]) bs mt rg bs2 mt2 rg2 := by
  obtain ⟨a1, ⟨a2, a2'⟩, a3, a4, a5, a6⟩ := h1
  obtain ⟨b1, ⟨b2, b2'⟩, b3, b4, b5, b6⟩ := h2
  have dsym : ∀ d, d ∈ cs → zr_dis ms d c := fun d hd v p q => (hcs d hd).2 v q p
  have bsd : ∀ d, d ∈ cs → bs1 d = bs d := fun d hd => a4 d (fun e he => Or.inr (by
    simp at he; subst he
    exact zr_dsub h (dsym d hd) (hcs d hd).1 (fun w hw => hw)))
  refine ⟨fun x e => (b1 x e).trans (a1 x e), ⟨b2, b2'⟩, ?_, ?_, ?_, ?_⟩
  · intro x hx
    rw [b3 x (fun d hd => hx d (by simp [hd])), a3 x (fun d hd => hx d (by simp at hd; simp [hd]))]
  · intro x hx
    rw [b4 x (fun d hd => hx d (by simp [hd])), a4 x (fun d hd => hx d (by simp at hd; simp [hd]))]
  · intro v hv
    rw [b5 v (fun d hd => by rw [bsd d hd]; exact hv d (by simp [hd])), a5 v (fun d hd => hv d (by simp at hd; simp [hd]))]
  · intro d hd
    rcases List.mem_append.mp hd with hd | hd
    · exact b6 d hd
    · simp at hd
      subst hd
      refine zr_gcongr a2 (fun x => zr_al b1 x) (fun y hy hs => b3 y (fun e he => ?_)) (fun y hy hs => b4 y (fun e he => Or.inr ?_)) (fun v hv => b5 v (fun e he => Or.inl ?_)) (a6 d (by simp))
      · exact zr_dsub a2 (hcs e he).2 hy hs
      · exact zr_dsub a2 (hcs e he).2 hy hs
      · exact fun z => (hcs e he).2 v hv z
theorem zl_lk_pr {R : Nat → Nat → Prop} {y : Nat} : ∀ l : List Nat, l.length % 2 = 0 → ∀ x, zl_lk R x l y → zl_pr R l :=
  zl_ind2 (fun _ _ _ => trivial) (fun a h => by simp at h) (fun a b l ih h x hk => ⟨hk.2.1, ih (by simp at h; omega) b hk.2.2⟩)
/-- turning a ring -/
theorem zr_turn {rg : Nat → List Nat} (h : zt_A ms rg) (hL : zt_Lnk E ms nx nf nt rg) {b f : Nat} {A B : List Nat} (hb : zt_al rg b = true) (e : rg b = A ++ f :: B) :
    (∀ x c, c ∈ zu_U rg b (f :: (B ++ A)) x ↔ c ∈ rg x) ∧ zt_A ms (zu_U rg b (f :: (B ++ A))) ∧ zt_Lnk E ms nx nf nt (zu_U rg b (f :: (B ++ A))) ∧ zl_lk (zt_R E ms nx nf nt) f (B ++ A) f ∧ (B ++ A).length % 2 = 0 ∧ (f :: (B ++ A)).Nodup := by
  have hm : ∀ x c, c ∈ zu_U rg b (f :: (B ++ A)) x ↔ c ∈ rg x := fun x c => by
    by_cases q : x = b
    · subst q
      rw [zu_s, e]
      simp
      constructor
      · rintro (q | q | q)
        · exact Or.inr (Or.inl q)
        · exact Or.inr (Or.inr q)
        · exact Or.inl q
      · rintro (q | q | q)
        · exact Or.inr (Or.inr q)
        · exact Or.inl q
        · exact Or.inr (Or.inl q)
    · rw [zu_n q]
  obtain ⟨c, t, e', ht, ht2, hnd⟩ := zt_ring h hb
  have hlen : (B ++ A).length = t.length := by
    have := congrArg List.length (e'.symm.trans e)
    simp at this ⊢
    omega
  have hnd' : (f :: (B ++ A)).Nodup := by
    rw [← e', e] at hnd
    have p : (A ++ f :: B).Perm (f :: (B ++ A)) := by
      have q : (A ++ f :: B).Perm (f :: B ++ A) := List.perm_append_comm
      exact q
    exact p.nodup_iff.mp hnd
  have hk : zl_lk (zt_R E ms nx nf nt) f (B ++ A) f := by
    cases A with
    | nil =>
      have := hL b hb f B (by rw [e]; rfl)
      simpa using this
    | cons a A =>
      have := hL b hb a (A ++ f :: B) (by rw [e]; rfl)
      rw [zl_app] at this
      exact zl_app.mpr ⟨this.2, this.1⟩
  have hal : ∀ x, zt_al (zu_U rg b (f :: (B ++ A))) x = zt_al rg x := fun x => zr_al hm x
  have hlv : ∀ x, zt_lv (zu_U rg b (f :: (B ++ A))) x ↔ zt_lv rg x := fun x => zr_lv hm x
  refine ⟨hm, ⟨h.1, h.2.1, ?_, ?_, ?_, ?_, ?_, ?_⟩, ?_, hk, by rw [hlen]; exact ht, hnd'⟩
  · intro x hx
    rw [hal] at hx
    by_cases q : x = b
    · subst q
      exact ⟨f, B ++ A, zu_s, by rw [hlen]; exact ht, by rw [hlen]; exact ht2, hnd'⟩
    · rw [zu_n q]; exact zt_ring h hx
  · intro x hx d hd
    rw [hal] at hx
    rw [hm] at hd
    rw [hlv]; exact zt_kid h hx hd
  · intro x hx v
    rw [hal] at hx
    rw [zt_un h hx]
    exact ⟨fun ⟨d, hd, z⟩ => ⟨d, (hm x d).mpr hd, z⟩, fun ⟨d, hd, z⟩ => ⟨d, (hm x d).mp hd, z⟩⟩
  · intro x hx d d' v hd hd' z z'
    rw [hal] at hx
    rw [hm] at hd hd'
    exact zt_dj h hx hd hd' z z'
  · intro x hx; exact zt_ne h ((hlv x).mp hx)
  · intro x y v hx hy hn hv hv'
    rw [hal] at hx
    rcases zt_lam h hx ((hlv y).mp hy) hn hv hv' with z | ⟨d, hd, z⟩
    · exact Or.inl z
    · exact Or.inr ⟨d, (hm x d).mpr hd, z⟩
  · intro x hx d s hs
    rw [hal] at hx
    by_cases q : x = b
    · subst q
      rw [zu_s] at hs
      obtain ⟨rfl, rfl⟩ := List.cons.inj hs
      exact hk
    · rw [zu_n q] at hs
      exact hL x hx d s hs
theorem zr_step {bs mt bs1 mt1 bs2 mt2 : Nat → Nat} {rg rg2 : Nat → List Nat} (h : zt_A ms rg) (hL : zt_Lnk E ms nx nf nt rg) {b f : Nat} {A B : List Nat} (hb : zt_al rg b = true) (e : rg b = A ++ f :: B)
    (hbs : ms b (bs b) = true) (hf : ms f (bs b) = true) (s1 : bs1 f = bs b) (s2 : zl_pr (zt_P mt1 bs1 nf nt) (B ++ A)) (s3 : ∀ z, z ∉ rg b → bs1 z = bs z)
    (s4 : ∀ v, (∀ z, z ∈ B ++ A → ¬ ms z v = true) → mt1 v = mt v)
    (h2 : zr_RB E nx nf nt ms ((f :: (B ++ A)).filter (zt_al rg)) bs1 mt1 (zu_U rg b (f :: (B ++ A))) bs2 mt2 rg2) : zr_RB E nx nf nt ms [b] bs mt rg bs2 mt2 rg2 := by
  obtain ⟨r1, r2, r3, r4, r5, r6⟩ := zr_turn h hL hb e
  obtain ⟨b1, b2, b3, b4, b5, b6⟩ := h2
  have rbm : ∀ x, x ∈ f :: (B ++ A) ↔ x ∈ rg b := fun x => by
    have := r1 b x
    rw [zu_s] at this
    exact this
  have inf : ∀ x, x ∈ (f :: (B ++ A)).filter (zt_al rg) ↔ x ∈ rg b ∧ zt_al rg x = true := fun x => by
    rw [List.mem_filter, rbm]
  have ksub : ∀ x, x ∈ rg b → zr_sub ms x b := fun x hx w hw => zt_sub h hb hx hw
  have nbk : ∀ x, x ∈ rg b → ¬ zr_sub ms b x := fun x hx z => by
    obtain ⟨d, hd, hdx⟩ := zt_other h hb (c := x)
    obtain ⟨v, hv⟩ := zt_ne h (zt_kid h hb hd)
    exact hdx (zt_dj h hb hd hx hv (z v (zt_sub h hb hd hv)))
  have nkk : ∀ x y, x ∈ rg b → y ∈ rg b → x ≠ y → ¬ zr_sub ms x y := fun x y hx hy hn z => by
    obtain ⟨v, hv⟩ := zt_ne h (zt_kid h hb hx)
    exact hn (zt_dj h hb hx hy hv (z v hv))
  have bnb : b ∉ rg b := fun z => nbk b z (fun w hw => hw)
  have hfb : f ∈ rg b := (rbm f).mp (by simp)
  have kbs : ∀ x, x ∈ rg b → bs2 x = bs1 x := fun x hx => b4 x (fun c hc => by
    by_cases q : x = c
    · exact Or.inl q
    · exact Or.inr (nkk x c hx ((inf c).mp hc).1 q))
  have hnd := List.nodup_cons.mp r6
  -- pairs with their links
  have prs : zl_pr (fun x y => zt_P mt1 bs1 nf nt x y ∧ zt_R E ms nx nf nt x y) (B ++ A) := by
    have k2 := zl_lk_pr (B ++ A) r5 f r4
    have gen : ∀ l : List Nat, zl_pr (zt_P mt1 bs1 nf nt) l → zl_pr (zt_R E ms nx nf nt) l → zl_pr (fun x y => zt_P mt1 bs1 nf nt x y ∧ zt_R E ms nx nf nt x y) l :=
      zl_ind2 (fun _ _ => trivial) (fun _ z _ => z) (fun x y l ih p q => ⟨⟨p.1, q.1⟩, ih p.2 q.2⟩)
    exact gen _ s2 k2
  have kin : ∀ x, x ∈ rg b → ms x (bs1 x) = true := fun x hx => by
    rcases List.mem_cons.mp ((rbm x).mpr hx) with q | q
    · subst q; rw [s1]; exact hf
    · obtain ⟨w, _, _, z | z⟩ := zl_pr_mem _ prs hnd.2 x q
      · rw [z.1.1]; exact z.2.2.1
      · rw [z.1.2.1]; exact z.2.2.2.1
  refine ⟨fun x c => (b1 x c).trans (r1 x c), b2, ?_, ?_, ?_, ?_⟩
  · intro x hx
    have hxb := hx b (by simp)
    have n : x ≠ b := fun z => hxb (by rw [z]; exact fun w hw => hw)
    rw [b3 x (fun c hc z => hxb (fun w hw => ksub c ((inf c).mp hc).1 w (z w hw))), zu_n n]
  · intro x hx
    have hxb := hx b (by simp)
    have n : x ∉ rg b := fun z => by
      rcases hxb with q | q
      · subst q; exact bnb z
      · exact q (ksub x z)
    rw [b4 x (fun c hc => Or.inr (fun z => by
      have hc' := ((inf c).mp hc).1
      rcases hxb with q | q
      · subst q; exact nbk c hc' z
      · exact q (fun w hw => ksub c hc' w (z w hw)))), s3 x n]
  · intro v hv
    have hvb := hv b (by simp)
    have off : ∀ z, z ∈ B ++ A → ¬ ms z v = true := fun z hz q => by
      have hzb : z ∈ rg b := (rbm z).mp (by simp at hz ⊢; exact Or.inr hz)
      rcases hvb with w | w
      · exact w (ksub z hzb v q)
      · subst w
        have := zt_dj h hb hzb hfb q hf
        subst this
        exact hnd.1 hz
    rw [b5 v (fun c hc => ?_), s4 v off]
    have hc' := ((inf c).mp hc).1
    rcases List.mem_cons.mp ((rbm c).mpr hc') with q | q
    · subst q
      rcases hvb with w | w
      · exact Or.inl (fun z => w (ksub c hc' v z))
      · exact Or.inr (w.trans s1.symm)
    · exact Or.inl (off c q)
  · intro c hc
    simp at hc
    subst hc
    intro y hy hs
    have hy' : zt_lv rg y := (zr_lv (fun x c => (b1 x c).trans (r1 x c)) y).mp hy
    by_cases q : y = c
    · subst q
      have e2 : bs2 y = bs y := by
        rw [b4 y (fun d hd => Or.inr (nbk d ((inf d).mp hd).1)), s3 y bnb]
      rw [e2]
      refine ⟨hbs, fun _ d t ed => ?_⟩
      rw [b3 y (fun d hd => nbk d ((inf d).mp hd).1), zu_s] at ed
      obtain ⟨rfl, rfl⟩ := List.cons.inj ed
      rw [e2, kbs _ hfb, s1]
      refine ⟨rfl, zl_pr_mono _ (fun x z hx hz p => ?_) prs⟩
      obtain ⟨⟨p1, p2, p3, p4⟩, o1, o2, o3, o4⟩ := p
      have hxb : x ∈ rg y := (rbm x).mp (by simp at hx ⊢; exact Or.inr hx)
      have hzb : z ∈ rg y := (rbm z).mp (by simp at hz ⊢; exact Or.inr hz)
      have m1 : mt2 (nf x) = mt1 (nf x) := b5 _ (fun c hc => by
        by_cases w : c = x
        · subst w; exact Or.inr p1.symm
        · exact Or.inl (fun z => w (zt_dj h hb ((inf c).mp hc).1 hxb z o2)))
      have m2 : mt2 (nt x) = mt1 (nt x) := b5 _ (fun c hc => by
        by_cases w : c = z
        · subst w; exact Or.inr p2.symm
        · exact Or.inl (fun q => w (zt_dj h hb ((inf c).mp hc).1 hzb q o3)))
      unfold zt_P
      rw [kbs x hxb, kbs z hzb, m1, m2]
      exact ⟨p1, p2, p3, p4⟩
    · obtain ⟨d, hd, hyd⟩ := zt_inkid h hb hy' q hs
      rcases zt_kid h hb hd with w | w
      · have := zt_one h hy' w hyd
        subst this
        rw [kbs y hd]
        refine ⟨kin y hd, fun ha => ?_⟩
        have := (zt_al_iff.mp ha).1
        omega
      · exact b6 d ((inf d).mpr ⟨hd, w⟩) y hy hyd
/-- THE RUN of the stack, over any loop W that takes the step -/
theorem zr_run {W : Nat → Nat → (Nat → Nat) → (Nat → Nat) → (Nat → List Nat) → List Nat → Prop}
    (hstep : ∀ n i bs mt rg R b, zt_A ms rg → zt_Lnk E ms nx nf nt rg → zt_al rg b = true → ms b (bs b) = true → i < 16 → (R.length : Int) + zd_cd ms b ≤ 10 →
      (∀ f A B bs1 mt1, rg b = A ++ f :: B → ms f (bs b) = true → bs1 f = bs b → zl_pr (zt_P mt1 bs1 nf nt) (B ++ A) → (∀ z, z ∉ rg b → bs1 z = bs z) →
        (∀ v, (∀ z, z ∈ B ++ A → ¬ ms z v = true) → mt1 v = mt v) → W n (i + 1) bs1 mt1 (zu_U rg b (f :: (B ++ A))) (R ++ (f :: (B ++ A)).filter (zt_al rg))) →
      W (n + 1) i bs mt rg (R ++ [b])) :
    ∀ N : Nat, ∀ (cs R : List Nat) (n i : Nat) (bs mt : Nat → Nat) (rg : Nat → List Nat), zl_sum (fun c => zd_cd ms c - 1) cs ≤ N → zt_A ms rg → zt_Lnk E ms nx nf nt rg → (∀ c, c ∈ cs → zt_al rg c = true ∧ ms c (bs c) = true) →
      (∀ c d, c ∈ cs → d ∈ cs → c ≠ d → zr_dis ms c d) → cs.Nodup → (R.length : Int) + zl_sum (zd_cd ms) cs ≤ 10 → 2 * (i : Int) + zl_sum (fun c => zd_cd ms c - 1) cs ≤ 31 → 17 ≤ n + i →
      (∀ (bs' mt' : Nat → Nat) (rg' : Nat → List Nat) (n' i' : Nat), zr_RB E nx nf nt ms cs bs mt rg bs' mt' rg' → n' + i' = n + i → 2 * (i' : Int) ≤ 2 * i + zl_sum (fun c => zd_cd ms c - 1) cs → W n' i' bs' mt' rg' R) →
      W n i bs mt rg (R ++ cs) := by
  intro N
  induction N with
  | zero =>
    intro cs R n i bs mt rg hN h hL hcs _ _ _ _ _ K
    cases cs with
    | nil =>
      rw [List.append_nil]
      exact K bs mt rg n i (zr_refl h hL (fun c hc => by simp at hc)) rfl (by show 2 * (i : Int) ≤ 2 * i + 0; omega)
    | cons c cs =>
      exfalso
      have hc := hcs c (by simp)
      have h1 := zl_sum_len (f := zd_cd ms) (rg c) (fun d hd => zt_cd1 h (zt_kid h hc.1 hd))
      rw [← zt_cdsum h hc.1] at h1
      obtain ⟨d, t, e, _, h2, _⟩ := zt_ring h hc.1
      rw [e] at h1
      simp only [List.length_cons] at h1
      have h3 : 0 ≤ zl_sum (fun c => zd_cd ms c - 1) cs := by
        have : ∀ L : List Nat, (∀ d, d ∈ L → zt_al rg d = true) → 0 ≤ zl_sum (fun c => zd_cd ms c - 1) L := by
          intro L
          induction L with
          | nil => intro _; exact Int.le_refl _
          | cons d L ih =>
            intro hd
            have a := ih (fun x hx => hd x (by simp [hx]))
            have b := zt_cd1 h (Or.inr (hd d (by simp)))
            show 0 ≤ zd_cd ms d - 1 + zl_sum (fun c => zd_cd ms c - 1) L
            omega
        exact this cs (fun d hd => (hcs d (by simp [hd])).1)
      have h4 : zd_cd ms c - 1 + zl_sum (fun c => zd_cd ms c - 1) cs ≤ ((0 : Nat) : Int) := hN
      omega
  | succ N ih =>
    intro cs R n i bs mt rg hN h hL hcs hdis hnd hR hi hn K
    rcases List.eq_nil_or_concat cs with e | ⟨cs0, b, e⟩
    · subst e
      rw [List.append_nil]
      exact K bs mt rg n i (zr_refl h hL (fun c hc => by simp at hc)) rfl (by show 2 * (i : Int) ≤ 2 * i + 0; omega)
    · rw [List.concat_eq_append] at e
      subst e
      have hb := hcs b (by simp)
      rw [zl_sum_app] at hN hi hR
      have hNb : zl_sum (fun c => zd_cd ms c - 1) [b] = zd_cd ms b - 1 := by show zd_cd ms b - 1 + 0 = _; omega
      have hRb : zl_sum (zd_cd ms) [b] = zd_cd ms b := by show zd_cd ms b + 0 = _; omega
      rw [hNb] at hN hi
      rw [hRb] at hR
      have hnn : ∀ L : List Nat, (∀ d, d ∈ L → zt_lv rg d) → 0 ≤ zl_sum (fun c => zd_cd ms c - 1) L := by
        intro L
        induction L with
        | nil => intro _; exact Int.le_refl _
        | cons d L ih =>
          intro hd
          have a := ih (fun x hx => hd x (by simp [hx]))
          have b := zt_cd1 h (hd d (by simp))
          show 0 ≤ zd_cd ms d - 1 + zl_sum (fun c => zd_cd ms c - 1) L
          omega
      have h00 := hnn cs0 (fun d hd => Or.inr (hcs d (by simp [hd])).1)
      have hlen0 := zl_sum_len (f := zd_cd ms) cs0 (fun d hd => zt_cd1 h (Or.inr (hcs d (by simp [hd])).1))
      have hcdb := zt_cd1 h (Or.inr hb.1)
      obtain ⟨n, rfl⟩ : ∃ n', n = n' + 1 := ⟨n - 1, by omega⟩
      rw [← List.append_assoc]
      refine hstep n i bs mt rg (R ++ cs0) b h hL hb.1 hb.2 (by omega) (by simp only [List.length_append]; omega) ?_
      intro f A B bs1 mt1 e q1 q2 q3 q4 q5
      obtain ⟨r1, r2, r3, r4, r5, r6⟩ := zr_turn h hL hb.1 e
      have rbm : ∀ x, x ∈ f :: (B ++ A) ↔ x ∈ rg b := fun x => by
        have := r1 b x
        rw [zu_s] at this
        exact this
      have hkid : ∀ x, x ∈ f :: (B ++ A) → zt_lv rg x := fun x hx => zt_kid h hb.1 ((rbm x).mp hx)
      have hsum : zl_sum (zd_cd ms) (f :: (B ++ A)) = zd_cd ms b := by
        have := zt_cdsum r2 (by rw [zr_al r1]; exact hb.1)
        rw [zu_s] at this
        exact this.symm
      have hs1 : zl_sum (fun c => zd_cd ms c - 1) (f :: (B ++ A)) = zd_cd ms b - (f :: (B ++ A)).length := by
        have : ∀ L : List Nat, zl_sum (fun c => zd_cd ms c - 1) L = zl_sum (zd_cd ms) L - L.length := by
          intro L
          induction L with
          | nil => rfl
          | cons d L ih =>
            show zd_cd ms d - 1 + zl_sum (fun c => zd_cd ms c - 1) L = zd_cd ms d + zl_sum (zd_cd ms) L - ((L.length + 1 : Nat) : Int)
            rw [ih]; omega
        rw [this, hsum]
      have hf1 := zl_sum_filter (f := fun c => zd_cd ms c - 1) (q := zt_al rg) (f :: (B ++ A)) (fun c hc => by have := zt_cd1 h (hkid c hc); omega)
      have hf2 := zl_sum_filter (f := zd_cd ms) (q := zt_al rg) (f :: (B ++ A)) (fun c hc => zt_cd0 c)
      have hlen3 : 3 ≤ (f :: (B ++ A)).length := by
        obtain ⟨d, t, e', _, h2, _⟩ := zt_ring h hb.1
        have := congrArg List.length (e'.symm.trans e)
        simp at this ⊢
        omega
      have ho := hnn (f :: (B ++ A)) hkid
      -- the children's blossoms
      refine ih ((f :: (B ++ A)).filter (zt_al rg)) (R ++ cs0) n (i + 1) bs1 mt1 (zu_U rg b (f :: (B ++ A))) (by omega) r2 r3 ?_ ?_ (r6.filter _) (by simp only [List.length_append]; omega) (by omega) (by omega) ?_
      · intro c hc
        rw [List.mem_filter] at hc
        rw [zr_al r1]
        refine ⟨hc.2, ?_⟩
        have hnd := List.nodup_cons.mp r6
        rcases List.mem_cons.mp hc.1 with w | w
        · subst w; rw [q2]; exact q1
        · have k2 := zl_lk_pr (B ++ A) r5 f r4
          have gen : ∀ l : List Nat, zl_pr (zt_P mt1 bs1 nf nt) l → zl_pr (zt_R E ms nx nf nt) l → zl_pr (fun x y => zt_P mt1 bs1 nf nt x y ∧ zt_R E ms nx nf nt x y) l :=
            zl_ind2 (fun _ _ => trivial) (fun _ z _ => z) (fun x y l ih p q => ⟨⟨p.1, q.1⟩, ih p.2 q.2⟩)
          obtain ⟨w', _, _, z | z⟩ := zl_pr_mem _ (gen _ q3 k2) hnd.2 c w
          · rw [z.1.1]; exact z.2.2.1
          · rw [z.1.2.1]; exact z.2.2.2.1
      · intro c d hc hd hcd v hv hv'
        rw [List.mem_filter] at hc hd
        exact hcd (zt_dj h hb.1 ((rbm c).mp hc.1) ((rbm d).mp hd.1) hv hv')
      · intro bs2 mt2 rg2 n2 i2 hRB hn2 hi2
        have st := zr_step h hL hb.1 e hb.2 q1 q2 q3 q4 q5 hRB
        have hd0 : ∀ c, c ∈ cs0 → c ≠ b ∧ zr_dis ms c b := fun c hc => by
          have n : c ≠ b := fun z => by
            have := List.nodup_append.mp hnd
            exact this.2.2 c hc b (by simp) z
          exact ⟨n, hdis c b (by simp [hc]) (by simp) n⟩
        refine ih cs0 R n2 i2 bs2 mt2 rg2 (by omega) st.2.1.1 st.2.1.2 ?_ (fun c d hc hd => hdis c d (by simp [hc]) (by simp [hd])) (List.nodup_append.mp hnd).1 (by omega) (by omega) (by omega) ?_
        · intro c hc
          have hc' := hcs c (by simp [hc])
          rw [zr_al st.1]
          refine ⟨hc'.1, ?_⟩
          rw [st.2.2.2.1 c (fun d hd => Or.inr (by
            simp at hd; subst hd
            exact zr_dsub h (hd0 c hc).2 (Or.inr hc'.1) (fun w hw => hw)))]
          exact hc'.2
        · intro bs3 mt3 rg3 n3 i3 hRB3 hn3 hi3
          refine K bs3 mt3 rg3 n3 i3 (zr_comp h (Or.inr hb.1) (fun d hd => ⟨Or.inr (hcs d (by simp [hd])).1, fun v p q => (hd0 d hd).2 v q p⟩) st hRB3) (by omega) ?_
          rw [zl_sum_app, hNb]
          omega
end
end
section
/-! an augmentation -/
theorem zl_pr_ne {P : Nat → Nat → Prop} : ∀ l, zl_pr P l → l.Nodup → zl_pr (fun x y => P x y ∧ x ≠ y) l :=
  zl_ind2 (fun _ _ => trivial) (fun _ h _ => h) (fun x y l ih h hn => by
    have hxy : x ≠ y := by intro e; subst e; simp at hn
    exact ⟨⟨h.1, hxy⟩, ih h.2 (by simp at hn; exact hn.2.2)⟩)
section
variable {E : Nat → Nat → Prop} {nx nf nt : Nat → Nat} {ms : Nat → Nat → Bool}
def zr_FS (E : Nat → Nat → Prop) (nx nf nt : Nat → Nat) (ms : Nat → Nat → Bool) (P : List Nat) (bs mt : Nat → Nat) (rg : Nat → List Nat) (bs' mt' : Nat → Nat) (rg' : Nat → List Nat) : Prop :=
  (∀ x c, c ∈ rg' x ↔ c ∈ rg x) ∧ (zt_A ms rg' ∧ zt_Lnk E ms nx nf nt rg') ∧
  (∀ x, (∀ p, p ∈ P → ¬ zr_sub ms x p) → rg' x = rg x ∧ bs' x = bs x) ∧
  (∀ v, (∀ p, p ∈ P → ¬ ms p v = true) → mt' v = mt v) ∧
  (∀ p, p ∈ P → zt_Good mt' bs' nf nt ms rg' p)
/-- the partner of a node's own base doesn't matter inside -/
theorem zr_gmt {bs mt : Nat → Nat} {rg : Nat → List Nat} (h : zt_A ms rg) {x far : Nat} (hx : zt_lv rg x) (hg : zt_Good mt bs nf nt ms rg x) : zt_Good (zu_U mt (bs x) far) bs nf nt ms rg x := by
  intro y hy hs
  refine ⟨(hg y hy hs).1, fun ha c t e => ?_⟩
  obtain ⟨q1, q2⟩ := (hg y hy hs).2 ha c t e
  refine ⟨q1, ?_⟩
  obtain ⟨c', t', e', _, _, hnd⟩ := zt_ring h ha
  rw [e] at e'
  obtain ⟨rfl, rfl⟩ := List.cons.inj e'
  refine zl_pr_mono t (fun a b ha' hb' q => ?_) (zl_pr_ne t q2 (List.nodup_cons.mp hnd).2)
  obtain ⟨⟨p1, p2, p3, p4⟩, hne⟩ := q
  have hay : a ∈ rg y := by rw [e]; simp [ha']
  have hby : b ∈ rg y := by rw [e]; simp [hb']
  have ka := (hg a (zt_kid h ha hay) (fun w hw => hs w (zt_sub h ha hay hw))).1
  have kb := (hg b (zt_kid h ha hby) (fun w hw => hs w (zt_sub h ha hby hw))).1
  have hab : nf a ≠ nt a := fun z => by
    rw [p1, z, ← p2] at ka
    exact hne (zt_dj h ha hay hby ka kb)
  have MI := zt_MI h (T := fun _ _ => True) (fun _ _ _ _ => ⟨trivial, trivial⟩) hg x hx (fun w hw => hw)
  have n1 : nf a ≠ bs x := fun z => by
    have := (MI (nt a) (by rw [← p2]; exact hs _ (zt_sub h ha hby kb)) (fun w => hab (z.trans w.symm))).2.2.2.1
    rw [p4] at this
    exact this z
  have n2 : nt a ≠ bs x := fun z => by
    have := (MI (nf a) (by rw [← p1]; exact hs _ (zt_sub h ha hay ka)) n1).2.2.2.1
    rw [p3] at this
    exact this z
  unfold zt_P
  rw [zu_n n1, zu_n n2]
  exact ⟨p1, p2, p3, p4⟩
theorem zr_FS1 {bs mt bs1 mt1 : Nat → Nat} {rg rg1 : Nat → List Nat} {x near far : Nat} (h : zt_A ms rg) (hx : zt_lv rg x) (hn : ms x near = true)
    (hR : zr_RB E nx nf nt ms [x] (zu_U bs x near) mt rg bs1 mt1 rg1) : zr_FS E nx nf nt ms [x] bs mt rg bs1 (zu_U mt1 near far) rg1 ∧ bs1 x = near ∧ zu_U mt1 near far near = far := by
  obtain ⟨a1, ⟨a2, a2'⟩, a3, a4, a5, a6⟩ := hR
  have e : bs1 x = near := by rw [a4 x (fun c hc => Or.inl (by simp at hc; exact hc.symm))]; exact zu_s
  refine ⟨⟨a1, ⟨a2, a2'⟩, ?_, ?_, ?_⟩, e, zu_s⟩
  · intro y hy
    refine ⟨a3 y hy, ?_⟩
    rw [a4 y (fun c hc => Or.inr (hy c hc))]
    exact zu_n (fun z => hy x (by simp) (by rw [z]; exact fun w hw => hw))
  · intro v hv
    have hv' := hv x (by simp)
    rw [zu_n (fun z => hv' (by rw [z]; exact hn)), a5 v (fun c hc => Or.inl (hv c hc))]
  · intro p hp
    simp at hp
    subst hp
    have := zr_gmt (far := far) a2 ((zr_lv a1 p).mpr hx) (a6 p (by simp))
    rw [e] at this
    exact this
theorem zr_FSc {bs mt bs1 mt1 bs2 mt2 : Nat → Nat} {rg rg1 rg2 : Nat → List Nat} {P Q : List Nat}
    (hd : ∀ p q, p ∈ P → q ∈ Q → zr_dis ms p q) (h1 : zr_FS E nx nf nt ms P bs mt rg bs1 mt1 rg1) (h2 : zr_FS E nx nf nt ms Q bs1 mt1 rg1 bs2 mt2 rg2) :
    zr_FS E nx nf nt ms (P ++ Q) bs mt rg bs2 mt2 rg2 := by
  obtain ⟨a1, ⟨a2, a2'⟩, a3, a4, a5⟩ := h1
  obtain ⟨b1, ⟨b2, b2'⟩, b3, b4, b5⟩ := h2
  refine ⟨fun x c => (b1 x c).trans (a1 x c), ⟨b2, b2'⟩, ?_, ?_, ?_⟩
  · intro x hx
    have q1 := a3 x (fun p hp => hx p (by simp [hp]))
    have q2 := b3 x (fun p hp => hx p (by simp [hp]))
    exact ⟨q2.1.trans q1.1, q2.2.trans q1.2⟩
  · intro v hv
    rw [b4 v (fun p hp => hv p (by simp [hp])), a4 v (fun p hp => hv p (by simp [hp]))]
  · intro p hp
    rcases List.mem_append.mp hp with hp | hp
    · exact zr_gcongr a2 (fun x => zr_al b1 x) (fun y hy hs => (b3 y (fun q hq => zr_dsub a2 (hd p q hp hq) hy hs)).1)
        (fun y hy hs => (b3 y (fun q hq => zr_dsub a2 (hd p q hp hq) hy hs)).2) (fun v hv => b4 v (fun q hq z => hd p q hp hq v hv z)) (a5 p hp)
    · exact b5 p hp
/-- bases and partners along a flipped way -/
def zr_BM (uf ut bs' mt' : Nat → Nat) : Nat → Nat → Nat → List Nat → Prop
  | x, near, far, [] => bs' x = near ∧ mt' near = far
  | _, _, _, [_] => False
  | x, near, far, y :: z :: l => bs' x = near ∧ mt' near = far ∧ bs' y = uf y ∧ mt' (uf y) = ut y ∧ zr_BM uf ut bs' mt' z (ut y) (uf y) l
theorem zr_BMall {uf ut bs' mt' tp : Nat → Nat} {T : Nat → Nat → Prop} : ∀ l : List Nat, ∀ x near far, zr_BM uf ut bs' mt' x near far l → T near far → mt' far = near →
    (∀ y, y ∈ l → ut y < 10 → T (uf y) (ut y) ∧ T (ut y) (uf y)) → zf_UP tp ut x l → ∀ p, p ∈ x :: l → T (bs' p) (mt' (bs' p)) ∧ mt' (mt' (bs' p)) = bs' p :=
  zl_ind2
    (fun x near far hB hT hm _ _ p hp => by
      simp at hp; subst hp
      obtain ⟨b1, b2⟩ := hB
      rw [b1, b2]; exact ⟨hT, hm⟩)
    (fun _ _ _ _ hB => hB.elim)
    (fun y z l ih x near far hB hT hm hE hU p hp => by
      obtain ⟨b1, b2, b3, b4, b5⟩ := hB
      obtain ⟨_, _, u3, u4, u5⟩ := hU
      have hz : bs' z = ut y ∧ mt' (ut y) = uf y := by
        cases l with
        | nil => exact b5
        | cons a l => cases l with
          | nil => exact b5.elim
          | cons b l => exact ⟨b5.1, b5.2.1⟩
      obtain ⟨e1, e2⟩ := hE y (by simp) u3
      rcases List.mem_cons.mp hp with q | hp
      · subst q; rw [b1, b2]; exact ⟨hT, hm⟩
      · rcases List.mem_cons.mp hp with q | hp
        · subst q; rw [b3, b4]; exact ⟨e1, hz.2⟩
        · exact ih z (ut y) (uf y) b5 e2 b4 (fun a ha => hE a (by simp [ha])) u5 p hp)
/-- after a later step that leaves a way alone -/
theorem zr_BMcongr {uf ut bs1 mt1 bs2 mt2 : Nat → Nat} : ∀ l : List Nat, ∀ x near far, (∀ p, p ∈ x :: l → bs2 p = bs1 p ∧ mt2 (bs1 p) = mt1 (bs1 p)) → zr_BM uf ut bs1 mt1 x near far l → zr_BM uf ut bs2 mt2 x near far l :=
  zl_ind2
    (fun x near far hc hB => by
      obtain ⟨b1, b2⟩ := hB
      obtain ⟨c1, c2⟩ := hc x (by simp)
      rw [b1] at c1 c2
      exact ⟨c1, c2.trans b2⟩)
    (fun _ _ _ _ _ h => h)
    (fun y z l ih x near far hc hB => by
      obtain ⟨b1, b2, b3, b4, b5⟩ := hB
      obtain ⟨c1, c2⟩ := hc x (by simp)
      obtain ⟨d1, d2⟩ := hc y (by simp)
      rw [b1] at c1 c2
      rw [b3] at d1 d2
      exact ⟨c1, c2.trans b2, d1, d2.trans b4, ih z (ut y) (uf y) (fun p hp => hc p (by simp at hp ⊢; exact Or.inr (Or.inr hp))) b5⟩)
end
section
variable {E : Nat → Nat → Prop} {ky : Nat → Nat → Int} {act : Nat → Bool} {mt tp bs uf ut nx nf nt : Nat → Nat} {du lb : Nat → Int} {ms : Nat → Nat → Bool} {rg : Nat → List Nat} {rk : Nat → Nat} {lam : Int}
theorem zf_root : ∀ {l : List Nat} {x : Nat}, zf_UP tp ut x l → ∃ r, r ∈ x :: l ∧ ut r = zn_N ∧ ∀ p, p ∈ x :: l → p ≠ r → ut p < 10 := by
  intro l
  induction l with
  | nil => intro x h; exact ⟨x, by simp, h, fun p hp hn => by simp at hp; exact absurd hp hn⟩
  | cons y l ih =>
    intro x h
    obtain ⟨r, hr, h1, h2⟩ := ih h.2.2
    refine ⟨r, by simp at hr ⊢; exact Or.inr hr, h1, fun p hp hn => ?_⟩
    rcases List.mem_cons.mp hp with q | hp
    · subst q; exact h.1
    · exact h2 p hp hn
/-- parents along a way, and the outer child of an inner node -/
theorem zf_par : ∀ {l : List Nat} {x p : Nat}, zf_UP tp ut x l → p ∈ x :: l → ut p < 10 → tp (ut p) ∈ x :: l := by
  intro l
  induction l with
  | nil =>
    intro x p h hp hu
    simp at hp
    subst hp
    have : ut p = zn_N := h
    rw [this] at hu
    exact absurd hu (by decide)
  | cons y l ih =>
    intro x p h hp hu
    rcases List.mem_cons.mp hp with q | hp
    · subst q; rw [h.2.1]; simp
    · have := ih h.2.2 hp hu
      simp at this ⊢
      exact Or.inr this
theorem zf_kid : ∀ {l : List Nat} {x q : Nat}, zf_UP tp ut x l → q ∈ l → ∃ z, z ∈ x :: l ∧ ut z < 10 ∧ tp (ut z) = q := by
  intro l x q h hq
  obtain ⟨p, hp, r⟩ := zl_ch_pred (zf_ch h) q hq
  exact ⟨p, hp, r.1, r.2⟩
theorem zi_aug (hG : zi_G E ky act) (h : zt_A ms rg) (hT : zt_T tp ms rg) (hL : zt_Lnk E ms nx nf nt rg) (hM : zi_M E mt bs nf nt ms rg) (hD : zi_D E ky act mt nf nt du ms rg lam)
    (hF : zi_F E act mt tp bs uf ut lb ms rg rk) (hFD : zi_FD ky tp uf ut du lb ms rg lam) {u v : Nat} {la lv : List Nat} {bs' mt' : Nat → Nat} {rg' : Nat → List Nat}
    (he : E u v) (hu : lb (tp u) = 1) (hv : lb (tp v) = 1) (hs : zd_sl ky du (zt_al rg) ms u v = 0)
    (Ua : zf_UP tp ut (tp u) la) (Ub : zf_UP tp ut (tp v) lv) (hdj : ∀ y, y ∈ tp v :: lv → y ∉ tp u :: la)
    (hFS : zr_FS E nx nf nt ms ((tp u :: la) ++ (tp v :: lv)) bs mt rg bs' mt' rg') (Ba : zr_BM uf ut bs' mt' (tp u) u v la) (Bb : zr_BM uf ut bs' mt' (tp v) v u lv) :
    zt_A ms rg' ∧ zt_T tp ms rg' ∧ zt_Lnk E ms nx nf nt rg' ∧ zi_M E mt' bs' nf nt ms rg' ∧ zi_D E ky act mt' nf nt du ms rg' lam ∧ zm_cov mt' = zm_cov mt + 2 ∧ zm_K ky mt' = zm_K ky mt + 2 * lam := by
  obtain ⟨hm, ⟨hA', hL'⟩, ho, hmo, hg⟩ := hFS
  have hal : zt_al rg' = zt_al rg := funext (fun x => zr_al hm x)
  have hlv : ∀ x, zt_lv rg' x ↔ zt_lv rg x := fun x => zr_lv hm x
  have alla : ∀ x, x ∈ tp u :: la → lb x ≠ 0 := fun x hx => by
    rcases List.mem_cons.mp hx with e | hx
    · rw [e]; omega
    · exact (zf_all hF (by omega) Ua x hx).1
  have allb : ∀ x, x ∈ tp v :: lv → lb x ≠ 0 := fun x hx => by
    rcases List.mem_cons.mp hx with e | hx
    · rw [e]; omega
    · exact (zf_all hF (by omega) Ub x hx).1
  have hP0 : ∀ x, x ∈ (tp u :: la) ++ (tp v :: lv) → lb x ≠ 0 := fun x hx => by
    rcases List.mem_append.mp hx with q | q
    · exact alla x q
    · exact allb x q
  have topP : ∀ x, x ∈ (tp u :: la) ++ (tp v :: lv) → ∀ w, ms x w = true → tp w = x := fun x hx => (hF.2.1 x (hP0 x hx)).2
  have lvP : ∀ x, x ∈ (tp u :: la) ++ (tp v :: lv) → zt_lv rg x := fun x hx => (hF.2.1 x (hP0 x hx)).1
  obtain ⟨hu10, hv10, huv, hau, hav⟩ := hG.1 u v he
  -- parent and outer child stay on the ways
  have parP : ∀ p, p ∈ (tp u :: la) ++ (tp v :: lv) → ut p < 10 → tp (ut p) ∈ (tp u :: la) ++ (tp v :: lv) := fun p hp hup => by
    rcases List.mem_append.mp hp with q | q
    · exact List.mem_append.mpr (Or.inl (zf_par Ua q hup))
    · exact List.mem_append.mpr (Or.inr (zf_par Ub q hup))
  have kidP : ∀ q, q ∈ (tp u :: la) ++ (tp v :: lv) → lb q = -1 → tp (mt (bs q)) ∈ (tp u :: la) ++ (tp v :: lv) := fun q hq hl => by
    have gen : ∀ (x : Nat) (l : List Nat), lb x = 1 → zf_UP tp ut x l → (∀ y, y ∈ x :: l → lb y ≠ 0) → q ∈ x :: l → tp (mt (bs q)) ∈ x :: l := by
      intro x l hx hU hall hq
      rcases List.mem_cons.mp hq with e | hq
      · subst e; omega
      · obtain ⟨z, hz, z1, z2⟩ := zf_kid hU hq
        have s := (zf_step hF (hall z hz) z1).1
        rw [z2] at s
        have := (zf_pair h hM hF (x := z) (by omega) z1).2.2.2.2
        rw [z2] at this
        rw [← this]; exact hz
    rcases List.mem_append.mp hq with w | w
    · exact List.mem_append.mpr (Or.inl (gen _ _ hu Ua alla w))
    · exact List.mem_append.mpr (Or.inr (gen _ _ hv Ub allb w))
  -- a vertex off the ways has its partner off the ways
  have offP : ∀ w, w < 10 → tp w ∉ (tp u :: la) ++ (tp v :: lv) → tp (mt w) ∉ (tp u :: la) ++ (tp v :: lv) := fun w hw hn hq => by
    by_cases e : tp (mt w) = tp w
    · exact hn (e ▸ hq)
    · have hm10 := (hM.1 w hw).1
      have hmm := (hM.1 w hw).2.1
      have hb : mt w = bs (tp (mt w)) := zi_bs h hT hM hm10 (by rw [hmm]; exact fun z => e z.symm)
      have hmb : mt (bs (tp (mt w))) = w := by rw [← hb]; exact hmm
      rcases hF.1 (tp (mt w)) with l | l | l
      · exact hP0 _ hq l
      · obtain ⟨_, b | b⟩ := hF.2.2.1 _ l
        · rw [hmb, ← hb] at b
          exact e (by rw [← b.2.1])
        · have := parP _ hq b.1
          rw [← b.2.1, hmb] at this
          exact hn this
      · have := kidP _ hq l
        rw [hmb] at this
        exact hn this
  have nsub : ∀ y w, zt_lv rg y → ms y w = true → tp w ∉ (tp u :: la) ++ (tp v :: lv) → ∀ p, p ∈ (tp u :: la) ++ (tp v :: lv) → ¬ zr_sub ms y p := fun y w hy hw hn p hp z =>
    hn (by rw [topP p hp w (z w hw)]; exact hp)
  have mtoff : ∀ w, w < 10 → tp w ∉ (tp u :: la) ++ (tp v :: lv) → mt' w = mt w := fun w hw hn => hmo w (fun p hp z => hn (by rw [topP p hp w z]; exact hp))
  -- edges that are tight
  have hTs : ∀ a b, (E a b ∧ zd_sl ky du (zt_al rg) ms a b = 0) → (E b a ∧ zd_sl ky du (zt_al rg) ms b a = 0) := fun a b q => ⟨hG.2.1 _ _ q.1, by rw [zd_slsym hG]; exact q.2⟩
  have hTr : ∀ b, zt_al rg' b = true → ∀ x, x ∈ rg' b → (E (nf x) (nt x) ∧ zd_sl ky du (zt_al rg) ms (nf x) (nt x) = 0) ∧ (E (nt x) (nf x) ∧ zd_sl ky du (zt_al rg) ms (nt x) (nf x) = 0) := fun b hb x hx => by
    rw [hal] at hb
    rw [hm] at hx
    have q : E (nf x) (nt x) ∧ zd_sl ky du (zt_al rg) ms (nf x) (nt x) = 0 := ⟨(zt_links h hL hb hx).2.2.2, hD.2.2.2.2.2.1 b hb x hx⟩
    exact ⟨q, hTs _ _ q⟩
  have hTe : ∀ y, lb y ≠ 0 → ut y < 10 → (E (uf y) (ut y) ∧ zd_sl ky du (zt_al rg) ms (uf y) (ut y) = 0) ∧ (E (ut y) (uf y) ∧ zd_sl ky du (zt_al rg) ms (ut y) (uf y) = 0) := fun y hl hy => by
    obtain ⟨_, _, e3, e4⟩ := zf_edge h hT hM hD hF hFD hl hy
    exact ⟨⟨e3, e4⟩, hTs _ _ ⟨e3, e4⟩⟩
  have first : ∀ (x near far : Nat) (l : List Nat), zr_BM uf ut bs' mt' x near far l → mt' near = far := by
    intro x near far l hB
    cases l with
    | nil => exact hB.2
    | cons a l => cases l with
      | nil => exact hB.elim
      | cons b l => exact hB.2.1
  have baseP : ∀ p, p ∈ (tp u :: la) ++ (tp v :: lv) → (E (bs' p) (mt' (bs' p)) ∧ zd_sl ky du (zt_al rg) ms (bs' p) (mt' (bs' p)) = 0) ∧ mt' (mt' (bs' p)) = bs' p := fun p hp => by
    rcases List.mem_append.mp hp with q | q
    · exact zr_BMall (tp := tp) (T := fun a b => E a b ∧ zd_sl ky du (zt_al rg) ms a b = 0) la (tp u) u v Ba ⟨he, hs⟩ (first _ _ _ _ Bb) (fun y hy hy' => hTe y (alla y (by simp [hy])) hy') Ua p q
    · exact zr_BMall (tp := tp) (T := fun a b => E a b ∧ zd_sl ky du (zt_al rg) ms a b = 0) lv (tp v) v u Bb (hTs _ _ ⟨he, hs⟩) (first _ _ _ _ Ba) (fun y hy hy' => hTe y (allb y (by simp [hy])) hy') Ub p q
  have onP : ∀ w, w < 10 → tp w ∈ (tp u :: la) ++ (tp v :: lv) → mt' w < 10 ∧ mt' (mt' w) = w ∧ mt' w ≠ w ∧ E w (mt' w) ∧ zd_sl ky du (zt_al rg) ms w (mt' w) = 0 := fun w hw hp => by
    by_cases e : w = bs' (tp w)
    · obtain ⟨⟨b1, b2⟩, b3⟩ := baseP _ hp
      rw [← e] at b1 b2 b3
      obtain ⟨_, g2, g3, _⟩ := hG.1 _ _ b1
      exact ⟨g2, b3, fun z => g3 z.symm, b1, b2⟩
    · obtain ⟨i1, i2, i3, i4, i5⟩ := zt_MI hA' (T := fun a b => E a b ∧ zd_sl ky du (zt_al rg) ms a b = 0) hTr (hg _ hp) (tp w) ((hlv _).mpr (zt_tlv hT hw)) (fun _ q => q) w (zt_tms hT hw) e
      exact ⟨zt_lt h i1, i3, i2, i5.1, i5.2⟩
  have hT' : zt_T tp ms rg' := ⟨fun w hw => ⟨(hlv _).mpr (zt_tlv hT hw), zt_tms hT hw⟩, fun x a b hx => zt_teq hT ((hlv x).mp hx)⟩
  have hM' : zi_M E mt' bs' nf nt ms rg' := by
    refine ⟨fun w hw => ?_, fun y hy => ?_⟩
    · by_cases q : tp w ∈ (tp u :: la) ++ (tp v :: lv)
      · obtain ⟨o1, o2, _, o4, _⟩ := onP w hw q
        exact ⟨o1, o2, fun _ => o4⟩
      · have q' := offP w hw q
        obtain ⟨m1, m2, m3⟩ := hM.1 w hw
        rw [mtoff w hw q, mtoff _ m1 q']
        exact ⟨m1, m2, m3⟩
    · have hy' := (hlv y).mp hy
      obtain ⟨w, hw⟩ := zt_ne h hy'
      have hw10 := zt_lt h hw
      have hsub : zr_sub ms y (tp w) := fun a ha => by
        rw [zt_teq hT hy' hw ha]; exact zt_tms hT (zt_lt h ha)
      by_cases q : tp w ∈ (tp u :: la) ++ (tp v :: lv)
      · exact hg _ q y hy hsub
      · have hgo : zt_Good mt' bs' nf nt ms rg' (tp w) := by
          refine zr_gcongr h (fun x => zr_al hm x) (fun z hz hzs => ?_) (fun z hz hzs => ?_) (fun a ha => ?_) (zi_good hM (tp w))
          · obtain ⟨a, ha⟩ := zt_ne h hz
            exact (ho z (nsub z a hz ha (by rw [zt_tof h hT hw10 (hzs a ha)]; exact q))).1
          · obtain ⟨a, ha⟩ := zt_ne h hz
            exact (ho z (nsub z a hz ha (by rw [zt_tof h hT hw10 (hzs a ha)]; exact q))).2
          · exact mtoff a (zt_lt h ha) (by rw [zt_tof h hT hw10 ha]; exact q)
        exact hgo y hy hsub
  have hD' : zi_D E ky act mt' nf nt du ms rg' lam := by
    unfold zi_D
    rw [hal]
    refine ⟨hD.1, ?_, hD.2.2.1, hD.2.2.2.1, ?_, ?_, hD.2.2.2.2.2.2⟩
    · intro w hw hn
      by_cases q : tp w ∈ (tp u :: la) ++ (tp v :: lv)
      · exact (onP w hw q).2.2.2.2
      · rw [mtoff w hw q] at hn ⊢
        exact hD.2.1 w hw hn
    · intro w hw ha hf
      by_cases q : tp w ∈ (tp u :: la) ++ (tp v :: lv)
      · exact absurd hf (onP w hw q).2.2.1
      · rw [mtoff w hw q] at hf
        exact hD.2.2.2.2.1 w hw ha hf
    · intro b hb x hx
      rw [hm] at hx
      exact hD.2.2.2.2.2.1 b hb x hx
  have hcov : zm_cov mt' = zm_cov mt + 2 := by
    obtain ⟨ra, ra1, ra2, ra3⟩ := zf_root Ua
    obtain ⟨rb, rb1, rb2, rb3⟩ := zf_root Ub
    have rfree : ∀ r, lb r ≠ 0 → ut r = zn_N → mt (bs r) = bs r := fun r hl hr => by
      rcases hF.1 r with z | z | z
      · exact absurd z hl
      · obtain ⟨_, b | b⟩ := hF.2.2.1 r z
        · exact b.2.1
        · have := b.1
          rw [hr] at this
          exact absurd this (by decide)
      · have := (hF.2.2.2.1 r z).1
        rw [hr] at this
        exact absurd this (by decide)
    have nfree : ∀ r, lb r ≠ 0 → ut r < 10 → mt (bs r) ≠ bs r := fun r hl hr => by
      rcases hF.1 r with z | z | z
      · exact absurd z hl
      · obtain ⟨_, b | b⟩ := hF.2.2.1 r z
        · rw [b.1] at hr; exact absurd hr (by decide)
        · rw [b.2.1]; exact b.2.2.1
      · exact (hF.2.2.2.1 r z).2.2.2.2.2.1
    have bl : ∀ r, lb r ≠ 0 → bs r < 10 ∧ tp (bs r) = r := fun r hr => by
      obtain ⟨q1, q2⟩ := hF.2.1 r hr
      exact ⟨zt_lt h (hM.2 r q1).1, q2 _ (hM.2 r q1).1⟩
    have ba := bl ra (alla ra ra1)
    have bb := bl rb (allb rb rb1)
    have hab : ra ≠ rb := fun z => hdj rb rb1 (z ▸ ra1)
    have hbab : bs ra ≠ bs rb := fun z => hab (by rw [← ba.2, ← bb.2, z])
    unfold zm_cov
    have key : zs_S (fun w => if mt' w = w then 0 else 1) 10 = zs_S (fun w => (if mt w = w then 0 else 1) + ((if w = bs ra then 1 else 0) + (if w = bs rb then 1 else 0))) 10 := by
      apply zs_congr
      intro w hw
      by_cases q : tp w ∈ (tp u :: la) ++ (tp v :: lv)
      · rw [if_neg (onP w hw q).2.2.1]
        by_cases e1 : w = bs ra
        · rw [e1, if_pos (rfree ra (alla ra ra1) ra2), if_pos rfl, if_neg hbab]; rfl
        · by_cases e2 : w = bs rb
          · rw [e2, if_pos (rfree rb (allb rb rb1) rb2), if_neg (fun z => hbab z.symm), if_pos rfl]; rfl
          · rw [if_neg e1, if_neg e2, if_neg]; rfl
            by_cases e3 : w = bs (tp w)
            · have hn : ut (tp w) < 10 := by
                rcases List.mem_append.mp q with z | z
                · exact ra3 _ z (fun y => e1 (by rw [← y]; exact e3))
                · exact rb3 _ z (fun y => e2 (by rw [← y]; exact e3))
              have := nfree _ (hP0 _ q) hn
              rw [← e3] at this
              exact this
            · exact (zi_in h hM (zt_tlv hT hw) (zt_tms hT hw) e3).2.1
      · have n1 : w ≠ bs ra := fun z => by
          apply q
          rw [z, ba.2]
          exact List.mem_append.mpr (Or.inl ra1)
        have n2 : w ≠ bs rb := fun z => by
          apply q
          rw [z, bb.2]
          exact List.mem_append.mpr (Or.inr rb1)
        rw [mtoff w hw q, if_neg n1, if_neg n2]; omega
    rw [key, zs_add, zs_add, zs_one _ 10 ba.1, zs_one _ 10 bb.1]
    omega
  refine ⟨hA', hT', hL', hM', hD', hcov, ?_⟩
  have m1 := zi_main hG h hM hD hM'.1
  have m2 := zi_main hG hA' hM' hD' hM.1
  rw [hcov] at m1 m2
  have e1 : lam * (zm_cov mt + 2 - zm_cov mt) = 2 * lam := by
    rw [show zm_cov mt + 2 - zm_cov mt = 2 by omega]; omega
  have e2 : lam * (zm_cov mt - (zm_cov mt + 2)) = - (2 * lam) := by
    rw [show zm_cov mt - (zm_cov mt + 2) = -2 by omega]; omega
  rw [e1] at m1
  rw [e2] at m2
  omega
end
end
section
/-! a free place, the roots, the start, the end, bounds -/
section
variable {E : Nat → Nat → Prop} {ky : Nat → Nat → Int} {act : Nat → Bool} {mt tp bs uf ut nx nf nt : Nat → Nat} {du lb : Nat → Int} {ms : Nat → Nat → Bool} {rg : Nat → List Nat} {rk : Nat → Nat} {lam : Int}
def zi_stop (mt bs : Nat → Nat) (ms : Nat → Nat → Bool) (rg : Nat → List Nat) (a b : Nat) : Prop :=
  ∃ c, c ∈ rg b ∧ ms c a = true ∧ ms b (mt a) = true ∧ ¬ ms c (mt a) = true
theorem zi_stop1 (h : zt_A ms rg) {a b b' : Nat} (hb : zt_al rg b = true) (hb' : zt_al rg b' = true) (s : zi_stop mt bs ms rg a b) (s' : zi_stop mt bs ms rg a b') : b = b' := by
  have half : ∀ b b', zt_al rg b = true → zt_al rg b' = true → zi_stop mt bs ms rg a b → zi_stop mt bs ms rg a b' → ∀ d, d ∈ rg b → (∀ w, ms b' w = true → ms d w = true) → False := by
    intro b b' hb hb' s s' d hd hsub
    obtain ⟨c, hc, c1, c2, c3⟩ := s
    obtain ⟨c', hc', d1, d2, d3⟩ := s'
    have := zt_dj h hb hd hc (hsub a (zt_sub h hb' hc' d1)) c1
    subst this
    exact c3 (hsub _ d2)
  by_cases e : b = b'
  · exact e
  · exfalso
    obtain ⟨c, hc, c1, _, _⟩ := id s
    obtain ⟨c', hc', d1, _, _⟩ := id s'
    have va := zt_sub h hb hc c1
    have va' := zt_sub h hb' hc' d1
    rcases zt_lam h hb (Or.inr hb') (fun z => e z.symm) va va' with ⟨_, w, w1, w2⟩ | ⟨d, hd, z⟩
    · rcases zt_lam h hb' (Or.inr hb) e va' va with ⟨y, _, _, _⟩ | ⟨d, hd, z⟩
      · exact w2 (y w w1)
      · exact half b' b hb' hb s' s d hd z
    · exact half b b' hb hb' s s' d hd z
theorem zi_stop2 (h : zt_A ms rg) (hM : zi_M E mt bs nf nt ms rg) {b : Nat} (hb : zt_al rg b = true) : ∃ a a', a < 10 ∧ a' < 10 ∧ a ≠ a' ∧ zi_stop mt bs ms rg a b ∧ zi_stop mt bs ms rg a' b := by
  obtain ⟨c, t, e, _, h2, hnd⟩ := zt_ring h hb
  obtain ⟨_, hp⟩ := (hM.2 b (Or.inr hb)).2 hb c t e
  cases t with
  | nil => simp at h2
  | cons x t => cases t with
    | nil => simp at h2
    | cons y t =>
      obtain ⟨p1, p2, p3, p4⟩ := hp.1
      have hx : x ∈ rg b := by rw [e]; simp
      have hy : y ∈ rg b := by rw [e]; simp
      have hxy : x ≠ y := by intro z; subst z; simp at hnd
      have kx := (hM.2 x (zt_kid h hb hx)).1
      have ky' := (hM.2 y (zt_kid h hb hy)).1
      rw [p1] at kx
      rw [p2] at ky'
      have d1 : ¬ ms x (nt x) = true := fun z => hxy (zt_dj h hb hx hy z ky')
      have d2 : ¬ ms y (nf x) = true := fun z => hxy (zt_dj h hb hx hy kx z)
      refine ⟨nf x, nt x, zt_lt h kx, zt_lt h ky', fun z => d1 (z ▸ kx), ⟨x, hx, kx, ?_, ?_⟩, ⟨y, hy, ky', ?_, ?_⟩⟩
      · rw [p3]; exact zt_sub h hb hy ky'
      · rw [p3]; exact d1
      · rw [p4]; exact zt_sub h hb hx kx
      · rw [p4]; exact d2
/-- not all six blossoms are in use -/
theorem zi_slot (h : zt_A ms rg) (hM : zi_M E mt bs nf nt ms rg) (hall : ∀ b, 10 ≤ b → b < 16 → rg b ≠ []) : False := by
  have hal : ∀ b, 10 ≤ b → b < 16 → zt_al rg b = true := fun b h1 h2 => zt_al_iff.mpr ⟨h1, h2, hall b h1 h2⟩
  have dec : ∀ a b, Decidable (zi_stop mt bs ms rg a b) := fun a b => Classical.propDecidable _
  have lo : ∀ j, j < 6 → (2 : Int) ≤ zs_S (fun a => if zi_stop mt bs ms rg a (10 + j) then 1 else 0) 10 := by
    intro j hj
    obtain ⟨a, a', h1, h2, h3, s1, s2⟩ := zi_stop2 h hM (hal (10 + j) (by omega) (by omega))
    have : zs_S (fun v => (if v = a then 1 else 0) + (if v = a' then 1 else 0)) 10 ≤ zs_S (fun v => if zi_stop mt bs ms rg v (10 + j) then 1 else 0) 10 := by
      apply zs_le
      intro v _
      by_cases e1 : v = a
      · subst e1; rw [if_pos rfl, if_neg h3, if_pos s1]; exact Int.le_refl _
      · by_cases e2 : v = a'
        · subst e2; rw [if_neg e1, if_pos rfl, if_pos s2]; exact Int.le_refl _
        · rw [if_neg e1, if_neg e2]; split <;> omega
    rw [zs_add, zs_one _ 10 h1, zs_one _ 10 h2] at this
    exact this
  have up : ∀ a, a < 10 → zs_S (fun j => if zi_stop mt bs ms rg a (10 + j) then (1 : Int) else 0) 6 ≤ 1 := by
    intro a _
    by_cases q : ∃ j, j < 6 ∧ zi_stop mt bs ms rg a (10 + j)
    · obtain ⟨j, hj, s⟩ := q
      have : zs_S (fun i => if zi_stop mt bs ms rg a (10 + i) then (1 : Int) else 0) 6 ≤ zs_S (fun i => if i = j then 1 else 0) 6 := by
        apply zs_le
        intro i hi
        by_cases e : i = j
        · rw [if_pos e]; split <;> omega
        · rw [if_neg e, if_neg]; exact Int.le_refl _
          intro s'
          have := zi_stop1 h (hal _ (by omega) (by omega)) (hal _ (by omega) (by omega)) s s'
          omega
      rw [zs_one _ 6 hj] at this
      exact this
    · rw [zs_z 6 (fun i hi => if_neg (fun s => q ⟨i, hi, s⟩))]; omega
  have l1 : zs_S (fun _ => (2 : Int)) 6 ≤ zs_S (fun j => zs_S (fun a => if zi_stop mt bs ms rg a (10 + j) then 1 else 0) 10) 6 := zs_le 6 lo
  have u1 : zs_S (fun a => zs_S (fun j => if zi_stop mt bs ms rg a (10 + j) then (1 : Int) else 0) 6) 10 ≤ zs_S (fun _ => (1 : Int)) 10 := zs_le 10 up
  rw [zs_swap (fun a j => if zi_stop mt bs ms rg a (10 + j) then (1 : Int) else 0)] at u1
  have e1 : zs_S (fun _ => (2 : Int)) 6 = 12 := by decide +kernel
  have e2 : zs_S (fun _ => (1 : Int)) 10 = 10 := by decide +kernel
  rw [e1] at l1
  rw [e2] at u1
  omega
/-- planting the roots -/
theorem zi_plant (hG : zi_G E ky act) (h : zt_A ms rg) (hT : zt_T tp ms rg) (hM : zi_M E mt bs nf nt ms rg) (hD : zi_D E ky act mt nf nt du ms rg lam)
    (p1 : ∀ x, lb x = 0 ∨ lb x = 1) (p2 : ∀ v, v < 10 → act v = true → mt v = v → lb (tp v) = 1 ∧ uf (tp v) = v ∧ ut (tp v) = zn_N)
    (p3 : ∀ x, lb x ≠ 0 → ∃ v, v < 10 ∧ act v = true ∧ mt v = v ∧ tp v = x) :
    zi_F E act mt tp bs uf ut lb ms rg (fun _ => 0) ∧ zi_FD ky tp uf ut du lb ms rg lam := by
  refine ⟨⟨?_, ?_, ?_, ?_, ?_⟩, ?_, ?_⟩
  · intro x; rcases p1 x with z | z
    · exact Or.inl z
    · exact Or.inr (Or.inl z)
  · intro x hx
    obtain ⟨v, hv, _, _, e⟩ := p3 x hx
    subst e
    exact ⟨zt_tlv hT hv, fun w hw => zt_tof h hT hv hw⟩
  · intro x hx
    obtain ⟨v, hv, ha, hf, e⟩ := p3 x (by omega)
    subst e
    have hb := zi_bsfree h hT hM hv hf
    obtain ⟨_, q2, q3⟩ := p2 v hv ha hf
    rw [q2, ← hb]
    exact ⟨rfl, Or.inl ⟨q3, hf, ha⟩⟩
  · intro x hx
    rcases p1 x with z | z <;> omega
  · intro v hv ha hf; exact (p2 v hv ha hf).1
  · intro x hx
    rcases p1 x with z | z <;> omega
  · intro v hv hl
    obtain ⟨w, hw, ha, hf, e⟩ := p3 _ hl
    have := zi_par h hT hD hv hw e.symm
    rw [hD.2.2.2.2.1 w hw ha hf] at this
    exact this
/-- no event: no larger matching -/
theorem zi_none (hG : zi_G E ky act) (h : zt_A ms rg) (hT : zt_T tp ms rg) (hL : zt_Lnk E ms nx nf nt rg) (hM : zi_M E mt bs nf nt ms rg) (hD : zi_D E ky act mt nf nt du ms rg lam)
    (hF : zi_F E act mt tp bs uf ut lb ms rg rk) (hFD : zi_FD ky tp uf ut du lb ms rg lam)
    (n1 : ∀ u v, E u v → lb (tp u) = 1 → lb (tp v) ≠ -1 → tp u = tp v) (n2 : ∀ b, zt_al rg b = true → lb b ≠ -1) {N : Nat → Nat} (hN : zm_M E N) : zm_cov N ≤ zm_cov mt := by
  by_cases q : zm_cov N ≤ zm_cov mt
  · exact q
  · exfalso
    have hd : ∃ de : Int, 0 ≤ de ∧ lam - de ≤ 0 ∧ zm_K ky mt + (lam - de) < zm_K ky N :=
      ⟨(if lam < 0 then 0 else lam) + (if zm_K ky mt < zm_K ky N then 0 else zm_K ky mt - zm_K ky N) + 1 + (if lam < 0 then 0 else lam), by split <;> split <;> omega, by split <;> split <;> omega, by split <;> split <;> omega⟩
    obtain ⟨de, d0, d1, d2⟩ := hd
    obtain ⟨hD', _⟩ := zi_move hG h hT hL hM hD hF hFD d0
      (fun u v e hu hv => by have := n1 u v e hu (by omega); rw [this, hv] at hu; omega)
      (fun u v e hu hv hn => absurd (n1 u v e hu (by omega)) hn)
      (fun b hb hl => absurd hl (n2 b hb))
    have m := zi_main hG h hM hD' hN
    have hc : 1 ≤ zm_cov N - zm_cov mt := by omega
    have : (lam - de) * (zm_cov N - zm_cov mt) ≤ (lam - de) * 1 := Int.mul_le_mul_of_nonpos_left d1 hc
    omega
/-- bounds -/
theorem zi_zterm (hD : zi_D E ky act mt nf nt du ms rg lam) {b u v : Nat} (hb : zt_al rg b = true) (hu : ms b u = true) (hv : ms b v = true) : du b ≤ zd_z du (zt_al rg) ms u v := by
  have := zs_term (f := fun b => if (zt_al rg b && ms b u && ms b v) = true then du b else 0) (k := b) 16 (zt_al_iff.mp hb).2.1 (fun i _ => by
    by_cases q : (zt_al rg i && ms i u && ms i v) = true
    · rw [if_pos q]
      simp only [Bool.and_eq_true] at q
      exact (hD.2.2.1 i q.1.1).1
    · rw [if_neg q]; exact Int.le_refl _)
  have e : (zt_al rg b && ms b u && ms b v) = true := by simp [hb, hu, hv]
  simp only [if_pos e] at this
  exact this
theorem zi_znn (hD : zi_D E ky act mt nf nt du ms rg lam) (u v : Nat) : 0 ≤ zd_z du (zt_al rg) ms u v := by
  apply zs_nn
  intro i _
  by_cases q : (zt_al rg i && ms i u && ms i v) = true
  · rw [if_pos q]
    simp only [Bool.and_eq_true] at q
    exact (hD.2.2.1 i q.1.1).1
  · rw [if_neg q]; exact Int.le_refl _
theorem zi_bnd (hG : zi_G E ky act) (h : zt_A ms rg) (hL : zt_Lnk E ms nx nf nt rg) (hM : zi_M E mt bs nf nt ms rg) (hD : zi_D E ky act mt nf nt du ms rg lam) {K : Int} (hK : ∀ u v, E u v → -K ≤ ky u v ∧ ky u v ≤ K) :
    (∀ v, v < 10 → act v = true → lam ≤ du v ∧ (du v ≤ 2 * K - lam ∨ du v = lam)) ∧ (∀ b, zt_al rg b = true → 0 ≤ du b ∧ du b ≤ 2 * K - 2 * lam) := by
  refine ⟨fun v hv ha => ⟨hD.2.2.2.1 v hv ha, ?_⟩, fun b hb => ⟨(hD.2.2.1 b hb).1, ?_⟩⟩
  · by_cases f : mt v = v
    · exact Or.inr (hD.2.2.2.2.1 v hv ha f)
    · left
      have s := hD.2.1 v hv f
      have e := (hM.1 v hv).2.2 f
      obtain ⟨_, g2, _, _, g5⟩ := hG.1 _ _ e
      have l := hD.2.2.2.1 _ g2 g5
      have z := zi_znn hD v (mt v)
      have k := hK _ _ e
      unfold zd_sl at s
      omega
  · obtain ⟨c, t, e, _⟩ := zt_ring h hb
    have hc : c ∈ rg b := by rw [e]; simp
    obtain ⟨l1, l2, l3, l4⟩ := zt_links h hL hb hc
    have s := hD.2.2.2.2.2.1 b hb c hc
    obtain ⟨g1, g2, _, g4, g5⟩ := hG.1 _ _ l4
    have a1 := hD.2.2.2.1 _ g1 g4
    have a2 := hD.2.2.2.1 _ g2 g5
    have z := zi_zterm hD hb (zt_sub h hb hc l2) (zt_sub h hb l1 l3)
    have k := hK _ _ l4
    unfold zd_sl at s
    omega
theorem zm_Kb {N : Nat → Nat} {K : Int} (h0 : 0 ≤ K) (hK : ∀ u v, E u v → -K ≤ ky u v ∧ ky u v ≤ K) (hN : zm_M E N) : - (10 * K) ≤ zm_K ky N ∧ zm_K ky N ≤ 10 * K := by
  have e1 : zs_S (fun _ => K) 10 = 10 * K := by
    show 0 + K + K + K + K + K + K + K + K + K + K = 10 * K
    omega
  have e2 : zs_S (fun _ => -K) 10 = - (10 * K) := by
    show 0 + -K + -K + -K + -K + -K + -K + -K + -K + -K + -K = - (10 * K)
    omega
  rw [← e2, ← e1]
  constructor
  · apply zs_le
    intro v hv
    by_cases e : N v = v
    · rw [if_pos e]; omega
    · rw [if_neg e]; exact (hK _ _ ((hN v hv).2.2 e)).1
  · apply zs_le
    intro v hv
    by_cases e : N v = v
    · rw [if_pos e]; omega
    · rw [if_neg e]; exact (hK _ _ ((hN v hv).2.2 e)).2
/-- a labelled top holds active vertices alone -/
theorem zi_lact (hG : zi_G E ky act) (h : zt_A ms rg) (hT : zt_T tp ms rg) (hL : zt_Lnk E ms nx nf nt rg) (hM : zi_M E mt bs nf nt ms rg) (hF : zi_F E act mt tp bs uf ut lb ms rg rk) {v : Nat} (hv : v < 10) (hl : lb (tp v) ≠ 0) : act v = true := by
  have key : ∃ w, ms (tp v) w = true ∧ act w = true := by
    rcases hF.1 (tp v) with z | z | z
    · exact absurd z hl
    · have hb := (hM.2 (tp v) (zt_tlv hT hv)).1
      refine ⟨bs (tp v), hb, ?_⟩
      obtain ⟨_, q | q⟩ := hF.2.2.1 _ z
      · exact q.2.2
      · exact (hG.1 _ _ ((hM.1 _ (zt_lt h hb)).2.2 (by rw [q.2.1]; exact q.2.2.1))).2.2.2.1
    · obtain ⟨_, q2, q3, _⟩ := hF.2.2.2.1 _ z
      exact ⟨_, q2, (hG.1 _ _ q3).2.2.2.1⟩
  obtain ⟨w, hw, ha⟩ := key
  exact zi_actT hG h hT hL (zt_lt h hw) ha (by rw [zt_tof h hT hv hw]; exact zt_tms hT hv)
/-- the start -/
theorem zi_begin (hG : zi_G E ky act) {C : Int} (hK : ∀ u v, E u v → ky u v ≤ C) (hr : ∀ x, x < 16 → rg x = []) (hms : ∀ x, x < 10 → ∀ v, ms x v = true ↔ v = x) (hms' : ∀ x v, ms x v = true → v < 10)
    (hmt : ∀ v, v < 10 → mt v = v) (htp : ∀ v, v < 10 → tp v = v) (hbs : ∀ v, v < 10 → bs v = v) (hdu : ∀ v, v < 10 → du v = C) :
    zt_A ms rg ∧ zt_T tp ms rg ∧ zt_Lnk E ms nx nf nt rg ∧ zi_M E mt bs nf nt ms rg ∧ zi_D E ky act mt nf nt du ms rg C := by
  have hal : ∀ b, ¬ zt_al rg b = true := fun b z => by
    have := zt_al_iff.mp z
    exact this.2.2 (hr b this.2.1)
  have hlv : ∀ x, zt_lv rg x → x < 10 := fun x z => by
    rcases z with z | z
    · exact z
    · exact absurd z (hal x)
  have hz : ∀ u v, zd_z du (zt_al rg) ms u v = 0 := fun u v => zs_z 16 (fun b _ => if_neg (fun q => by
    simp only [Bool.and_eq_true] at q
    exact hal b q.1.1))
  refine ⟨⟨hms', hms, fun b hb => absurd hb (hal b), fun b hb => absurd hb (hal b), fun b hb => absurd hb (hal b), fun b hb => absurd hb (hal b), ?_, fun b x v hb => absurd hb (hal b)⟩, ⟨?_, ?_⟩, fun b hb => absurd hb (hal b), ⟨?_, ?_⟩, ?_, ?_, fun b hb => absurd hb (hal b), ?_, fun v hv _ _ => hdu v hv, fun b hb => absurd hb (hal b), fun b hb => absurd hb (hal b)⟩
  · intro x hx; exact ⟨x, (hms x (hlv x hx) x).mpr rfl⟩
  · intro v hv
    rw [htp v hv]
    exact ⟨Or.inl hv, (hms v hv v).mpr rfl⟩
  · intro x v w hx hv hw
    have h10 := hlv x hx
    rw [(hms x h10 v).mp hv, (hms x h10 w).mp hw]
  · intro v hv
    rw [hmt v hv, hmt v hv]
    exact ⟨hv, rfl, fun z => absurd rfl z⟩
  · intro y hy
    have h10 := hlv y hy
    rw [hbs y h10]
    exact ⟨(hms y h10 y).mpr rfl, fun z => absurd z (hal y)⟩
  · intro u v e
    obtain ⟨hu, hv, _⟩ := hG.1 u v e
    unfold zd_sl
    rw [hz, hdu u hu, hdu v hv]
    have := hK u v e
    omega
  · intro v hv hn
    exact absurd (hmt v hv) hn
  · intro v hv _
    rw [hdu v hv]; exact Int.le_refl _
end
end
section
/-! arrays and their pictures -/
def zx_N (N : Nat) (a : Nat → Int32) (f : Nat → Nat) : Prop := ∀ i, i < N → a i = nI (f i)
def zx_P (a : Nat → Int32) (mt : Nat → Nat) : Prop := ∀ v, v < 10 → a v = if mt v = v then -1 else nI (mt v)
def zx_hd : List Nat → Int32
  | [] => -1
  | c :: _ => nI c
def zx_H (a : Nat → Int32) (rg : Nat → List Nat) : Prop := ∀ b, b < 16 → a b = zx_hd (rg b)
def zx_L (a : Nat → Int32) (lb : Nat → Int) : Prop := ∀ x, x < 16 → (a x).toInt = lb x
def zx_D (a : Nat → Int64) (du : Nat → Int) : Prop := ∀ x, x < 16 → (a x).toInt = du x
def zx_B (a : Int32) (f : Nat → Bool) : Prop := ∀ v, v < 10 → (((a >>> (nI v &&& 31)) &&& 1) = 0 ↔ f v = false)
def zx_M (a : Nat → Int32) (ms : Nat → Nat → Bool) : Prop := ∀ x, x < 16 → zx_B (a x) (ms x)
theorem zx_Nu {N : Nat} {a : Nat → Int32} {f : Nat → Nat} (h : zx_N N a f) (i x : Nat) : zx_N N (upd a i (nI x)) (zu_U f i x) := fun j hj => by
  by_cases e : j = i
  · subst e; rw [pk_us, zu_s]
  · rw [pk_un e, zu_n e]; exact h j hj
theorem zx_Nu' {N : Nat} {a : Nat → Int32} {f : Nat → Nat} (h : zx_N N a f) (i : Nat) {x : Nat} {y : Int32} (e : y = nI x) : zx_N N (upd a i y) (zu_U f i x) := by
  rw [e]; exact zx_Nu h i x
theorem zx_Nc {N : Nat} {a : Nat → Int32} {f g : Nat → Nat} (h : zx_N N a f) (e : ∀ i, i < N → f i = g i) : zx_N N a g := fun i hi => by
  rw [h i hi, e i hi]
theorem zx_Lu {a : Nat → Int32} {lb : Nat → Int} (h : zx_L a lb) (i : Nat) {x : Int32} {l : Int} (e : x.toInt = l) : zx_L (upd a i x) (zu_U lb i l) := fun j hj => by
  by_cases q : j = i
  · subst q; rw [pk_us, zu_s]; exact e
  · rw [pk_un q, zu_n q]; exact h j hj
theorem zx_Du {a : Nat → Int64} {du : Nat → Int} (h : zx_D a du) (i : Nat) {x : Int64} {l : Int} (e : x.toInt = l) : zx_D (vp_updL a i x) (zu_U du i l) := fun j hj => by
  by_cases q : j = i
  · subst q; rw [pk_uLs, zu_s]; exact e
  · rw [pk_uLn q, zu_n q]; exact h j hj
theorem zx_Hu {a : Nat → Int32} {rg : Nat → List Nat} (h : zx_H a rg) (i : Nat) {x : Int32} {l : List Nat} (e : x = zx_hd l) : zx_H (upd a i x) (zu_U rg i l) := fun j hj => by
  by_cases q : j = i
  · subst q; rw [pk_us, zu_s]; exact e
  · rw [pk_un q, zu_n q]; exact h j hj
theorem zx_Mu {a : Nat → Int32} {ms : Nat → Nat → Bool} (h : zx_M a ms) (i : Nat) {x : Int32} {f : Nat → Bool} (e : zx_B x f) : zx_M (upd a i x) (zu_U ms i f) := fun j hj => by
  by_cases q : j = i
  · subst q; rw [pk_us, zu_s]; exact e
  · rw [pk_un q, zu_n q]; exact h j hj
theorem zx_Pu {a : Nat → Int32} {mt : Nat → Nat} (h : zx_P a mt) {v w : Nat} (hn : w ≠ v) : zx_P (upd a v (nI w)) (zu_U mt v w) := fun j hj => by
  by_cases q : j = v
  · subst q; rw [pk_us, zu_s, if_neg hn]
  · rw [pk_un q, zu_n q]; exact h j hj
/-- the lowest bit of a shifted word -/
theorem zx_bit (a : Int32) {v : Nat} (hv : v < 32) : ((a >>> (nI v &&& 31)) &&& 1) = 0 ↔ bt a v = false := by
  have key : ∀ i, i < 32 → bt ((a >>> (nI v &&& 31)) &&& 1) i = (bt a v && decide (i = 0)) := by
    intro i hi
    rw [b_and, b_sshr v hv a hi]
    have h1 : bt 1 i = decide (i = 0) := by
      exact (by decide +kernel : ∀ i, i < 32 → bt 1 i = decide (i = 0)) i hi
    rw [h1]
    by_cases e : i = 0
    · subst e; rw [if_pos (by omega)]; rfl
    · simp [e]
  constructor
  · intro h
    have := key 0 (by omega)
    rw [h, b_0] at this
    simpa using this.symm
  · intro h
    apply b_ext
    intro i hi
    rw [key i hi, h, b_0]; rfl
theorem zx_Bor {a b : Int32} {f g : Nat → Bool} (ha : zx_B a f) (hb : zx_B b g) : zx_B (a ||| b) (fun v => f v || g v) := fun v hv => by
  have h1 := ha v hv
  have h2 := hb v hv
  rw [zx_bit _ (by omega)] at h1 h2 ⊢
  rw [b_or]
  cases q : f v <;> cases r : g v <;> simp_all
theorem zx_B1 {x : Nat} (hx : x < 10) : zx_B ((1 : Int32) <<< (nI x &&& 31)) (fun v => decide (v = x)) := fun v hv => by
  rw [zx_bit _ (by omega), b_shl x (by omega) 1 (by omega)]
  have : bt 1 (v - x) = decide (v - x = 0) := (by decide +kernel : ∀ i, i < 32 → bt 1 i = decide (i = 0)) _ (by omega)
  rw [this]
  by_cases e : v = x
  · subst e; simp
  · by_cases q : x ≤ v
    · simp [e]; omega
    · simp [e]; omega
theorem zx_B1' {x : Nat} (hx : x < 16) {v : Nat} (hv : v < 16) : bt ((1 : Int32) <<< (nI x &&& 31)) v = decide (v = x) := by
  rw [b_shl x (by omega) 1 (by omega)]
  have : bt 1 (v - x) = decide (v - x = 0) := (by decide +kernel : ∀ i, i < 32 → bt 1 i = decide (i = 0)) _ (by omega)
  rw [this]
  by_cases e : v = x
  · subst e; simp
  · by_cases q : x ≤ v
    · simp [e]; omega
    · simp [e]; omega
/-- every array has pictures -/
theorem zx_Nex (N : Nat) (a : Nat → Int32) : ∃ f, zx_N N a f := ⟨fun i => (a i).toBitVec.toNat, fun i _ => by
  apply Int32.toBitVec_inj.mp
  show _ = BitVec.ofNat 32 _
  simp⟩
theorem zx_cl {n : Nat} (h : n < 16) : (nI n).toNatClampNeg = n := nI_clamp (by omega)
theorem zx_neg {n : Nat} (h : n < 16) : ¬ nI n < 0 := nI_pos (by omega)
theorem zx_m1lt : (-1 : Int32) < 0 := by decide
theorem zx_m1ge : ¬ (0 : Int32) ≤ -1 := by decide
/-! small methods -/
section
variable {f_outer f_inner f_n f_k f_maxSize f_barred f_stackSize f_eventA f_eventB : Int32} {f_eventDelta : Int64} {a_weight : Nat → Int32} {a_key : Nat → Int64} {a_slotMask a_slotValue a_bestMate a_bestWeight a_partner : Nat → Int32} {a_dual : Nat → Int64} {a_top a_members a_base a_label a_upFrom a_upTo a_head a_next a_nextFrom a_nextTo a_stack : Nat → Int32}
theorem zx_setLabel {post : SX → Prop} {x : Nat} {p1 p2 p3 : Int32} (hx : x < 16) (K : post (f_outer, f_inner, f_n, f_k, f_maxSize, f_barred, f_stackSize, f_eventA, f_eventB, f_eventDelta, a_weight, a_key, a_slotMask, a_slotValue, a_bestMate, a_bestWeight, a_partner, a_dual, a_top, a_members, a_base, upd a_label x p1, upd a_upFrom x p2, upd a_upTo x p3, a_head, a_next, a_nextFrom, a_nextTo, a_stack)) : wpX_setLabel post (f_outer, f_inner, f_n, f_k, f_maxSize, f_barred, f_stackSize, f_eventA, f_eventB, f_eventDelta, a_weight, a_key, a_slotMask, a_slotValue, a_bestMate, a_bestWeight, a_partner, a_dual, a_top, a_members, a_base, a_label, a_upFrom, a_upTo, a_head, a_next, a_nextFrom, a_nextTo, a_stack) (nI x) p1 p2 p3 := by
  have hc := zx_cl hx
  have hi := vp_in_nI (N := 16) hx (by omega)
  unfold wpX_setLabel
  dsimp only
  rw [hc]
  exact ⟨hi, nm_e ⟨hi, nm_e ⟨hi, nm_e K⟩⟩⟩
theorem zx_link {post : SX → Prop} {x : Nat} {p1 p2 p3 : Int32} (hx : x < 16) (K : post (f_outer, f_inner, f_n, f_k, f_maxSize, f_barred, f_stackSize, f_eventA, f_eventB, f_eventDelta, a_weight, a_key, a_slotMask, a_slotValue, a_bestMate, a_bestWeight, a_partner, a_dual, a_top, a_members, a_base, a_label, a_upFrom, a_upTo, a_head, upd a_next x p1, upd a_nextFrom x p2, upd a_nextTo x p3, a_stack)) : wpX_link post (f_outer, f_inner, f_n, f_k, f_maxSize, f_barred, f_stackSize, f_eventA, f_eventB, f_eventDelta, a_weight, a_key, a_slotMask, a_slotValue, a_bestMate, a_bestWeight, a_partner, a_dual, a_top, a_members, a_base, a_label, a_upFrom, a_upTo, a_head, a_next, a_nextFrom, a_nextTo, a_stack) (nI x) p1 p2 p3 := by
  have hc := zx_cl hx
  have hi := vp_in_nI (N := 16) hx (by omega)
  unfold wpX_link
  dsimp only
  rw [hc]
  exact ⟨hi, nm_e ⟨hi, nm_e ⟨hi, nm_e K⟩⟩⟩
theorem zx_above {post : Int32 → Prop} {x y : Nat} {tp ut : Nat → Nat} (hx : x < 16) (h1 : zx_N 16 a_upTo ut) (h2 : zx_N 10 a_top tp) (hu : ut x < 10) (e : tp (ut x) = y) (K : post (nI y)) : wpX_above post (f_outer, f_inner, f_n, f_k, f_maxSize, f_barred, f_stackSize, f_eventA, f_eventB, f_eventDelta, a_weight, a_key, a_slotMask, a_slotValue, a_bestMate, a_bestWeight, a_partner, a_dual, a_top, a_members, a_base, a_label, a_upFrom, a_upTo, a_head, a_next, a_nextFrom, a_nextTo, a_stack) (nI x) := by
  have hc := zx_cl hx
  have hi := vp_in_nI (N := 16) hx (by omega)
  unfold wpX_above
  dsimp only
  rw [hc, h1 x hx, nI_clamp (n := ut x) (by omega), h2 _ hu, e]
  exact ⟨hi, br_t (nI_pos' (by omega)) ⟨hi, vp_in_nI hu (by omega), K⟩⟩
theorem zx_above0 {post : Int32 → Prop} {x : Nat} {ut : Nat → Nat} (hx : x < 16) (h1 : zx_N 16 a_upTo ut) (hu : ut x = zn_N) (K : post (-1)) : wpX_above post (f_outer, f_inner, f_n, f_k, f_maxSize, f_barred, f_stackSize, f_eventA, f_eventB, f_eventDelta, a_weight, a_key, a_slotMask, a_slotValue, a_bestMate, a_bestWeight, a_partner, a_dual, a_top, a_members, a_base, a_label, a_upFrom, a_upTo, a_head, a_next, a_nextFrom, a_nextTo, a_stack) (nI x) := by
  have hc := zx_cl hx
  have hi := vp_in_nI (N := 16) hx (by omega)
  unfold wpX_above
  dsimp only
  rw [hc, h1 x hx, hu, zn_eq]
  exact ⟨hi, br_f zx_m1ge K⟩
theorem zx_claim2 {post : SX → Prop} {x : Nat} {tp : Nat → Nat} {ms : Nat → Nat → Bool} (hx : x < 16) (hm : zx_M a_members ms) (K : ∀ a_top', zx_N 10 a_top' (fun v => if ms x v = true then x else tp v) → post (f_outer, f_inner, f_n, f_k, f_maxSize, f_barred, f_stackSize, f_eventA, f_eventB, f_eventDelta, a_weight, a_key, a_slotMask, a_slotValue, a_bestMate, a_bestWeight, a_partner, a_dual, a_top', a_members, a_base, a_label, a_upFrom, a_upTo, a_head, a_next, a_nextFrom, a_nextTo, a_stack)) :
    ∀ d i, i + d = 10 → ∀ a_top, zx_N 10 a_top (fun v => if v < i ∧ ms x v = true then x else tp v) → wX_claim_2 post (nI x) f_outer f_inner f_n f_k f_maxSize f_barred f_stackSize f_eventA f_eventB f_eventDelta (d + 1) (nI i) a_weight a_key a_slotMask a_slotValue a_bestMate a_bestWeight a_partner a_dual a_top a_members a_base a_label a_upFrom a_upTo a_head a_next a_nextFrom a_nextTo a_stack := by
  have hc := zx_cl hx
  have hi := vp_in_nI (N := 16) hx (by omega)
  intro d
  induction d with
  | zero =>
    intro i hd a_top ht
    refine pk_le 10 i (fun _ => K a_top (zx_Nc ht (fun v hv => ?_))) (fun h => absurd h (by omega))
    have : (v < i ∧ ms x v = true) ↔ ms x v = true := ⟨fun z => z.2, fun z => ⟨by omega, z⟩⟩
    simp only [this]
  | succ d ih =>
    intro i hd a_top ht
    refine pk_le 10 i (fun h => absurd h (by omega)) (fun _ => ⟨hi, ?_⟩)
    rw [hc]
    by_cases q : ms x i = true
    · have hb : ¬ ((a_members x >>> (nI i &&& 31)) &&& 1) = 0 := fun z => by
        have := (hm x hx i (by omega)).mp z
        rw [q] at this; exact absurd this (by decide)
      refine br_f hb ⟨vp_in_nI (by omega) (by omega), nm_e (nm_r (nI_1 i) ?_)⟩
      rw [nI_clamp (by omega)]
      refine ih (i + 1) (by omega) _ (zx_Nc (zx_Nu ht i x) (fun v hv => ?_))
      by_cases e : v = i
      · subst e
        rw [zu_s]
        show x = if v < v + 1 ∧ ms x v = true then x else tp v
        rw [if_pos ⟨by omega, q⟩]
      · rw [zu_n e]
        have : (v < i ∧ ms x v = true) ↔ (v < i + 1 ∧ ms x v = true) := ⟨fun z => ⟨by omega, z.2⟩, fun z => ⟨by omega, z.2⟩⟩
        simp only [this]
    · have hb : ((a_members x >>> (nI i &&& 31)) &&& 1) = 0 := (hm x hx i (by omega)).mpr (by simpa using q)
      refine br_t hb (nm_r (nI_1 i) ?_)
      refine ih (i + 1) (by omega) _ (zx_Nc ht (fun v hv => ?_))
      have : (v < i ∧ ms x v = true) ↔ (v < i + 1 ∧ ms x v = true) := ⟨fun z => ⟨by omega, z.2⟩, fun z => ⟨by
        rcases Nat.lt_or_ge v i with w | w
        · exact w
        · have : v = i := by omega
          subst this
          exact absurd z.2 q, z.2⟩⟩
      simp only [this]
theorem zx_claim {post : SX → Prop} {x : Nat} {tp : Nat → Nat} {ms : Nat → Nat → Bool} (hx : x < 16) (hm : zx_M a_members ms) (ht : zx_N 10 a_top tp) (K : ∀ a_top', zx_N 10 a_top' (fun v => if ms x v = true then x else tp v) → post (f_outer, f_inner, f_n, f_k, f_maxSize, f_barred, f_stackSize, f_eventA, f_eventB, f_eventDelta, a_weight, a_key, a_slotMask, a_slotValue, a_bestMate, a_bestWeight, a_partner, a_dual, a_top', a_members, a_base, a_label, a_upFrom, a_upTo, a_head, a_next, a_nextFrom, a_nextTo, a_stack)) : wpX_claim post (f_outer, f_inner, f_n, f_k, f_maxSize, f_barred, f_stackSize, f_eventA, f_eventB, f_eventDelta, a_weight, a_key, a_slotMask, a_slotValue, a_bestMate, a_bestWeight, a_partner, a_dual, a_top, a_members, a_base, a_label, a_upFrom, a_upTo, a_head, a_next, a_nextFrom, a_nextTo, a_stack) (nI x) :=
  ⟨11, zx_claim2 hx hm K 10 0 rfl a_top (zx_Nc ht (fun v hv => by
    show tp v = if v < 0 ∧ ms x v = true then x else tp v
    rw [if_neg (by omega)]))⟩
end
end
section
/-! the walk of rebase -/
def zx_K (a : Nat → Int32) (sk : List Nat) : Prop := ∀ j c, sk[j]? = some c → a j = nI c
theorem zx_Ku {a : Nat → Int32} {sk : List Nat} (h : zx_K a sk) (x : Nat) : zx_K (upd a sk.length (nI x)) (sk ++ [x]) := fun j c hj => by
  rcases Nat.lt_trichotomy j sk.length with q | q | q
  · rw [pk_un (by omega)]
    rw [List.getElem?_append_left q] at hj
    exact h j c hj
  · subst q
    rw [pk_us]
    simp at hj
    rw [hj]
  · rw [List.getElem?_eq_none (by simp; omega)] at hj
    exact absurd hj (by simp)
theorem zx_alr {rg : Nat → List Nat} (hv : ∀ x, x < 10 → rg x = []) {x : Nat} (hx : x < 16) : zt_al rg x = true ↔ rg x ≠ [] := by
  rw [zt_al_iff]
  constructor
  · exact fun z => z.2.2
  · intro z
    refine ⟨?_, hx, z⟩
    rcases Nat.lt_or_ge x 10 with q | q
    · exact absurd (hv x q) z
    · exact q
theorem zx_hd0 {l : List Nat} (h : l = []) : zx_hd l < 0 := by subst h; exact zx_m1lt
section
variable {f_outer f_inner f_n f_k f_maxSize f_barred f_stackSize f_eventA f_eventB : Int32} {f_eventDelta : Int64} {a_weight : Nat → Int32} {a_key : Nat → Int64} {a_slotMask a_slotValue a_bestMate a_bestWeight a_partner : Nat → Int32} {a_dual : Nat → Int64} {a_top a_members a_base a_label a_upFrom a_upTo a_head a_next a_nextFrom a_nextTo a_stack : Nat → Int32}
variable {E : Nat → Nat → Prop} {ms : Nat → Nat → Bool} {nx nf nt : Nat → Nat}
theorem zx_push {post : SX → Prop} {x : Nat} {w : Int32} {rg : Nat → List Nat} {sk : List Nat} (hx : x < 16) (hH : zx_H a_head rg) (hv : ∀ x, x < 10 → rg x = []) (h16 : ∀ x c, c ∈ rg x → c < 16) (hk : zx_K a_stack sk) (hl : sk.length < 16)
    (K : ∀ a_stack', zx_K a_stack' (sk ++ [x].filter (zt_al rg)) → post (f_outer, f_inner, f_n, f_k, f_maxSize, f_barred, nI (sk ++ [x].filter (zt_al rg)).length, f_eventA, f_eventB, f_eventDelta, a_weight, a_key, a_slotMask, a_slotValue, a_bestMate, a_bestWeight, a_partner, a_dual, a_top, a_members, upd a_base x w, a_label, a_upFrom, a_upTo, a_head, a_next, a_nextFrom, a_nextTo, a_stack')) : wpX_push post (f_outer, f_inner, f_n, f_k, f_maxSize, f_barred, nI sk.length, f_eventA, f_eventB, f_eventDelta, a_weight, a_key, a_slotMask, a_slotValue, a_bestMate, a_bestWeight, a_partner, a_dual, a_top, a_members, a_base, a_label, a_upFrom, a_upTo, a_head, a_next, a_nextFrom, a_nextTo, a_stack) (nI x) w := by
  have hc := zx_cl hx
  have hi := vp_in_nI (N := 16) hx (by omega)
  unfold wpX_push
  dsimp only
  rw [hc, hH x hx]
  refine ⟨hi, nm_e ⟨hi, ?_⟩⟩
  by_cases q : rg x = []
  · have ha : ¬ zt_al rg x = true := fun z => (zx_alr hv hx).mp z q
    have e : [x].filter (zt_al rg) = [] := by rw [List.filter_cons, if_neg ha]; rfl
    rw [e, List.append_nil] at K
    exact br_t (zx_hd0 q) (K a_stack hk)
  · have ha : zt_al rg x = true := (zx_alr hv hx).mpr q
    have e : [x].filter (zt_al rg) = [x] := by rw [List.filter_cons, if_pos ha]; rfl
    rw [e] at K
    have hn : ¬ zx_hd (rg x) < 0 := by
      cases hr : rg x with
      | nil => exact absurd hr q
      | cons c t => exact zx_neg (h16 x c (by rw [hr]; simp))
    refine br_f hn (pk_lt sk.length 16 (fun _ => ⟨vp_in_nI hl (by omega), ?_⟩) (fun z => absurd z (by omega)))
    rw [nI_clamp (by omega)]
    refine nm_e (nm_r (e' := nI (sk ++ [x]).length) (by rw [nI_1]; simp) ?_)
    exact K _ (zx_Ku hk x)
theorem zx_rot9 {post : SX → Prop} {b w f : Nat} {bs : Nat → Nat} (hb : b < 16) (hB : zx_N 16 a_base bs) (hw : bs b = w) (hw10 : w < 10) (hm : zx_M a_members ms) (hN : zx_N 16 a_next nx) (hf : f < 16) (hfw : ms f w = true)
    (K : wX_rotate_46 post (nI b) (nI f) f_outer f_inner f_n f_k f_maxSize f_barred f_stackSize f_eventA f_eventB f_eventDelta a_weight a_key a_slotMask a_slotValue a_bestMate a_bestWeight a_partner a_dual a_top a_members a_base a_label a_upFrom a_upTo a_head a_next a_nextFrom a_nextTo a_stack) : ∀ (A : List Nat) (c i n : Nat), (∀ a, a ∈ A → a < 16 ∧ ¬ ms a w = true) → (A ++ [f]).head? = some c → zl_ch (fun x y => nx x = y) (A ++ [f]) → i + A.length < 9 → A.length < n → wX_rotate_9 post (nI b) f_outer f_inner f_n f_k f_maxSize f_barred f_stackSize f_eventA f_eventB f_eventDelta a_weight a_key a_slotMask a_slotValue a_bestMate a_bestWeight a_partner a_dual a_top a_members a_base a_label a_upFrom a_upTo a_head a_next a_nextFrom a_nextTo a_stack n (nI c) (nI i) := by
  have hbi := vp_in_nI (N := 16) hb (by omega)
  intro A
  induction A with
  | nil =>
    intro c i n _ hc _ hi hn
    obtain ⟨n, rfl⟩ : ∃ n', n = n' + 1 := ⟨n - 1, by simp at hn; omega⟩
    simp at hc
    subst hc
    refine pk_le 9 i (fun z => absurd z (by simp at hi; omega)) (fun _ => ⟨vp_in_nI hf (by omega), hbi, ?_⟩)
    rw [zx_cl hf, zx_cl hb, hB b hb, hw]
    refine br_f (fun z => ?_) K
    have := (hm f hf w hw10).mp z
    rw [hfw] at this
    exact absurd this (by decide)
  | cons a A ih =>
    intro c i n ha hc hch hi hn
    obtain ⟨n, rfl⟩ : ∃ n', n = n' + 1 := ⟨n - 1, by simp at hn; omega⟩
    simp at hc
    subst hc
    simp only [List.length_cons] at hi hn
    obtain ⟨ha16, haw⟩ := ha a (by simp)
    refine pk_le 9 i (fun z => absurd z (by omega)) (fun _ => ⟨vp_in_nI ha16 (by omega), hbi, ?_⟩)
    rw [zx_cl ha16, zx_cl hb, hB b hb, hw]
    refine br_t ((hm a ha16 w hw10).mpr (by simpa using haw)) ⟨vp_in_nI ha16 (by omega), ?_⟩
    refine nm_r (hN a ha16) (nm_r (nI_1 i) ?_)
    cases A with
    | nil => exact ih (nx a) (i + 1) n (fun x hx => ha x (by simp [hx])) (by simp; exact hch.1.symm) trivial (by simp only [List.length_nil] at hi ⊢; omega) (by simp only [List.length_nil] at hn ⊢; omega)
    | cons d A => exact ih (nx a) (i + 1) n (fun x hx => ha x (by simp at hx ⊢; exact Or.inr hx)) (by simp; exact hch.1.symm) hch.2 (by omega) (by omega)
theorem zx_rot74 {post : SX → Prop} {rg : Nat → List Nat} {f : Nat} (hf : f < 16) (hH : zx_H a_head rg) (hv : ∀ x, x < 10 → rg x = []) (h16 : ∀ x c, c ∈ rg x → c < 16) (hN : zx_N 16 a_next nx) (hNf : zx_N 16 a_nextFrom nf) (hNt : zx_N 16 a_nextTo nt) :
    ∀ t : List Nat, ∀ (c i n : Nat) (mt bs : Nat → Nat) (sk : List Nat) (a_partner a_base a_stack : Nat → Int32), (∀ x, x ∈ t → x < 16) → (∀ x y v, x ∈ t → y ∈ t → ms x v = true → ms y v = true → x = y) → (∀ x v, ms x v = true → v < 10) →
      (t ++ [f]).head? = some c → zl_ch (zt_R E ms nx nf nt) (t ++ [f]) → (f :: t).Nodup → 2 * i + t.length ≤ 8 → t.length < 2 * n → sk.length + t.length ≤ 16 → t.length % 2 = 0 →
      zx_P a_partner mt → zx_N 16 a_base bs → zx_K a_stack sk →
      (∀ (a_partner' a_base' a_stack' : Nat → Int32) (mt' bs' : Nat → Nat), zx_P a_partner' mt' → zx_N 16 a_base' bs' → zx_K a_stack' (sk ++ t.filter (zt_al rg)) → zl_pr (zt_P mt' bs' nf nt) t → (∀ z, z ∉ t → bs' z = bs z) → (∀ v, (∀ z, z ∈ t → ¬ ms z v = true) → mt' v = mt v) →
        post (f_outer, f_inner, f_n, f_k, f_maxSize, f_barred, nI (sk ++ t.filter (zt_al rg)).length, f_eventA, f_eventB, f_eventDelta, a_weight, a_key, a_slotMask, a_slotValue, a_bestMate, a_bestWeight, a_partner', a_dual, a_top, a_members, a_base', a_label, a_upFrom, a_upTo, a_head, a_next, a_nextFrom, a_nextTo, a_stack')) →
      wX_rotate_74 post (nI f) n (nI c) (nI i) f_outer f_inner f_n f_k f_maxSize f_barred (nI sk.length) f_eventA f_eventB f_eventDelta a_weight a_key a_slotMask a_slotValue a_bestMate a_bestWeight a_partner a_dual a_top a_members a_base a_label a_upFrom a_upTo a_head a_next a_nextFrom a_nextTo a_stack := by
  refine zl_ind2 ?_ ?_ ?_
  · intro c i n mt bs sk a_partner a_base a_stack _ _ _ hc _ _ hi hn hsk _ hP hB hK K
    obtain ⟨n, rfl⟩ : ∃ n', n = n' + 1 := ⟨n - 1, by simp at hn; omega⟩
    simp at hc
    subst hc
    have K' := K a_partner a_base a_stack mt bs hP hB (by rw [List.filter_nil, List.append_nil]; exact hK) trivial (fun _ _ => rfl) (fun _ _ => rfl)
    rw [List.filter_nil, List.append_nil] at K'
    refine pk_le 4 i (fun _ => K') (fun _ => br_t rfl K')
  · intro x c i n mt bs sk a_partner a_base a_stack _ _ _ _ _ _ _ _ _ he
    simp at he
  · intro x y l ih c i n mt bs sk a_partner a_base a_stack h16t hdj hms hc hch hnd hi hn hsk he hP hB hK K
    obtain ⟨n, rfl⟩ : ∃ n', n = n' + 1 := ⟨n - 1, by simp at hn; omega⟩
    simp at hc
    subst hc
    simp only [List.length_cons] at hi hn hsk he
    have hx := h16t x (by simp)
    have hy := h16t y (by simp)
    obtain ⟨⟨r1, r2, r3, r4⟩, hch2⟩ := hch
    have hnf10 := hms _ _ r2
    have hnt10 := hms _ _ r3
    have hxf : x ≠ f := by intro z; subst z; simp at hnd
    have hxy : x ≠ y := by intro z; subst z; simp at hnd
    have hxl : x ∉ l := by intro z; simp at hnd; exact hnd.2.1.2 z
    have hyl : y ∉ l := by intro z; simp at hnd; exact hnd.2.2.1 z
    have hne : nf x ≠ nt x := fun z => hxy (hdj x y _ (by simp) (by simp) r2 (by rw [z]; exact r3))
    have hxi := vp_in_nI (N := 16) hx (by omega)
    have hyi := vp_in_nI (N := 16) hy (by omega)
    refine pk_le 4 i (fun z => absurd z (by omega)) (fun _ => br_f (fun z => hxf ((nI_eq (by omega) (by omega)).mp z)) ⟨hxi, ?_⟩)
    rw [zx_cl hx, hNf x hx, hNt x hx, hN x hx, r1, nI_clamp (n := nf x) (by omega), nI_clamp (n := nt x) (by omega)]
    refine nm_e ⟨hxi, hxi, vp_in_nI hnf10 (by omega), nm_e ⟨hxi, hxi, vp_in_nI hnt10 (by omega), nm_e ⟨hxi, ?_⟩⟩⟩
    have hP' : zx_P (upd (upd a_partner (nf x) (nI (nt x))) (nt x) (nI (nf x))) (zu_U (zu_U mt (nf x) (nt x)) (nt x) (nf x)) := zx_Pu (zx_Pu hP (fun z => hne z.symm)) hne
    refine zx_push hx hH hv h16 hK (by omega) (fun a_stack1 hK1 => ?_)
    refine ⟨hxi, ?_⟩
    dsimp only
    rw [hNt x hx]
    have hl1 : (sk ++ [x].filter (zt_al rg)).length ≤ sk.length + 1 := by
      rw [List.length_append]
      have := List.length_filter_le (zt_al rg) [x]
      simp only [List.length_cons, List.length_nil] at this
      omega
    refine zx_push hy hH hv h16 hK1 (by omega) (fun a_stack2 hK2 => ?_)
    refine ⟨hyi, ?_⟩
    dsimp only
    rw [zx_cl hy, hN y hy]
    refine nm_e (nm_r (nI_1 i) ?_)
    have hl2 : (sk ++ [x].filter (zt_al rg) ++ [y].filter (zt_al rg)).length ≤ sk.length + 2 := by
      rw [List.length_append]
      have := List.length_filter_le (zt_al rg) [y]
      simp only [List.length_cons, List.length_nil] at this
      omega
    have hhead : (l ++ [f]).head? = some (nx y) := by
      cases l with
      | nil => have := hch2.1.1; simp [this]
      | cons d l => have := hch2.1.1; simp [this]
    have hch3 : zl_ch (zt_R E ms nx nf nt) (l ++ [f]) := by
      cases l with
      | nil => trivial
      | cons d l => exact hch2.2
    have efil : sk ++ (x :: y :: l).filter (zt_al rg) = sk ++ [x].filter (zt_al rg) ++ [y].filter (zt_al rg) ++ l.filter (zt_al rg) := by
      rw [show x :: y :: l = [x] ++ [y] ++ l from rfl, List.filter_append, List.filter_append]
      simp only [List.append_assoc]
    refine ih (nx y) (i + 1) n (zu_U (zu_U mt (nf x) (nt x)) (nt x) (nf x)) (zu_U (zu_U bs x (nf x)) y (nt x)) _ _ _ a_stack2 (fun z hz => h16t z (by simp [hz])) (fun a b v ha hb => hdj a b v (by simp [ha]) (by simp [hb])) hms hhead hch3
      (by simp at hnd ⊢; exact ⟨hnd.1.2.2, hnd.2.2.2⟩) (by omega) (by omega) (by omega) (by omega) hP' (zx_Nu (zx_Nu hB x (nf x)) y (nt x)) hK2 ?_
    intro a_partner' a_base' a_stack' mt' bs' q1 q2 q3 q4 q5 q6
    rw [← efil] at q3 ⊢
    have offl : ∀ v, (∀ z, z ∈ l → ¬ ms z v = true) → mt' v = zu_U (zu_U mt (nf x) (nt x)) (nt x) (nf x) v := q6
    refine K a_partner' a_base' a_stack' mt' bs' q1 q2 q3 ⟨⟨?_, ?_, ?_, ?_⟩, q4⟩ ?_ ?_
    · rw [q5 x hxl, zu_n hxy, zu_s]
    · rw [q5 y hyl, zu_s]
    · rw [offl _ (fun z hz q => hxl (by rw [hdj x z _ (by simp) (by simp [hz]) r2 q]; exact hz)), zu_n hne, zu_s]
    · rw [offl _ (fun z hz q => hyl (by rw [hdj y z _ (by simp) (by simp [hz]) r3 q]; exact hz)), zu_s]
    · intro z hz
      simp at hz
      rw [q5 z hz.2.2, zu_n hz.2.1, zu_n hz.1]
    · intro v hv'
      rw [offl v (fun z hz => hv' z (by simp [hz])), zu_n (fun z => hv' y (by simp) (by rw [z]; exact r3)), zu_n (fun z => hv' x (by simp) (by rw [z]; exact r2))]
end
end
section
/-! the walk of rotate and rebase as a whole -/
theorem zl_first {P : Nat → Prop} : ∀ l : List Nat, (∃ x, x ∈ l ∧ P x) → ∃ A f B, l = A ++ f :: B ∧ P f ∧ ∀ a, a ∈ A → ¬ P a := by
  intro l
  induction l with
  | nil => rintro ⟨x, hx, _⟩; simp at hx
  | cons a l ih =>
    rintro ⟨x, hx, hp⟩
    by_cases q : P a
    · exact ⟨[], a, l, rfl, q, fun b hb => by simp at hb⟩
    · have hx' : x ∈ l := by
        rcases List.mem_cons.mp hx with e | e
        · subst e; exact absurd hp q
        · exact e
      obtain ⟨A, f, B, e, h1, h2⟩ := ih ⟨x, hx', hp⟩
      refine ⟨a :: A, f, B, by rw [e]; rfl, h1, fun b hb => ?_⟩
      rcases List.mem_cons.mp hb with e' | e'
      · subst e'; exact q
      · exact h2 b e'
section
variable {f_outer f_inner f_n f_k f_maxSize f_barred f_stackSize f_eventA f_eventB : Int32} {f_eventDelta : Int64} {a_weight : Nat → Int32} {a_key : Nat → Int64} {a_slotMask a_slotValue a_bestMate a_bestWeight a_partner : Nat → Int32} {a_dual : Nat → Int64} {a_top a_members a_base a_label a_upFrom a_upTo a_head a_next a_nextFrom a_nextTo a_stack : Nat → Int32}
variable {E : Nat → Nat → Prop} {ms : Nat → Nat → Bool} {nx nf nt : Nat → Nat}
theorem zx_rotate {post : SX → Prop} {b : Nat} {bs mt : Nat → Nat} {rg : Nat → List Nat} {R : List Nat} (hA : zt_A ms rg) (hL : zt_Lnk E ms nx nf nt rg) (hb : zt_al rg b = true) (hbs : ms b (bs b) = true)
    (hv : ∀ x, x < 10 → rg x = []) (h16 : ∀ x c, c ∈ rg x → c < 16) (hN : zx_N 16 a_next nx) (hNf : zx_N 16 a_nextFrom nf) (hNt : zx_N 16 a_nextTo nt) (hm : zx_M a_members ms) (hR : (R.length : Int) + zd_cd ms b ≤ 10)
    (hP : zx_P a_partner mt) (hB : zx_N 16 a_base bs) (hH : zx_H a_head rg) (hK : zx_K a_stack R)
    (K : ∀ (f : Nat) (A B : List Nat) (bs1 mt1 : Nat → Nat) (a_partner' a_base' a_head' a_stack' : Nat → Int32), rg b = A ++ f :: B → ms f (bs b) = true → bs1 f = bs b → zl_pr (zt_P mt1 bs1 nf nt) (B ++ A) → (∀ z, z ∉ rg b → bs1 z = bs z) →
      (∀ v, (∀ z, z ∈ B ++ A → ¬ ms z v = true) → mt1 v = mt v) → zx_P a_partner' mt1 → zx_N 16 a_base' bs1 → zx_H a_head' (zu_U rg b (f :: (B ++ A))) → zx_K a_stack' (R ++ (f :: (B ++ A)).filter (zt_al rg)) →
      post (f_outer, f_inner, f_n, f_k, f_maxSize, f_barred, nI (R ++ (f :: (B ++ A)).filter (zt_al rg)).length, f_eventA, f_eventB, f_eventDelta, a_weight, a_key, a_slotMask, a_slotValue, a_bestMate, a_bestWeight, a_partner', a_dual, a_top, a_members, a_base', a_label, a_upFrom, a_upTo, a_head', a_next, a_nextFrom, a_nextTo, a_stack')) :
    wpX_rotate post (f_outer, f_inner, f_n, f_k, f_maxSize, f_barred, nI R.length, f_eventA, f_eventB, f_eventDelta, a_weight, a_key, a_slotMask, a_slotValue, a_bestMate, a_bestWeight, a_partner, a_dual, a_top, a_members, a_base, a_label, a_upFrom, a_upTo, a_head, a_next, a_nextFrom, a_nextTo, a_stack) (nI b) := by
  have hb16 := (zt_al_iff.mp hb).2.1
  have hbi := vp_in_nI (N := 16) hb16 (by omega)
  have hw10 := zt_lt hA hbs
  obtain ⟨A, f, B, e, hfw, hAw⟩ := zl_first (P := fun c => ms c (bs b) = true) (rg b) ((zt_un hA hb).mp hbs)
  obtain ⟨r1, r2, r3, r4, r5, r6⟩ := zr_turn hA hL hb e
  have hf16 : f < 16 := h16 b f (by rw [e]; simp)
  have hlen := zt_len hA hb
  have hal : zt_al (zu_U rg b (f :: (B ++ A))) = zt_al rg := funext (fun x => zr_al r1 x)
  have hcl := zl_sum_len (f := zd_cd ms) (rg b) (fun c hc => zt_cd1 hA (zt_kid hA hb hc))
  rw [← zt_cdsum hA hb] at hcl
  have hlen2 : (rg b).length = A.length + B.length + 1 := by rw [e]; simp; omega
  have hfn := List.nodup_cons.mp r6
  obtain ⟨c, hc⟩ : ∃ c, (A ++ [f]).head? = some c := by
    cases A with
    | nil => exact ⟨f, rfl⟩
    | cons a A => exact ⟨a, rfl⟩
  have hhd : a_head b = nI c := by
    rw [hH b hb16, e]
    cases A with
    | nil => simp at hc; subst hc; rfl
    | cons a A => simp at hc; subst hc; rfl
  have hch : zl_ch (zt_R E ms nx nf nt) (A ++ [f]) := by
    obtain ⟨d, t, e', _⟩ := zt_ring hA hb
    have := zl_ch_lk.mpr (hL b hb d t e')
    rw [show d :: (t ++ [d]) = (d :: t) ++ [d] from rfl, ← e', e, show A ++ f :: B ++ [d] = (A ++ [f]) ++ (B ++ [d]) by simp] at this
    exact zl_ch_pre this
  unfold wpX_rotate
  dsimp only
  rw [zx_cl hb16, hhd]
  refine ⟨hbi, nm_e ⟨10, zx_rot9 hb16 hB rfl hw10 hm hN hf16 hfw ?_ A c 0 10 (fun a ha => ⟨h16 b a (by rw [e]; simp [ha]), hAw a ha⟩) hc (zl_ch_mono (fun x y q => q.1) hch) (by omega) (by omega)⟩⟩
  unfold wX_rotate_46
  rw [zx_cl hb16, hB b hb16]
  refine ⟨hbi, nm_e ⟨hbi, ?_⟩⟩
  have hH1 : zx_H (upd a_head b (nI f)) (zu_U rg b (f :: (B ++ A))) := zx_Hu hH b rfl
  have hv1 : ∀ x, x < 10 → zu_U rg b (f :: (B ++ A)) x = [] := fun x hx => by
    rw [zu_n (by have := (zt_al_iff.mp hb).1; omega)]; exact hv x hx
  have h161 : ∀ x c, c ∈ zu_U rg b (f :: (B ++ A)) x → c < 16 := fun x c hc => h16 x c ((r1 x c).mp hc)
  refine zx_push hf16 hH1 hv1 h161 hK (by omega) (fun a_stack1 hK1 => ?_)
  refine ⟨vp_in_nI hf16 (by omega), ?_⟩
  rw [zx_cl hf16, hN f hf16]
  refine nm_e ⟨5, ?_⟩
  have hl1 : (R ++ [f].filter (zt_al (zu_U rg b (f :: (B ++ A))))).length ≤ R.length + 1 := by
    rw [List.length_append]
    have := List.length_filter_le (zt_al (zu_U rg b (f :: (B ++ A)))) [f]
    simp only [List.length_cons, List.length_nil] at this
    omega
  have hchf := zl_ch_lk.mpr r4
  have hhead : ((B ++ A) ++ [f]).head? = some (nx f) := by
    cases hBA : B ++ A with
    | nil => rw [hBA] at hchf; have := hchf.1.1; simp [this]
    | cons d l => rw [hBA] at hchf; have := hchf.1.1; simp [this]
  have hch2 : zl_ch (zt_R E ms nx nf nt) ((B ++ A) ++ [f]) := by
    cases hBA : B ++ A with
    | nil => trivial
    | cons d l => rw [hBA] at hchf; exact hchf.2
  have hBA : (B ++ A).length = A.length + B.length := by simp; omega
  have rbm : ∀ x, x ∈ f :: (B ++ A) ↔ x ∈ rg b := fun x => by
    have := r1 b x
    rw [zu_s] at this
    exact this
  refine zx_rot74 (E := E) (ms := ms) hf16 hH1 hv1 h161 hN hNf hNt (B ++ A) (nx f) 0 5 mt (zu_U bs f (bs b)) _ _ _ a_stack1 (fun x hx => h16 b x ((rbm x).mp (by simp at hx ⊢; exact Or.inr hx)))
    (fun x y v hx hy => zt_dj hA hb ((rbm x).mp (by simp at hx ⊢; exact Or.inr hx)) ((rbm y).mp (by simp at hy ⊢; exact Or.inr hy))) (fun x v => zt_lt hA) hhead hch2 r6 (by omega) (by omega) (by omega) r5 hP (zx_Nu hB f (bs b)) hK1 ?_
  intro a_partner' a_base' a_stack' mt' bs' q1 q2 q3 q4 q5 q6
  have efil : R ++ [f].filter (zt_al (zu_U rg b (f :: (B ++ A)))) ++ (B ++ A).filter (zt_al (zu_U rg b (f :: (B ++ A)))) = R ++ (f :: (B ++ A)).filter (zt_al rg) := by
    rw [hal, List.append_assoc, ← List.filter_append]; rfl
  rw [efil] at q3 ⊢
  refine K f A B bs' mt' a_partner' a_base' _ a_stack' e hfw ?_ q4 ?_ q6 q1 q2 hH1 q3
  · rw [q5 f hfn.1, zu_s]
  · intro z hz
    rw [← rbm] at hz
    have hz' : z ∉ B ++ A ∧ z ≠ f := ⟨fun w => hz (by simp at w ⊢; exact Or.inr w), fun w => hz (by rw [w]; simp)⟩
    rw [q5 z hz'.1, zu_n hz'.2]
theorem zx_rebase {post : SX → Prop} {x w : Nat} {bs mt : Nat → Nat} {rg : Nat → List Nat} (hA : zt_A ms rg) (hL : zt_Lnk E ms nx nf nt rg) (hx : zt_lv rg x) (hw : ms x w = true)
    (hv : ∀ x, x < 10 → rg x = []) (h16 : ∀ x c, c ∈ rg x → c < 16) (hN : zx_N 16 a_next nx) (hNf : zx_N 16 a_nextFrom nf) (hNt : zx_N 16 a_nextTo nt) (hm : zx_M a_members ms)
    (hP : zx_P a_partner mt) (hB : zx_N 16 a_base bs) (hH : zx_H a_head rg)
    (K : ∀ (bs' mt' : Nat → Nat) (rg' : Nat → List Nat) (f_stackSize' : Int32) (a_partner' a_base' a_head' a_stack' : Nat → Int32), zr_RB E nx nf nt ms [x] (zu_U bs x w) mt rg bs' mt' rg' → zx_P a_partner' mt' → zx_N 16 a_base' bs' → zx_H a_head' rg' →
      post (f_outer, f_inner, f_n, f_k, f_maxSize, f_barred, f_stackSize', f_eventA, f_eventB, f_eventDelta, a_weight, a_key, a_slotMask, a_slotValue, a_bestMate, a_bestWeight, a_partner', a_dual, a_top, a_members, a_base', a_label, a_upFrom, a_upTo, a_head', a_next, a_nextFrom, a_nextTo, a_stack')) :
    wpX_rebase post (f_outer, f_inner, f_n, f_k, f_maxSize, f_barred, f_stackSize, f_eventA, f_eventB, f_eventDelta, a_weight, a_key, a_slotMask, a_slotValue, a_bestMate, a_bestWeight, a_partner, a_dual, a_top, a_members, a_base, a_label, a_upFrom, a_upTo, a_head, a_next, a_nextFrom, a_nextTo, a_stack) (nI x) (nI w) := by
  have hx16 := zt_lv16 hx
  unfold wpX_rebase
  dsimp only
  refine zx_push (sk := []) hx16 hH hv h16 (fun j c hj => by simp at hj) (by simp) (fun a_stack1 hK1 => ?_)
  have hB1 := zx_Nu hB x w
  rcases hx with hx | hx
  · have hr := hv x hx
    have ha : ¬ zt_al rg x = true := fun z => (zt_al_iff.mp z).2.2 hr
    have e : [x].filter (zt_al rg) = [] := by rw [List.filter_cons, if_neg ha]; rfl
    rw [e]
    refine ⟨1, pk_le 16 0 (fun z => absurd z (by omega)) (fun _ => br_t (nI_leI (a := 0) (b := 0) (by omega) (by omega) |>.mpr (by omega)) ?_)⟩
    refine K _ mt rg _ _ _ _ _ (zr_refl hA hL (fun c hc => ?_)) hP hB1 hH
    simp at hc
    subst hc
    intro y hy hs
    have := zt_one hA hy hx hs
    subst this
    rw [zu_s]
    exact ⟨hw, fun z => absurd z ha⟩
  · have e : [x].filter (zt_al rg) = [x] := by rw [List.filter_cons, if_pos hx]; rfl
    rw [e] at hK1
    rw [e]
    have hrun := zr_run (E := E) (nx := nx) (nf := nf) (nt := nt) (ms := ms)
      (W := fun n i bs mt rg sk => ∀ a_partner a_base a_head a_stack, zx_P a_partner mt → zx_N 16 a_base bs → zx_H a_head rg → zx_K a_stack sk → (∀ x, x < 10 → rg x = []) → (∀ x c, c ∈ rg x → c < 16) →
        wX_rebase_13 post n (nI i) f_outer f_inner f_n f_k f_maxSize f_barred (nI sk.length) f_eventA f_eventB f_eventDelta a_weight a_key a_slotMask a_slotValue a_bestMate a_bestWeight a_partner a_dual a_top a_members a_base a_label a_upFrom a_upTo a_head a_next a_nextFrom a_nextTo a_stack)
      (fun n i bs mt rg R b hA hL hb hbs hi hR hW a_partner a_base a_head a_stack hP hB hH hK hv h16 => by
        refine pk_le 16 i (fun z => absurd z (by omega)) (fun _ => ?_)
        have hl : (R ++ [b]).length = R.length + 1 := by simp
        have hcb := zt_cd1 hA (Or.inr hb)
        rw [hl]
        refine br_f (nI_ge (a := 0) (by omega) (by omega)) (nm_r (nI_pred R.length) ?_)
        refine ⟨vp_in_nI (by omega) (by omega), ?_⟩
        have hst : a_stack R.length = nI b := hK R.length b (by simp)
        rw [nI_clamp (n := R.length) (by omega), hst]
        refine zx_rotate hA hL hb hbs hv h16 hN hNf hNt hm hR hP hB hH (fun j c hj => hK j c ?_) ?_
        · rw [List.getElem?_append_left]
          · exact hj
          · rcases Nat.lt_or_ge j R.length with q | q
            · exact q
            · rw [List.getElem?_eq_none q] at hj; exact absurd hj (by simp)
        · intro f A B bs1 mt1 a_partner' a_base' a_head' a_stack' q1 q2 q3 q4 q5 q6 q7 q8 q9 q10
          obtain ⟨r1, _⟩ := zr_turn hA hL hb q1
          refine nm_r (nI_1 i) (hW f A B bs1 mt1 q1 q2 q3 q4 q5 q6 a_partner' a_base' a_head' a_stack' q7 q8 q9 q10 (fun y hy => ?_) (fun y c hc => h16 y c ((r1 y c).mp hc)))
          exact (zr_nil r1 y).mpr (hv y hy))
      10 [x] [] 17 0 (zu_U bs x w) mt rg
      (by show zd_cd ms x - 1 + 0 ≤ ((10 : Nat) : Int); have := zt_cd10 (ms := ms) x; omega)
      hA hL (fun c hc => by simp at hc; subst hc; rw [zu_s]; exact ⟨hx, hw⟩) (fun c d hc hd hn => by simp at hc hd; subst hc hd; exact absurd rfl hn) (by simp)
      (by show ((0 : Nat) : Int) + (zd_cd ms x + 0) ≤ 10; have := zt_cd10 (ms := ms) x; omega)
      (by show 2 * ((0 : Nat) : Int) + (zd_cd ms x - 1 + 0) ≤ 31; have := zt_cd10 (ms := ms) x; omega) (by omega)
      (fun bs' mt' rg' n' i' hRB hn' hi' a_partner' a_base' a_head' a_stack' hP' hB' hH' _ _ _ => by
        have hi2 : 2 * (i' : Int) ≤ 2 * ((0 : Nat) : Int) + (zd_cd ms x - 1 + 0) := hi'
        have := zt_cd10 (ms := ms) x
        obtain ⟨n', rfl⟩ : ∃ k, n' = k + 1 := ⟨n' - 1, by omega⟩
        refine pk_le 16 i' (fun z => absurd z (by omega)) (fun _ => br_t (nI_leI (a := 0) (b := 0) (by omega) (by omega) |>.mpr (by omega)) ?_)
        exact K bs' mt' rg' _ _ _ _ _ hRB hP' hB' hH')
    exact ⟨17, hrun a_partner (upd a_base x (nI w)) a_head a_stack1 hP hB1 hH hK1 hv h16⟩
end
end
section
/-! the walk of flipPath and of meeting -/
section
variable {f_outer f_inner f_n f_k f_maxSize f_barred f_stackSize f_eventA f_eventB : Int32} {f_eventDelta : Int64} {a_weight : Nat → Int32} {a_key : Nat → Int64} {a_slotMask a_slotValue a_bestMate a_bestWeight a_partner : Nat → Int32} {a_dual : Nat → Int64} {a_top a_members a_base a_label a_upFrom a_upTo a_head a_next a_nextFrom a_nextTo a_stack : Nat → Int32}
variable {E : Nat → Nat → Prop} {ms : Nat → Nat → Bool} {nx nf nt tp uf ut : Nat → Nat}
theorem zx_flip8 {post : SX → Prop} (hN : zx_N 16 a_next nx) (hNf : zx_N 16 a_nextFrom nf) (hNt : zx_N 16 a_nextTo nt) (hm : zx_M a_members ms) (hT : zx_N 10 a_top tp) (hUf : zx_N 16 a_upFrom uf) (hUt : zx_N 16 a_upTo ut) :
    ∀ l : List Nat, ∀ (x near far i n : Nat) (bs mt : Nat → Nat) (rg : Nat → List Nat) (f_stackSize : Int32) (a_partner a_base a_head a_stack : Nat → Int32),
      zt_A ms rg → zt_Lnk E ms nx nf nt rg → (∀ x, x < 10 → rg x = []) → (∀ x c, c ∈ rg x → c < 16) → zf_UP tp ut x l → tp near = x → ms x near = true → near < 10 → far < 10 → far ≠ near →
      (∀ y, y ∈ x :: l → zt_lv rg y) → (∀ y, y ∈ l → ms y (uf y) = true ∧ (ut y < 10 → ut y ≠ uf y ∧ ms (tp (ut y)) (ut y) = true)) → (∀ p q, p ∈ x :: l → q ∈ x :: l → p ≠ q → zr_dis ms p q) → (x :: l).Nodup → l.length % 2 = 0 →
      2 * i + l.length < 20 → l.length < 2 * n →
      zx_P a_partner mt → zx_N 16 a_base bs → zx_H a_head rg →
      (∀ (bs' mt' : Nat → Nat) (rg' : Nat → List Nat) (f_stackSize' : Int32) (a_partner' a_base' a_head' a_stack' : Nat → Int32), zr_FS E nx nf nt ms (x :: l) bs mt rg bs' mt' rg' → zr_BM uf ut bs' mt' x near far l → zx_P a_partner' mt' → zx_N 16 a_base' bs' → zx_H a_head' rg' →
        post (f_outer, f_inner, f_n, f_k, f_maxSize, f_barred, f_stackSize', f_eventA, f_eventB, f_eventDelta, a_weight, a_key, a_slotMask, a_slotValue, a_bestMate, a_bestWeight, a_partner', a_dual, a_top, a_members, a_base', a_label, a_upFrom, a_upTo, a_head', a_next, a_nextFrom, a_nextTo, a_stack')) →
      wX_flipPath_8 post n (nI near) (nI far) (nI i) f_outer f_inner f_n f_k f_maxSize f_barred f_stackSize f_eventA f_eventB f_eventDelta a_weight a_key a_slotMask a_slotValue a_bestMate a_bestWeight a_partner a_dual a_top a_members a_base a_label a_upFrom a_upTo a_head a_next a_nextFrom a_nextTo a_stack := by
  have pre : ∀ (x near far i n : Nat) (l : List Nat), i < 10 → near < 10 → True := fun _ _ _ _ _ _ _ _ => trivial
  refine zl_ind2 ?_ ?_ ?_
  · intro x near far i n bs mt rg f_stackSize a_partner a_base a_head a_stack hA hL hv h16 hU htn hmn hn10 hf10 hfn hlv _ _ _ _ hi hn hP hB hH K
    obtain ⟨n, rfl⟩ : ∃ k, n = k + 1 := ⟨n - 1, by simp at hn; omega⟩
    simp at hi
    have hni := vp_in_nI (N := 10) hn10 (by omega)
    have hx := hlv x (by simp)
    refine pk_le 10 i (fun z => absurd z (by omega)) (fun _ => br_f (nI_pos (by omega)) ⟨hni, ?_⟩)
    rw [nI_clamp (n := near) (by omega), hT near hn10, htn]
    refine zx_rebase hA hL hx hmn hv h16 hN hNf hNt hm hP hB hH ?_
    intro bs1 mt1 rg1 f_s1 a_partner1 a_base1 a_head1 a_stack1 hRB hP1 hB1 hH1
    refine ⟨hni, nm_e ⟨hni, ?_⟩⟩
    rw [hT near hn10, htn]
    refine zx_above0 (zt_lv16 hx) hUt hU (br_f zx_m1ge ?_)
    obtain ⟨s1, s2, s3⟩ := zr_FS1 (far := far) hA hx hmn hRB
    exact K bs1 (zu_U mt1 near far) rg1 _ _ _ _ _ s1 ⟨s2, s3⟩ (zx_Pu hP1 hfn) hB1 hH1
  · intro y x near far i n bs mt rg f_stackSize a_partner a_base a_head a_stack _ _ _ _ _ _ _ _ _ _ _ _ _ _ he
    simp at he
  · intro y z l ih x near far i n bs mt rg f_stackSize a_partner a_base a_head a_stack hA hL hv h16 hU htn hmn hn10 hf10 hfn hlv hue hdis hnd he hi hn hP hB hH K
    obtain ⟨n, rfl⟩ : ∃ k, n = k + 1 := ⟨n - 1, by simp at hn; omega⟩
    simp only [List.length_cons] at hi hn he
    have hni := vp_in_nI (N := 10) hn10 (by omega)
    have hx := hlv x (by simp)
    have hy := hlv y (by simp)
    have hy16 := zt_lv16 hy
    have hyi := vp_in_nI (N := 16) hy16 (by omega)
    obtain ⟨u1, u2, u3, u4, u5⟩ := hU
    obtain ⟨e1, e2⟩ := hue y (by simp)
    obtain ⟨e3, e4⟩ := e2 u3
    rw [u4] at e4
    have huf10 := zt_lt hA e1
    have hfi := vp_in_nI (N := 10) huf10 (by omega)
    refine pk_le 10 i (fun z => absurd z (by omega)) (fun _ => br_f (nI_pos (by omega)) ⟨hni, ?_⟩)
    rw [nI_clamp (n := near) (by omega), hT near hn10, htn]
    refine zx_rebase hA hL hx hmn hv h16 hN hNf hNt hm hP hB hH ?_
    intro bs1 mt1 rg1 f_s1 a_partner1 a_base1 a_head1 a_stack1 hRB hP1 hB1 hH1
    refine ⟨hni, nm_e ⟨hni, ?_⟩⟩
    rw [hT near hn10, htn]
    refine zx_above (zt_lv16 hx) hUt hT u1 u2 (br_t (nI_pos' (by omega)) ⟨hyi, ?_⟩)
    rw [zx_cl hy16, hUf y hy16, hUt y hy16]
    refine nm_e ⟨hyi, nm_e ?_⟩
    obtain ⟨s1, s2, s3⟩ := zr_FS1 (far := far) hA hx hmn hRB
    have s1' := s1
    obtain ⟨m1, ⟨hA1, hL1⟩, _⟩ := s1'
    refine zx_rebase hA1 hL1 ((zr_lv m1 y).mpr hy) e1 (fun x hx => (zr_nil m1 x).mpr (hv x hx)) (fun x c hc => h16 x c ((m1 x c).mp hc)) hN hNf hNt hm (zx_Pu hP1 hfn) hB1 hH1 ?_
    intro bs2 mt2 rg2 f_s2 a_partner2 a_base2 a_head2 a_stack2 hRB2 hP2 hB2 hH2
    refine ⟨hfi, ?_⟩
    rw [nI_clamp (n := uf y) (by omega)]
    refine nm_e (nm_r (nI_1 i) ?_)
    obtain ⟨t1, t2, t3⟩ := zr_FS1 (far := ut y) hA1 ((zr_lv m1 y).mpr hy) e1 hRB2
    have t1' := t1
    obtain ⟨m2, ⟨hA2, hL2⟩, _⟩ := t1'
    have hnd1 := List.nodup_cons.mp hnd
    have hnd2 := List.nodup_cons.mp hnd1.2
    have dxy : zr_dis ms x y := hdis x y (by simp) (by simp) (fun e => hnd1.1 (by rw [e]; simp))
    have d1 : ∀ p q, p ∈ [x] → q ∈ y :: z :: l → zr_dis ms p q := fun p q hp hq => by
      simp at hp; subst hp
      exact hdis p q (by simp) (by simp at hq ⊢; exact Or.inr hq) (fun e => hnd1.1 (by rw [e]; exact hq))
    have d2 : ∀ p q, p ∈ [y] → q ∈ z :: l → zr_dis ms p q := fun p q hp hq => by
      simp at hp; subst hp
      exact hdis p q (by simp) (by simp at hq ⊢; exact Or.inr (Or.inr hq)) (fun e => hnd2.1 (by rw [e]; exact hq))
    have mm : ∀ x c, c ∈ rg2 x ↔ c ∈ rg x := fun x c => (m2 x c).trans (m1 x c)
    refine ih z (ut y) (uf y) (i + 1) n bs2 (zu_U mt2 (uf y) (ut y)) rg2 f_s2 _ a_base2 a_head2 a_stack2 hA2 hL2 (fun x hx => (zr_nil mm x).mpr (hv x hx)) (fun x c hc => h16 x c ((mm x c).mp hc)) u5 u4 e4 u3 huf10 (fun e => e3 e.symm)
      (fun p hp => (zr_lv mm p).mpr (hlv p (by simp at hp ⊢; exact Or.inr (Or.inr hp)))) (fun p hp => hue p (by simp [hp])) (fun p q hp hq => hdis p q (by simp at hp ⊢; exact Or.inr (Or.inr hp)) (by simp at hq ⊢; exact Or.inr (Or.inr hq))) hnd2.2 (by omega) (by omega) (by omega)
      (zx_Pu hP2 e3) hB2 hH2 ?_
    intro bs3 mt3 rg3 f_s3 a_partner3 a_base3 a_head3 a_stack3 hFS hBM hP3 hB3 hH3
    have c2 : zr_FS E nx nf nt ms (y :: z :: l) bs1 (zu_U mt1 near far) rg1 bs3 mt3 rg3 := zr_FSc (P := [y]) d2 t1 hFS
    have c1 : zr_FS E nx nf nt ms (x :: y :: z :: l) bs mt rg bs3 mt3 rg3 := zr_FSc (P := [x]) d1 s1 c2
    refine K bs3 mt3 rg3 f_s3 a_partner3 a_base3 a_head3 a_stack3 c1 ⟨?_, ?_, ?_, ?_, hBM⟩ hP3 hB3 hH3
    · rw [(c2.2.2.1 x (fun p hp => zr_dsub hA (d1 x p (by simp) hp) hx (fun w hw => hw))).2, s2]
    · rw [c2.2.2.2.1 near (fun p hp q => d1 x p (by simp) hp near hmn q), s3]
    · rw [(hFS.2.2.1 y (fun p hp => zr_dsub hA (d2 y p (by simp) hp) hy (fun w hw => hw))).2, t2]
    · rw [hFS.2.2.2.1 (uf y) (fun p hp q => d2 y p (by simp) hp _ e1 q), t3]
theorem zx_meet47 {post : Int32 → Prop} {mk : Int32} {P : Nat → Prop} (hT : zx_N 10 a_top tp) (hUt : zx_N 16 a_upTo ut) (hmk : ∀ y, y < 16 → (bt mk y = true ↔ P y)) :
    ∀ (l : List Nat) (x i n : Nat), zf_UP tp ut x l → (∀ y, y ∈ x :: l → y < 16) → i + (x :: l).length ≤ 16 → l.length + 1 < n →
      (((∀ y, y ∈ x :: l → ¬ P y) ∧ post (-1)) ∨ (∃ B m C, x :: l = B ++ m :: C ∧ P m ∧ (∀ y, y ∈ B → ¬ P y) ∧ post (nI m))) → wX_meeting_47 post mk f_outer f_inner f_n f_k f_maxSize f_barred f_stackSize f_eventA f_eventB f_eventDelta a_weight a_key a_slotMask a_slotValue a_bestMate a_bestWeight a_partner a_dual a_top a_members a_base a_label a_upFrom a_upTo a_head a_next a_nextFrom a_nextTo a_stack n (nI x) (nI i) := by
  intro l
  induction l with
  | nil =>
    intro x i n hU h16 hi hn K
    obtain ⟨n, rfl⟩ : ∃ k, n = k + 1 := ⟨n - 1, by omega⟩
    simp only [List.length_cons, List.length_nil] at hi hn
    have hx := h16 x (by simp)
    refine pk_le 16 i (fun z => absurd z (by omega)) (fun _ => br_f (zx_neg hx) ?_)
    by_cases q : P x
    · have hb : ¬ ((mk >>> (nI x &&& 31)) &&& 1) = 0 := fun z => by
        rw [zx_bit _ (by omega), ← Bool.not_eq_true, hmk x hx] at z
        exact z q
      refine br_f hb ?_
      rcases K with ⟨k1, _⟩ | ⟨B, m, C, e, k1, k2, k3⟩
      · exact absurd q (k1 x (by simp))
      · cases B with
        | nil => obtain ⟨rfl, _⟩ := List.cons.inj e; exact k3
        | cons b B => obtain ⟨rfl, _⟩ := List.cons.inj e; exact absurd q (k2 x (by simp))
    · have hb : ((mk >>> (nI x &&& 31)) &&& 1) = 0 := by
        rw [zx_bit _ (by omega), ← Bool.not_eq_true, hmk x hx]; exact q
      refine br_t hb (zx_above0 hx hUt hU (nm_r (nI_1 i) ?_))
      have K' : post (-1) := by
        rcases K with ⟨_, k2⟩ | ⟨B, m, C, e, k1, k2, k3⟩
        · exact k2
        · cases B with
          | nil => obtain ⟨rfl, _⟩ := List.cons.inj e; exact absurd k1 q
          | cons b B =>
            have := (List.cons.inj e).2
            simp at this
      obtain ⟨n, rfl⟩ : ∃ k, n = k + 1 := ⟨n - 1, by omega⟩
      exact br_c (fun _ => K') (fun _ => br_t zx_m1lt K')
  | cons y l ih =>
    intro x i n hU h16 hi hn K
    obtain ⟨n, rfl⟩ : ∃ k, n = k + 1 := ⟨n - 1, by omega⟩
    simp only [List.length_cons] at hi hn
    have hx := h16 x (by simp)
    obtain ⟨u1, u2, u3⟩ := hU
    refine pk_le 16 i (fun z => absurd z (by omega)) (fun _ => br_f (zx_neg hx) ?_)
    by_cases q : P x
    · have hb : ¬ ((mk >>> (nI x &&& 31)) &&& 1) = 0 := fun z => by
        rw [zx_bit _ (by omega), ← Bool.not_eq_true, hmk x hx] at z
        exact z q
      refine br_f hb ?_
      rcases K with ⟨k1, _⟩ | ⟨B, m, C, e, k1, k2, k3⟩
      · exact absurd q (k1 x (by simp))
      · cases B with
        | nil => obtain ⟨rfl, _⟩ := List.cons.inj e; exact k3
        | cons b B => obtain ⟨rfl, _⟩ := List.cons.inj e; exact absurd q (k2 x (by simp))
    · have hb : ((mk >>> (nI x &&& 31)) &&& 1) = 0 := by
        rw [zx_bit _ (by omega), ← Bool.not_eq_true, hmk x hx]; exact q
      refine br_t hb (zx_above hx hUt hT u1 u2 (nm_r (nI_1 i) (ih y (i + 1) n u3 (fun z hz => h16 z (by simp at hz ⊢; exact Or.inr hz)) (by simp only [List.length_cons]; omega) (by omega) ?_)))
      rcases K with ⟨k1, k2⟩ | ⟨B, m, C, e, k1, k2, k3⟩
      · exact Or.inl ⟨fun z hz => k1 z (by simp at hz ⊢; exact Or.inr hz), k2⟩
      · cases B with
        | nil => obtain ⟨rfl, _⟩ := List.cons.inj e; exact absurd k1 q
        | cons b B => exact Or.inr ⟨B, m, C, (List.cons.inj e).2, k1, fun z hz => k2 z (by simp [hz]), k3⟩
theorem zx_meet8 {post : Int32 → Prop} {x2 : Int32} (hT : zx_N 10 a_top tp) (hUt : zx_N 16 a_upTo ut) :
    ∀ (l : List Nat) (x i n : Nat) (mk : Int32), zf_UP tp ut x l → (∀ y, y ∈ x :: l → y < 16) → i + (x :: l).length ≤ 16 → l.length + 1 < n →
      (∀ mk', (∀ y, y < 16 → (bt mk' y = true ↔ (bt mk y = true ∨ y ∈ x :: l))) → ∃ n47, wX_meeting_47 post mk' f_outer f_inner f_n f_k f_maxSize f_barred f_stackSize f_eventA f_eventB f_eventDelta a_weight a_key a_slotMask a_slotValue a_bestMate a_bestWeight a_partner a_dual a_top a_members a_base a_label a_upFrom a_upTo a_head a_next a_nextFrom a_nextTo a_stack n47 x2 0) → wX_meeting_8 post x2 f_outer f_inner f_n f_k f_maxSize f_barred f_stackSize f_eventA f_eventB f_eventDelta a_weight a_key a_slotMask a_slotValue a_bestMate a_bestWeight a_partner a_dual a_top a_members a_base a_label a_upFrom a_upTo a_head a_next a_nextFrom a_nextTo a_stack n mk (nI x) (nI i) := by
  intro l
  induction l with
  | nil =>
    intro x i n mk hU h16 hi hn K
    obtain ⟨n, rfl⟩ : ∃ k, n = k + 1 := ⟨n - 1, by omega⟩
    simp only [List.length_cons, List.length_nil] at hi hn
    have hx := h16 x (by simp)
    refine pk_le 16 i (fun z => absurd z (by omega)) (fun _ => br_f (zx_neg hx) (nm_e (nm_r (nI_1 i) (zx_above0 hx hUt hU ?_))))
    have K' := K (mk ||| ((1 : Int32) <<< (nI x &&& 31))) (fun y hy => by
      rw [b_or, zx_B1' hx hy]; simp)
    obtain ⟨n, rfl⟩ : ∃ k, n = k + 1 := ⟨n - 1, by omega⟩
    exact br_c (fun _ => K') (fun _ => br_t zx_m1lt K')
  | cons y l ih =>
    intro x i n mk hU h16 hi hn K
    obtain ⟨n, rfl⟩ : ∃ k, n = k + 1 := ⟨n - 1, by omega⟩
    simp only [List.length_cons] at hi hn
    have hx := h16 x (by simp)
    obtain ⟨u1, u2, u3⟩ := hU
    refine pk_le 16 i (fun z => absurd z (by omega)) (fun _ => br_f (zx_neg hx) (nm_e (nm_r (nI_1 i) (zx_above hx hUt hT u1 u2 ?_))))
    refine ih y (i + 1) n _ u3 (fun z hz => h16 z (by simp at hz ⊢; exact Or.inr hz)) (by simp only [List.length_cons]; omega) (by omega) (fun mk' hmk' => K mk' (fun z hz => ?_))
    rw [hmk' z hz, b_or, zx_B1' hx hz]
    simp only [List.mem_cons, Bool.or_eq_true, decide_eq_true_eq]
    constructor
    · rintro ((q | q) | q)
      · exact Or.inl q
      · exact Or.inr (Or.inl q)
      · exact Or.inr (Or.inr q)
    · rintro (q | q | q)
      · exact Or.inl (Or.inl q)
      · exact Or.inl (Or.inr q)
      · exact Or.inr q
theorem zx_meeting {post : Int32 → Prop} (hT : zx_N 10 a_top tp) (hUt : zx_N 16 a_upTo ut) {a b : Nat} {la lb : List Nat} (ha : zf_UP tp ut a la) (hb : zf_UP tp ut b lb) (ha16 : ∀ y, y ∈ a :: la → y < 16) (hb16 : ∀ y, y ∈ b :: lb → y < 16) (na : (a :: la).Nodup) (nb : (b :: lb).Nodup)
    (K1 : (∀ y, y ∈ b :: lb → y ∉ a :: la) → post (-1)) (K2 : ∀ m A B C C', a :: la = A ++ m :: C → b :: lb = B ++ m :: C' → (∀ y, y ∈ B → y ∉ a :: la) → post (nI m)) : wpX_meeting post (f_outer, f_inner, f_n, f_k, f_maxSize, f_barred, f_stackSize, f_eventA, f_eventB, f_eventDelta, a_weight, a_key, a_slotMask, a_slotValue, a_bestMate, a_bestWeight, a_partner, a_dual, a_top, a_members, a_base, a_label, a_upFrom, a_upTo, a_head, a_next, a_nextFrom, a_nextTo, a_stack) (nI a) (nI b) := by
  have l1 := zl_pigeon 16 _ na ha16
  have l2 := zl_pigeon 16 _ nb hb16
  refine ⟨la.length + 2, zx_meet8 hT hUt la a 0 _ 0 ha ha16 (by omega) (by omega) (fun mk hmk => ⟨lb.length + 2, ?_⟩)⟩
  refine zx_meet47 (P := fun y => y ∈ a :: la) hT hUt (fun y hy => by rw [hmk y hy, b_0]; simp) lb b 0 _ hb hb16 (by omega) (by omega) ?_
  by_cases q : ∃ y, y ∈ b :: lb ∧ y ∈ a :: la
  · obtain ⟨B, m, C', e, h1, h2⟩ := zl_first (P := fun y => y ∈ a :: la) (b :: lb) q
    obtain ⟨A, C, e'⟩ := List.append_of_mem h1
    exact Or.inr ⟨B, m, C', e, h1, h2, K2 m A B C C' e' e h2⟩
  · have : ∀ y, y ∈ b :: lb → y ∉ a :: la := fun y hy z => q ⟨y, hy, z⟩
    exact Or.inl ⟨this, K1 this⟩
end
end
section
/-! the walk of chain and formBlossom -/
theorem zf_ntail {R : Nat → Nat → Prop} {m : Nat} : ∀ {B : List Nat}, zl_ch R (B ++ [m]) → ∀ y, y ∈ B → ∃ q, q ∈ (B ++ [m]).tail ∧ R y q := by
  intro B
  induction B with
  | nil => intro _ y hy; simp at hy
  | cons x B ih =>
    intro h y hy
    cases B with
    | nil =>
      simp at hy; subst hy
      exact ⟨m, by simp, h.1⟩
    | cons z B =>
      rcases List.mem_cons.mp hy with e | hy
      · subst e; exact ⟨z, by simp, h.1⟩
      · obtain ⟨q, hq, r⟩ := ih h.2 y hy
        refine ⟨q, ?_, r⟩
        simp at hq ⊢
        exact Or.inr hq
section
variable {f_outer f_inner f_n f_k f_maxSize f_barred f_stackSize f_eventA f_eventB : Int32} {f_eventDelta : Int64} {a_weight : Nat → Int32} {a_key : Nat → Int64} {a_slotMask a_slotValue a_bestMate a_bestWeight a_partner : Nat → Int32} {a_dual : Nat → Int64} {a_top a_members a_base a_label a_upFrom a_upTo a_head a_next a_nextFrom a_nextTo a_stack : Nat → Int32}
variable {tp uf ut : Nat → Nat}
theorem zx_chainU {post : SX → Prop} {nb m : Nat} (hnb : nb < 16) (hm16 : m < 16) (hT : zx_N 10 a_top tp) (hUf : zx_N 16 a_upFrom uf) (hUt : zx_N 16 a_upTo ut) :
    ∀ (A : List Nat) (c i n : Nat) (nx nf nt : Nat → Nat) (ms : Nat → Nat → Bool) (lb : Nat → Int) (a_members a_label a_next a_nextFrom a_nextTo : Nat → Int32), (A ++ [m]).head? = some c → zl_ch (fun x y => ut x < 10 ∧ tp (ut x) = y) (A ++ [m]) → (A ++ [m]).Nodup → (∀ x, x ∈ A → x < 16 ∧ x ≠ nb) → i + A.length < 16 → A.length < n →
      zx_N 16 a_next nx → zx_N 16 a_nextFrom nf → zx_N 16 a_nextTo nt → zx_M a_members ms → zx_L a_label lb →
      (∀ (nx' nf' nt' : Nat → Nat) (ms' : Nat → Nat → Bool) (lb' : Nat → Int) (a_members' a_label' a_next' a_nextFrom' a_nextTo' : Nat → Int32),
        (∀ x, x ∈ A → nx' x = tp (ut x) ∧ nf' x = uf x ∧ nt' x = ut x) → (∀ x, x ∉ A → nx' x = nx x ∧ nf' x = nf x ∧ nt' x = nt x) → (∀ x, x ≠ nb → ms' x = ms x) → (∀ w, ms' nb w = (ms nb w || A.any (fun c => ms c w))) →
        (∀ x, x ∈ A → lb' x = 0) → (∀ x, x ∉ A → lb' x = lb x) → zx_N 16 a_next' nx' → zx_N 16 a_nextFrom' nf' → zx_N 16 a_nextTo' nt' → zx_M a_members' ms' → zx_L a_label' lb' →
        post (f_outer, f_inner, f_n, f_k, f_maxSize, f_barred, f_stackSize, f_eventA, f_eventB, f_eventDelta, a_weight, a_key, a_slotMask, a_slotValue, a_bestMate, a_bestWeight, a_partner, a_dual, a_top, a_members', a_base, a_label', a_upFrom, a_upTo, a_head, a_next', a_nextFrom', a_nextTo', a_stack)) →
      wX_chain_6 post (nI nb) (nI m) 1 n (nI c) (nI i) f_outer f_inner f_n f_k f_maxSize f_barred f_stackSize f_eventA f_eventB f_eventDelta a_weight a_key a_slotMask a_slotValue a_bestMate a_bestWeight a_partner a_dual a_top a_members a_base a_label a_upFrom a_upTo a_head a_next a_nextFrom a_nextTo a_stack := by
  intro A
  induction A with
  | nil =>
    intro c i n nx nf nt ms lb a_members a_label a_next a_nextFrom a_nextTo hc _ _ _ hi hn h1 h2 h3 h4 h5 K
    obtain ⟨n, rfl⟩ : ∃ k, n = k + 1 := ⟨n - 1, by omega⟩
    simp at hc
    subst hc
    refine pk_le 16 i (fun z => absurd z (by simp at hi; omega)) (fun _ => br_t rfl ?_)
    exact K nx nf nt ms lb _ _ _ _ _ (fun x hx => by simp at hx) (fun _ _ => ⟨rfl, rfl, rfl⟩) (fun _ _ => rfl) (fun w => by simp) (fun x hx => by simp at hx) (fun _ _ => rfl) h1 h2 h3 h4 h5
  | cons x A ih =>
    intro c i n nx nf nt ms lb a_members a_label a_next a_nextFrom a_nextTo hc hch hnd hA hi hn h1 h2 h3 h4 h5 K
    obtain ⟨n, rfl⟩ : ∃ k, n = k + 1 := ⟨n - 1, by omega⟩
    simp at hc
    subst hc
    simp only [List.length_cons] at hi hn
    obtain ⟨hx, hxnb⟩ := hA x (by simp)
    have hxi := vp_in_nI (N := 16) hx (by omega)
    have hnd1 := List.nodup_cons.mp (show (x :: (A ++ [m])).Nodup from hnd)
    have hxm : x ≠ m := fun z => hnd1.1 (by rw [z]; simp)
    have hxA : x ∉ A := fun z => hnd1.1 (by simp [z])
    obtain ⟨y, hy, r1, r2⟩ : ∃ y, (A ++ [m]).head? = some y ∧ ut x < 10 ∧ tp (ut x) = y := by
      cases A with
      | nil => exact ⟨m, rfl, hch.1⟩
      | cons d A => exact ⟨d, rfl, hch.1⟩
    have hch2 : zl_ch (fun x y => ut x < 10 ∧ tp (ut x) = y) (A ++ [m]) := by
      cases A with
      | nil => trivial
      | cons d A => exact hch.2
    refine pk_le 16 i (fun z => absurd z (by omega)) (fun _ => br_f (fun z => hxm ((nI_eq (by omega) (by omega)).mp z)) ⟨hxi, ?_⟩)
    rw [zx_cl hx, hUt x hx, hUf x hx]
    refine br_f (nI_pos (by omega)) ⟨hxi, vp_in_nI r1 (by omega), ?_⟩
    rw [nI_clamp (n := ut x) (by omega), hT _ r1, r2]
    refine nm_e (br_f (by decide) ⟨hxi, hxi, ?_⟩)
    refine zx_link hx ?_
    unfold wX_chain_95
    have hbi := vp_in_nI (N := 16) hnb (by omega)
    rw [zx_cl hnb, zx_cl hx]
    refine ⟨hbi, hxi, hbi, nm_e ⟨hxi, nm_e (nm_r (nI_1 i) ?_)⟩⟩
    refine ih y (i + 1) n (zu_U nx x y) (zu_U nf x (uf x)) (zu_U nt x (ut x)) (zu_U ms nb (fun v => ms nb v || ms x v)) (zu_U lb x 0) _ _ _ _ _ hy hch2 hnd1.2 (fun z hz => hA z (by simp [hz])) (by omega) (by omega) (zx_Nu h1 x y) (zx_Nu h2 x (uf x)) (zx_Nu h3 x (ut x)) (zx_Mu h4 nb (zx_Bor (h4 nb hnb) (h4 x hx))) (zx_Lu h5 x (by decide)) ?_
    intro nx' nf' nt' ms' lb' a_m a_l a_n a_nf a_nt q1 q2 q3 q4 q5 q6 q7 q8 q9 q10 q11
    refine K nx' nf' nt' ms' lb' a_m a_l a_n a_nf a_nt ?_ ?_ ?_ ?_ ?_ ?_ q7 q8 q9 q10 q11
    · intro z hz
      rcases List.mem_cons.mp hz with e | hz
      · subst e
        obtain ⟨p1, p2, p3⟩ := q2 z hxA
        rw [zu_s] at p1 p2 p3
        exact ⟨p1.trans r2.symm, p2, p3⟩
      · exact q1 z hz
    · intro z hz
      simp at hz
      obtain ⟨p1, p2, p3⟩ := q2 z hz.2
      rw [zu_n hz.1] at p1 p2 p3
      exact ⟨p1, p2, p3⟩
    · intro z hz
      rw [q3 z hz, zu_n hz]
    · intro w
      rw [q4 w, zu_s, List.any_cons, Bool.or_assoc]
      congr 2
      apply Bool.eq_iff_iff.mpr
      rw [List.any_eq_true, List.any_eq_true]
      constructor
      · rintro ⟨z, hz, p⟩; exact ⟨z, hz, by rw [zu_n (hA z (by simp [hz])).2] at p; exact p⟩
      · rintro ⟨z, hz, p⟩; exact ⟨z, hz, by rw [zu_n (hA z (by simp [hz])).2]; exact p⟩
    · intro z hz
      rcases List.mem_cons.mp hz with e | hz
      · subst e; rw [q6 z hxA, zu_s]
      · exact q5 z hz
    · intro z hz
      simp at hz
      rw [q6 z hz.2, zu_n hz.1]
theorem zx_chainD {post : SX → Prop} {nb m : Nat} (hnb : nb < 16) (hm16 : m < 16) (hT : zx_N 10 a_top tp) (hUf : zx_N 16 a_upFrom uf) (hUt : zx_N 16 a_upTo ut) :
    ∀ (A : List Nat) (c i n : Nat) (nx nf nt : Nat → Nat) (ms : Nat → Nat → Bool) (lb : Nat → Int) (a_members a_label a_next a_nextFrom a_nextTo : Nat → Int32), (A ++ [m]).head? = some c → zl_ch (fun x y => ut x < 10 ∧ tp (ut x) = y) (A ++ [m]) → (A ++ [m]).Nodup → (∀ x, x ∈ A → x < 16 ∧ x ≠ nb) → i + A.length < 16 → A.length < n →
      zx_N 16 a_next nx → zx_N 16 a_nextFrom nf → zx_N 16 a_nextTo nt → zx_M a_members ms → zx_L a_label lb →
      (∀ (nx' nf' nt' : Nat → Nat) (ms' : Nat → Nat → Bool) (lb' : Nat → Int) (a_members' a_label' a_next' a_nextFrom' a_nextTo' : Nat → Int32),
        (∀ x, x ∈ A → nx' (tp (ut x)) = x ∧ nf' (tp (ut x)) = ut x ∧ nt' (tp (ut x)) = uf x) → (∀ z, (∀ x, x ∈ A → tp (ut x) ≠ z) → nx' z = nx z ∧ nf' z = nf z ∧ nt' z = nt z) → (∀ x, x ≠ nb → ms' x = ms x) → (∀ w, ms' nb w = (ms nb w || A.any (fun c => ms c w))) →
        (∀ x, x ∈ A → lb' x = 0) → (∀ x, x ∉ A → lb' x = lb x) → zx_N 16 a_next' nx' → zx_N 16 a_nextFrom' nf' → zx_N 16 a_nextTo' nt' → zx_M a_members' ms' → zx_L a_label' lb' →
        post (f_outer, f_inner, f_n, f_k, f_maxSize, f_barred, f_stackSize, f_eventA, f_eventB, f_eventDelta, a_weight, a_key, a_slotMask, a_slotValue, a_bestMate, a_bestWeight, a_partner, a_dual, a_top, a_members', a_base, a_label', a_upFrom, a_upTo, a_head, a_next', a_nextFrom', a_nextTo', a_stack)) →
      wX_chain_6 post (nI nb) (nI m) 0 n (nI c) (nI i) f_outer f_inner f_n f_k f_maxSize f_barred f_stackSize f_eventA f_eventB f_eventDelta a_weight a_key a_slotMask a_slotValue a_bestMate a_bestWeight a_partner a_dual a_top a_members a_base a_label a_upFrom a_upTo a_head a_next a_nextFrom a_nextTo a_stack := by
  intro A
  induction A with
  | nil =>
    intro c i n nx nf nt ms lb a_members a_label a_next a_nextFrom a_nextTo hc _ _ _ hi hn h1 h2 h3 h4 h5 K
    obtain ⟨n, rfl⟩ : ∃ k, n = k + 1 := ⟨n - 1, by omega⟩
    simp at hc
    subst hc
    refine pk_le 16 i (fun z => absurd z (by simp at hi; omega)) (fun _ => br_t rfl ?_)
    exact K nx nf nt ms lb _ _ _ _ _ (fun x hx => by simp at hx) (fun _ _ => ⟨rfl, rfl, rfl⟩) (fun _ _ => rfl) (fun w => by simp) (fun x hx => by simp at hx) (fun _ _ => rfl) h1 h2 h3 h4 h5
  | cons x A ih =>
    intro c i n nx nf nt ms lb a_members a_label a_next a_nextFrom a_nextTo hc hch hnd hA hi hn h1 h2 h3 h4 h5 K
    obtain ⟨n, rfl⟩ : ∃ k, n = k + 1 := ⟨n - 1, by omega⟩
    simp at hc
    subst hc
    simp only [List.length_cons] at hi hn
    obtain ⟨hx, hxnb⟩ := hA x (by simp)
    have hxi := vp_in_nI (N := 16) hx (by omega)
    have hnd1 := List.nodup_cons.mp (show (x :: (A ++ [m])).Nodup from hnd)
    have hxm : x ≠ m := fun z => hnd1.1 (by rw [z]; simp)
    have hxA : x ∉ A := fun z => hnd1.1 (by simp [z])
    obtain ⟨y, hy, r1, r2⟩ : ∃ y, (A ++ [m]).head? = some y ∧ ut x < 10 ∧ tp (ut x) = y := by
      cases A with
      | nil => exact ⟨m, rfl, hch.1⟩
      | cons d A => exact ⟨d, rfl, hch.1⟩
    have hch2 : zl_ch (fun x y => ut x < 10 ∧ tp (ut x) = y) (A ++ [m]) := by
      cases A with
      | nil => trivial
      | cons d A => exact hch.2
    have hy16 : y < 16 := by
      cases A with
      | nil => simp at hy; omega
      | cons d A => simp at hy; subst hy; exact (hA d (by simp)).1
    have hyt : ∀ z, z ∈ A → tp (ut z) ≠ y := fun z hz e => by
      obtain ⟨q, hq, _, q2⟩ := zf_ntail hch2 z hz
      rw [e] at q2
      subst q2
      cases A with
      | nil => simp at hz
      | cons d A =>
        simp at hy
        subst hy
        simp at hnd1 hq
        rcases hq with hq | hq
        · exact hnd1.2.1.1 hq
        · exact hnd1.2.1.2 hq
    refine pk_le 16 i (fun z => absurd z (by omega)) (fun _ => br_f (fun z => hxm ((nI_eq (by omega) (by omega)).mp z)) ⟨hxi, ?_⟩)
    rw [zx_cl hx, hUt x hx, hUf x hx]
    refine br_f (nI_pos (by omega)) ⟨hxi, vp_in_nI r1 (by omega), ?_⟩
    rw [nI_clamp (n := ut x) (by omega), hT _ r1, r2]
    refine nm_e (br_t rfl ⟨hxi, hxi, ?_⟩)
    refine zx_link hy16 ?_
    unfold wX_chain_95
    have hbi := vp_in_nI (N := 16) hnb (by omega)
    rw [zx_cl hnb, zx_cl hx]
    refine ⟨hbi, hxi, hbi, nm_e ⟨hxi, nm_e (nm_r (nI_1 i) ?_)⟩⟩
    refine ih y (i + 1) n (zu_U nx y x) (zu_U nf y (ut x)) (zu_U nt y (uf x)) (zu_U ms nb (fun v => ms nb v || ms x v)) (zu_U lb x 0) _ _ _ _ _ hy hch2 hnd1.2 (fun z hz => hA z (by simp [hz])) (by omega) (by omega) (zx_Nu h1 y x) (zx_Nu h2 y (ut x)) (zx_Nu h3 y (uf x)) (zx_Mu h4 nb (zx_Bor (h4 nb hnb) (h4 x hx))) (zx_Lu h5 x (by decide)) ?_
    intro nx' nf' nt' ms' lb' a_m a_l a_n a_nf a_nt q1 q2 q3 q4 q5 q6 q7 q8 q9 q10 q11
    refine K nx' nf' nt' ms' lb' a_m a_l a_n a_nf a_nt ?_ ?_ ?_ ?_ ?_ ?_ q7 q8 q9 q10 q11
    · intro z hz
      rcases List.mem_cons.mp hz with e | hz
      · subst e
        obtain ⟨p1, p2, p3⟩ := q2 y hyt
        rw [zu_s] at p1 p2 p3
        rw [r2]
        exact ⟨p1, p2, p3⟩
      · exact q1 z hz
    · intro z hz
      obtain ⟨p1, p2, p3⟩ := q2 z (fun w hw => hz w (by simp [hw]))
      have n : z ≠ y := fun e => hz x (by simp) (by rw [e]; exact r2)
      rw [zu_n n] at p1 p2 p3
      exact ⟨p1, p2, p3⟩
    · intro z hz
      rw [q3 z hz, zu_n hz]
    · intro w
      rw [q4 w, zu_s, List.any_cons, Bool.or_assoc]
      congr 2
      apply Bool.eq_iff_iff.mpr
      rw [List.any_eq_true, List.any_eq_true]
      constructor
      · rintro ⟨z, hz, p⟩; exact ⟨z, hz, by rw [zu_n (hA z (by simp [hz])).2] at p; exact p⟩
      · rintro ⟨z, hz, p⟩; exact ⟨z, hz, by rw [zu_n (hA z (by simp [hz])).2]; exact p⟩
    · intro z hz
      rcases List.mem_cons.mp hz with e | hz
      · subst e; rw [q6 z hxA, zu_s]
      · exact q5 z hz
    · intro z hz
      simp at hz
      rw [q6 z hz.2, zu_n hz.1]
end
end
section
/-! the walk of formBlossom -/
section
variable {f_outer f_inner f_n f_k f_maxSize f_barred f_stackSize f_eventA f_eventB : Int32} {f_eventDelta : Int64} {a_weight : Nat → Int32} {a_key : Nat → Int64} {a_slotMask a_slotValue a_bestMate a_bestWeight a_partner : Nat → Int32} {a_dual : Nat → Int64} {a_top a_members a_base a_label a_upFrom a_upTo a_head a_next a_nextFrom a_nextTo a_stack : Nat → Int32}
variable {tp uf ut bs nx nf nt : Nat → Nat} {ms : Nat → Nat → Bool} {lb du : Nat → Int} {rg : Nat → List Nat}
theorem zx_form7 {post : SX → Prop} {x1 x2 x3 : Int32} (hH : zx_H a_head rg) (h16 : ∀ x c, c ∈ rg x → c < 16) (hs : ¬ ∀ b, 10 ≤ b → b < 16 → rg b ≠ [])
    (K : ∀ nb, 10 ≤ nb → nb < 16 → rg nb = [] → wX_formBlossom_32 post x1 x2 x3 (nI nb) f_outer f_inner f_n f_k f_maxSize f_barred f_stackSize f_eventA f_eventB f_eventDelta a_weight a_key a_slotMask a_slotValue a_bestMate a_bestWeight a_partner a_dual a_top a_members a_base a_label a_upFrom a_upTo a_head a_next a_nextFrom a_nextTo a_stack) : ∀ d i, i + d = 5 → (∀ j, j < i → rg (10 + j) ≠ []) → wX_formBlossom_7 post x1 x2 x3 f_outer f_inner f_n f_k f_maxSize f_barred f_stackSize f_eventA f_eventB f_eventDelta a_weight a_key a_slotMask a_slotValue a_bestMate a_bestWeight a_partner a_dual a_top a_members a_base a_label a_upFrom a_upTo a_head a_next a_nextFrom a_nextTo a_stack (d + 1) (nI (10 + i)) (nI i) := by
  intro d
  induction d with
  | zero =>
    intro i hi hj
    refine pk_le 5 i (fun _ => K (10 + i) (by omega) (by omega) ?_) (fun z => absurd z (by omega))
    by_cases q : rg (10 + i) = []
    · exact q
    · exfalso
      apply hs
      intro b h1 h2
      rcases Nat.lt_or_ge b (10 + i) with w | w
      · have := hj (b - 10) (by omega)
        rw [show 10 + (b - 10) = b by omega] at this
        exact this
      · rw [show b = 10 + i by omega]; exact q
  | succ d ih =>
    intro i hi hj
    refine pk_le 5 i (fun z => absurd z (by omega)) (fun _ => ⟨vp_in_nI (by omega) (by omega), ?_⟩)
    rw [nI_clamp (by omega), hH _ (by omega)]
    by_cases q : rg (10 + i) = []
    · exact br_t (zx_hd0 q) (K (10 + i) (by omega) (by omega) q)
    · have hn : ¬ zx_hd (rg (10 + i)) < 0 := by
        cases hr : rg (10 + i) with
        | nil => exact absurd hr q
        | cons c t => exact zx_neg (h16 _ c (by rw [hr]; simp))
      refine br_f hn (nm_r (nI_1 _) (nm_r (nI_1 i) (ih (i + 1) (by omega) (fun j hj' => ?_))))
      rcases Nat.lt_or_ge j i with w | w
      · exact hj j w
      · rw [show j = i by omega]; exact q
theorem zx_form32 {post : SX → Prop} {u v m nb : Nat} {A B : List Nat} (hu : u < 10) (hv : v < 10) (hm : m < 16) (hnb : nb < 16) (hmn : m ≠ nb)
    (hT : zx_N 10 a_top tp) (hB : zx_N 16 a_base bs) (hD : zx_D a_dual du) (hL : zx_L a_label lb) (hUf : zx_N 16 a_upFrom uf) (hUt : zx_N 16 a_upTo ut) (hH : zx_H a_head rg) (hM : zx_M a_members ms) (hN : zx_N 16 a_next nx) (hNf : zx_N 16 a_nextFrom nf) (hNt : zx_N 16 a_nextTo nt)
    (cA : (A ++ [m]).head? = some (tp u)) (cB : (B ++ [m]).head? = some (tp v)) (chA : zl_ch (fun x y => ut x < 10 ∧ tp (ut x) = y) (A ++ [m])) (chB : zl_ch (fun x y => ut x < 10 ∧ tp (ut x) = y) (B ++ [m])) (nA : (A ++ [m]).Nodup) (nB : (B ++ [m]).Nodup)
    (eA : ∀ x, x ∈ A → x < 16 ∧ x ≠ nb) (eB : ∀ x, x ∈ B → x < 16 ∧ x ≠ nb) (dAB : ∀ x, x ∈ B → x ∉ A)
    (K : ∀ (nx' nf' nt' : Nat → Nat) (a_dual' : Nat → Int64) (a_top' a_members' a_base' a_label' a_upFrom' a_upTo' a_head' a_next' a_nextFrom' a_nextTo' : Nat → Int32),
      (∀ x, x ∈ A → nx' x = tp (ut x) ∧ nf' x = uf x ∧ nt' x = ut x) → (∀ x, x ∈ B → nx' (tp (ut x)) = x ∧ nf' (tp (ut x)) = ut x ∧ nt' (tp (ut x)) = uf x) → (nx' (tp v) = tp u ∧ nf' (tp v) = v ∧ nt' (tp v) = u) →
      (∀ x, x ∉ m :: (B.reverse ++ A) → nx' x = nx x ∧ nf' x = nf x ∧ nt' x = nt x) →
      zx_N 10 a_top' (zg_tp tp ms nb (m :: (B.reverse ++ A))) → zx_M a_members' (zg_ms ms nb (m :: (B.reverse ++ A))) → zx_N 16 a_base' (zu_U bs nb (bs m)) → zx_D a_dual' (zu_U du nb 0) → zx_L a_label' (zg_lb lb nb (m :: (B.reverse ++ A))) →
      zx_N 16 a_upFrom' (zu_U uf nb (uf m)) → zx_N 16 a_upTo' (zu_U ut nb (ut m)) → zx_H a_head' (zu_U rg nb (m :: (B.reverse ++ A))) → zx_N 16 a_next' nx' → zx_N 16 a_nextFrom' nf' → zx_N 16 a_nextTo' nt' →
      post (f_outer, f_inner, f_n, f_k, f_maxSize, f_barred, f_stackSize, f_eventA, f_eventB, f_eventDelta, a_weight, a_key, a_slotMask, a_slotValue, a_bestMate, a_bestWeight, a_partner, a_dual', a_top', a_members', a_base', a_label', a_upFrom', a_upTo', a_head', a_next', a_nextFrom', a_nextTo', a_stack)) :
    wX_formBlossom_32 post (nI u) (nI v) (nI m) (nI nb) f_outer f_inner f_n f_k f_maxSize f_barred f_stackSize f_eventA f_eventB f_eventDelta a_weight a_key a_slotMask a_slotValue a_bestMate a_bestWeight a_partner a_dual a_top a_members a_base a_label a_upFrom a_upTo a_head a_next a_nextFrom a_nextTo a_stack := by
  have hbi := vp_in_nI (N := 16) hnb (by omega)
  have hmi := vp_in_nI (N := 16) hm (by omega)
  have hui := vp_in_nI (N := 10) hu (by omega)
  have hvi := vp_in_nI (N := 10) hv (by omega)
  have hmA : m ∉ A := fun z => by
    have := List.nodup_append.mp nA
    exact this.2.2 m z m (by simp) rfl
  have hmB : m ∉ B := fun z => by
    have := List.nodup_append.mp nB
    exact this.2.2 m z m (by simp) rfl
  have lenA : A.length < 16 := by
    have := zl_pigeon 16 (A ++ [m]) nA (fun x hx => by
      rcases List.mem_append.mp hx with q | q
      · exact (eA x q).1
      · simp at q; rw [q]; exact hm)
    simp at this; omega
  have lenB : B.length < 16 := by
    have := zl_pigeon 16 (B ++ [m]) nB (fun x hx => by
      rcases List.mem_append.mp hx with q | q
      · exact (eB x q).1
      · simp at q; rw [q]; exact hm)
    simp at this; omega
  have htu : tp u ∈ A ++ [m] := List.mem_of_head? cA
  have htv : tp v ∈ B ++ [m] := List.mem_of_head? cB
  have htv16 : tp v < 16 := by
    rcases List.mem_append.mp htv with q | q
    · exact (eB _ q).1
    · simp at q; rw [q]; exact hm
  unfold wX_formBlossom_32
  rw [zx_cl hnb, zx_cl hm, hUf m hm, hUt m hm, hB m hm]
  refine ⟨hbi, nm_e ⟨hmi, hbi, nm_e ⟨hmi, hbi, nm_e ⟨hbi, nm_e ⟨hmi, hmi, ?_⟩⟩⟩⟩⟩
  refine zx_setLabel hnb ⟨hmi, nm_e ⟨hui, ?_⟩⟩
  rw [nI_clamp (n := u) (by omega), hT u hu]
  have hUf1 := zx_Nu hUf nb (uf m)
  have hUt1 := zx_Nu hUt nb (ut m)
  have hM1 : zx_M (upd a_members nb (a_members m)) (zu_U ms nb (ms m)) := zx_Mu hM nb (hM m hm)
  have hL1 : zx_L (upd (upd a_label nb 1) m 0) (zu_U (zu_U lb nb 1) m 0) := zx_Lu (zx_Lu hL nb (l := 1) (by decide)) m (by decide)
  have conv : ∀ (X : List Nat), (∀ x, x ∈ X → x < 16 ∧ x ≠ nb) → zl_ch (fun x y => ut x < 10 ∧ tp (ut x) = y) (X ++ [m]) → zl_ch (fun x y => zu_U ut nb (ut m) x < 10 ∧ tp (zu_U ut nb (ut m) x) = y) (X ++ [m]) := fun X hX hc =>
    zl_ch_mono (fun x y q => by rw [zu_n (hX x q.1).2]; exact q.2) (zl_ch_in hc)
  refine ⟨17, zx_chainU hnb hm hT hUf1 hUt1 A (tp u) 0 17 nx nf nt (zu_U ms nb (ms m)) _ _ _ _ _ _ cA (conv A eA chA) nA eA (by omega) (by omega) hN hNf hNt hM1 hL1 ?_⟩
  intro nx1 nf1 nt1 ms1 lb1 a_m1 a_l1 a_n1 a_nf1 a_nt1 q1 q2 q3 q4 q5 q6 q7 q8 q9 q10 q11
  refine ⟨hvi, ?_⟩
  rw [nI_clamp (n := v) (by omega), hT v hv]
  refine ⟨17, zx_chainD hnb hm hT hUf1 hUt1 B (tp v) 0 17 nx1 nf1 nt1 ms1 lb1 _ _ _ _ _ cB (conv B eB chB) nB eB (by omega) (by omega) q7 q8 q9 q10 q11 ?_⟩
  intro nx2 nf2 nt2 ms2 lb2 a_m2 a_l2 a_n2 a_nf2 a_nt2 p1 p2 p3 p4 p5 p6 p7 p8 p9 p10 p11
  refine ⟨hvi, hui, ?_⟩
  dsimp only
  rw [hT v hv, hT u hu]
  refine zx_link htv16 ?_
  have ems : ms2 = zg_ms ms nb (m :: (B.reverse ++ A)) := by
    funext x w
    by_cases e : x = nb
    · subst e
      unfold zg_ms
      rw [zu_s, p4 w, q4 w, zu_s]
      have e1 : (A.any fun c => zu_U ms x (ms m) c w) = A.any fun c => ms c w := by
        apply Bool.eq_iff_iff.mpr
        rw [List.any_eq_true, List.any_eq_true]
        constructor
        · rintro ⟨z, hz, p⟩; exact ⟨z, hz, by rw [zu_n (eA z hz).2] at p; exact p⟩
        · rintro ⟨z, hz, p⟩; exact ⟨z, hz, by rw [zu_n (eA z hz).2]; exact p⟩
      have e2 : (B.any fun c => ms1 c w) = B.any fun c => ms c w := by
        apply Bool.eq_iff_iff.mpr
        rw [List.any_eq_true, List.any_eq_true]
        constructor
        · rintro ⟨z, hz, p⟩; exact ⟨z, hz, by rw [q3 z (eB z hz).2, zu_n (eB z hz).2] at p; exact p⟩
        · rintro ⟨z, hz, p⟩; exact ⟨z, hz, by rw [q3 z (eB z hz).2, zu_n (eB z hz).2]; exact p⟩
      rw [e1, e2, List.any_cons, List.any_append, List.any_reverse, Bool.or_assoc, Bool.or_comm (A.any _)]
    · unfold zg_ms
      rw [zu_n e, p3 x e, q3 x e, zu_n e]
  have elb : lb2 = zg_lb lb nb (m :: (B.reverse ++ A)) := by
    funext x
    unfold zg_lb
    by_cases e : x = nb
    · have xB : x ∉ B := fun z => (eB x z).2 e
      have xA : x ∉ A := fun z => (eA x z).2 e
      rw [if_pos e, p6 x xB, q6 x xA, zu_n (show x ≠ m from fun z => hmn (z.symm.trans e)), e, zu_s]
    · rw [if_neg e]
      by_cases xB : x ∈ B
      · rw [p5 x xB, if_pos (by simp [xB])]
      · rw [p6 x xB]
        by_cases xA : x ∈ A
        · rw [q5 x xA, if_pos (by simp [xA])]
        · rw [q6 x xA]
          by_cases xm : x = m
          · rw [xm, zu_s, if_pos (by simp)]
          · rw [zu_n xm, zu_n e, if_neg (by simp; exact ⟨xm, xB, xA⟩)]
  rw [ems] at p10
  rw [elb] at p11
  refine zx_claim hnb p10 hT (fun a_top' ht' => ?_)
  have ntA : ∀ x, x ∈ A → x ≠ tp v := fun x hx e => by
    rcases List.mem_append.mp htv with q | q
    · exact dAB _ q (e ▸ hx)
    · simp at q; exact hmA (by rw [← q, ← e]; exact hx)
  have ut1 : ∀ x, x ≠ nb → zu_U ut nb (ut m) x = ut x := fun x hx => zu_n hx
  have uf1 : ∀ x, x ≠ nb → zu_U uf nb (uf m) x = uf x := fun x hx => zu_n hx
  have parB : ∀ x, x ∈ B → tp (ut x) ∈ B ++ [m] ∧ tp (ut x) ≠ tp v := fun x hx => by
    obtain ⟨q, hq, _, q2⟩ := zf_ntail chB x hx
    subst q2
    refine ⟨List.mem_of_mem_tail hq, fun e => ?_⟩
    cases hBm : B ++ [m] with
    | nil => simp at hBm
    | cons d t =>
      rw [hBm] at hq cB nB
      simp at hq cB
      rw [e, ← cB] at hq
      exact (List.nodup_cons.mp nB).1 hq
  refine K (zu_U nx2 (tp v) (tp u)) (zu_U nf2 (tp v) v) (zu_U nt2 (tp v) u) _ a_top' _ _ _ _ _ _ _ _ _ ?_ ?_ ⟨zu_s, zu_s, zu_s⟩ ?_ ?_ p10 (zx_Nu hB nb (bs m)) (zx_Du hD nb (by decide)) p11 hUf1 hUt1 (zx_Hu hH nb rfl) (zx_Nu p7 (tp v) (tp u)) (zx_Nu p8 (tp v) v) (zx_Nu p9 (tp v) u)
  · intro x hx
    rw [zu_n (ntA x hx), zu_n (ntA x hx), zu_n (ntA x hx)]
    obtain ⟨o1, o2, o3⟩ := p2 x (fun y hy e => by
      rw [ut1 y (eB y hy).2] at e
      have := (parB y hy).1
      rw [e] at this
      rcases List.mem_append.mp this with q | q
      · exact dAB x q hx
      · simp at q; exact hmA (by rw [← q]; exact hx))
    obtain ⟨r1, r2, r3⟩ := q1 x hx
    rw [ut1 x (eA x hx).2] at r1 r3
    rw [uf1 x (eA x hx).2] at r2
    exact ⟨o1.trans r1, o2.trans r2, o3.trans r3⟩
  · intro x hx
    have n := (parB x hx).2
    obtain ⟨r1, r2, r3⟩ := p1 x hx
    rw [ut1 x (eB x hx).2] at r1 r2 r3
    rw [uf1 x (eB x hx).2] at r3
    rw [zu_n n, zu_n n, zu_n n]
    exact ⟨r1, r2, r3⟩
  · intro x hx
    simp at hx
    have n : x ≠ tp v := fun e => by
      rcases List.mem_append.mp htv with q | q
      · exact hx.2.1 (e ▸ q)
      · simp at q; exact hx.1 (e.trans q)
    obtain ⟨o1, o2, o3⟩ := p2 x (fun y hy e => by
      rw [ut1 y (eB y hy).2] at e
      have := (parB y hy).1
      rw [e] at this
      rcases List.mem_append.mp this with q | q
      · exact hx.2.1 q
      · simp at q; exact hx.1 q)
    obtain ⟨r1, r2, r3⟩ := q2 x hx.2.2
    rw [zu_n n, zu_n n, zu_n n]
    exact ⟨o1.trans r1, o2.trans r2, o3.trans r3⟩
  · refine zx_Nc ht' (fun w hw => ?_)
    unfold zg_tp zg_ms
    rw [zu_s]
end
end
section
/-! the walk of relabelArc -/
def zo_A (nf nt uf' ut' : Nat → Nat) (lb' : Nat → Int) : Int → Nat → List Nat → Prop
  | _, _, [] => True
  | s, x, y :: l => lb' y = -s ∧ uf' y = nt x ∧ ut' y = nf x ∧ zo_A nf nt uf' ut' lb' (-s) y l
def zo_B (nf nt uf' ut' : Nat → Nat) (lb' : Nat → Int) : Int → List Nat → Prop
  | _, [] => True
  | s, x :: l => lb' x = s ∧ uf' x = nf x ∧ ut' x = nt x ∧ zo_B nf nt uf' ut' lb' (-s) l
section
variable {E : Nat → Nat → Prop} {ky : Nat → Nat → Int} {act : Nat → Bool} {mt bs uf' ut' nx nf nt : Nat → Nat} {du lb' : Nat → Int} {ms : Nat → Nat → Bool} {rg : Nat → List Nat}
theorem zo_ahead (hG : zi_G E ky act) {c0 : Nat} : ∀ B : List Nat, ∀ x, B.length % 2 = 1 → zo_A nf nt uf' ut' lb' (-1) x (B ++ [c0]) → lb' x = -1 →
    zl_ch (fun x y => zt_R E ms nx nf nt x y ∧ zd_sl ky du (zt_al rg) ms (nf x) (nt x) = 0) (x :: (B ++ [c0])) → zl_pr (zt_P mt bs nf nt) (x :: B) →
    zl_ch (zo_R E ky mt bs uf' ut' du lb' ms rg) (x :: (B ++ [c0])) ∧ lb' c0 = -1 ∧ ∀ z, z ∈ x :: (B ++ [c0]) → lb' z = 1 ∨ lb' z = -1 := by
  have one : ∀ p y, (zt_R E ms nx nf nt p y ∧ zd_sl ky du (zt_al rg) ms (nf p) (nt p) = 0) → uf' y = nt p → ut' y = nf p → lb' y = - lb' p → (lb' p = -1 → zt_P mt bs nf nt p y) → zo_R E ky mt bs uf' ut' du lb' ms rg p y := by
    intro p y r e1 e2 e3 hp
    obtain ⟨⟨r1, r2, r3, r4⟩, r5⟩ := r
    unfold zo_R
    rw [e1, e2]
    refine ⟨r3, r2, hG.2.1 _ _ r4, by rw [zd_slsym hG]; exact r5, e3, fun h => ?_⟩
    obtain ⟨p1, p2, p3, p4⟩ := hp h
    exact ⟨p2, p1, p4, p3⟩
  refine zl_ind2 ?_ ?_ ?_
  · intro x h; simp at h
  · intro y x _ ha hx hc hp
    obtain ⟨a1, a2, a3, a4, a5, a6, _⟩ := ha
    obtain ⟨c1, c2, _⟩ := hc
    have hy : lb' y = 1 := by omega
    have hc0 : lb' c0 = -1 := by omega
    refine ⟨⟨one x y c1 a2 a3 (by omega) (fun _ => hp.1), one y c0 c2 a5 a6 (by omega) (fun h => by omega), trivial⟩, hc0, fun z hz => ?_⟩
    simp at hz
    rcases hz with e | e | e <;> subst e <;> omega
  · intro y z B ih x hl ha hx hc hp
    obtain ⟨a1, a2, a3, a4, a5, a6, a7⟩ := ha
    obtain ⟨c1, c2, c3⟩ := hc
    have hy : lb' y = 1 := by omega
    have hz : lb' z = -1 := by omega
    obtain ⟨k1, k2, k3⟩ := ih z (by simp at hl; omega) (by simpa using a7) hz c3 hp.2
    refine ⟨⟨one x y c1 a2 a3 (by omega) (fun _ => hp.1), one y z c2 a5 a6 (by omega) (fun h => by omega), k1⟩, k2, fun w hw => ?_⟩
    rcases List.mem_cons.mp hw with e | hw
    · subst e; omega
    · rcases List.mem_cons.mp hw with e | hw
      · subst e; omega
      · exact k3 w hw
theorem zo_back (hG : zi_G E ky act) {at' : Nat} (hat : lb' at' = -1) : ∀ A : List Nat, ∀ x, A.length % 2 = 1 → zo_B nf nt uf' ut' lb' (-1) (x :: A) →
    zl_ch (fun x y => zt_R E ms nx nf nt x y ∧ zd_sl ky du (zt_al rg) ms (nf x) (nt x) = 0) (x :: (A ++ [at'])) → zl_pr (zt_P mt bs nf nt) (A ++ [at']) →
    zl_ch (fun y p => zo_R E ky mt bs uf' ut' du lb' ms rg p y) (x :: (A ++ [at'])) ∧ lb' x = -1 ∧ ∀ z, z ∈ x :: (A ++ [at']) → lb' z = 1 ∨ lb' z = -1 := by
  have one : ∀ p y, (zt_R E ms nx nf nt y p ∧ zd_sl ky du (zt_al rg) ms (nf y) (nt y) = 0) → uf' y = nf y → ut' y = nt y → lb' y = - lb' p → (lb' p = -1 → zt_P mt bs nf nt y p) → zo_R E ky mt bs uf' ut' du lb' ms rg p y := by
    intro p y r e1 e2 e3 hp
    obtain ⟨⟨r1, r2, r3, r4⟩, r5⟩ := r
    unfold zo_R
    rw [e1, e2]
    refine ⟨r2, r3, r4, r5, e3, fun h => ?_⟩
    obtain ⟨p1, p2, p3, p4⟩ := hp h
    exact ⟨p1, p2, p3, p4⟩
  refine zl_ind2 ?_ ?_ ?_
  · intro x h; simp at h
  · intro y x _ hb hc hp
    obtain ⟨b1, b2, b3, b4, b5, b6, _⟩ := hb
    obtain ⟨c1, c2, _⟩ := hc
    refine ⟨⟨one y x c1 b2 b3 (by omega) (fun h => by omega), one at' y c2 b5 b6 (by omega) (fun _ => hp.1), trivial⟩, b1, fun z hz => ?_⟩
    simp at hz
    rcases hz with e | e | e <;> subst e <;> omega
  · intro y z A ih x hl hb hc hp
    obtain ⟨b1, b2, b3, b4, b5, b6, b7⟩ := hb
    obtain ⟨c1, c2, c3⟩ := hc
    obtain ⟨k1, k2, k3⟩ := ih z (by simp at hl; omega) (by simpa using b7) c3 hp.2
    refine ⟨⟨one y x c1 b2 b3 (by omega) (fun h => by omega), one z y c2 b5 b6 (by omega) (fun _ => hp.1), k1⟩, b1, fun w hw => ?_⟩
    rcases List.mem_cons.mp hw with e | hw
    · subst e; omega
    · rcases List.mem_cons.mp hw with e | hw
      · subst e; omega
      · exact k3 w hw
end
theorem zx_sgn {x : Int32} {s : Int} (h : x.toInt = s) (hs : s = 1 ∨ s = -1) : (-x).toInt = -s := by
  rw [Int32.toInt_neg, h]
  rcases hs with e | e <;> subst e <;> decide
section
variable {f_outer f_inner f_n f_k f_maxSize f_barred f_stackSize f_eventA f_eventB : Int32} {f_eventDelta : Int64} {a_weight : Nat → Int32} {a_key : Nat → Int64} {a_slotMask a_slotValue a_bestMate a_bestWeight a_partner : Nat → Int32} {a_dual : Nat → Int64} {a_top a_members a_base a_label a_upFrom a_upTo a_head a_next a_nextFrom a_nextTo a_stack : Nat → Int32}
variable {nx nf nt : Nat → Nat}
theorem zx_rlA {post : SX → Prop} {g : Nat} (hN : zx_N 16 a_next nx) (hNf : zx_N 16 a_nextFrom nf) (hNt : zx_N 16 a_nextTo nt) :
    ∀ (l : List Nat) (x i n : Nat) (sI : Int32) (s : Int) (lb : Nat → Int) (uf ut : Nat → Nat) (a_label a_upFrom a_upTo : Nat → Int32), sI.toInt = s → (s = 1 ∨ s = -1) → (x :: l).getLast? = some g → (x :: l).Nodup → (∀ y, y ∈ x :: l → y < 16) → zl_ch (fun x y => nx x = y) (x :: l) → i + l.length ≤ 9 → l.length < n →
      zx_L a_label lb → zx_N 16 a_upFrom uf → zx_N 16 a_upTo ut →
      (∀ (lb' : Nat → Int) (uf' ut' : Nat → Nat) (a_label' a_upFrom' a_upTo' : Nat → Int32), zo_A nf nt uf' ut' lb' s x l → (∀ z, z ∉ l → lb' z = lb z ∧ uf' z = uf z ∧ ut' z = ut z) → zx_L a_label' lb' → zx_N 16 a_upFrom' uf' → zx_N 16 a_upTo' ut' → post (f_outer, f_inner, f_n, f_k, f_maxSize, f_barred, f_stackSize, f_eventA, f_eventB, f_eventDelta, a_weight, a_key, a_slotMask, a_slotValue, a_bestMate, a_bestWeight, a_partner, a_dual, a_top, a_members, a_base, a_label', a_upFrom', a_upTo', a_head, a_next, a_nextFrom, a_nextTo, a_stack)) →
      wX_relabelArc_75 post 1 (nI g) n (nI x) sI (nI i) f_outer f_inner f_n f_k f_maxSize f_barred f_stackSize f_eventA f_eventB f_eventDelta a_weight a_key a_slotMask a_slotValue a_bestMate a_bestWeight a_partner a_dual a_top a_members a_base a_label a_upFrom a_upTo a_head a_next a_nextFrom a_nextTo a_stack := by
  intro l
  induction l with
  | nil =>
    intro x i n sI s lb uf ut a_label a_upFrom a_upTo _ _ hg _ _ _ hi hn h1 h2 h3 K
    obtain ⟨n, rfl⟩ : ∃ k, n = k + 1 := ⟨n - 1, by omega⟩
    simp at hg
    subst hg
    have K' := K lb uf ut _ _ _ trivial (fun _ _ => ⟨rfl, rfl, rfl⟩) h1 h2 h3
    exact pk_le 9 i (fun _ => K') (fun _ => br_t rfl K')
  | cons y l ih =>
    intro x i n sI s lb uf ut a_label a_upFrom a_upTo hs hs1 hg hnd h16 hch hi hn h1 h2 h3 K
    obtain ⟨n, rfl⟩ : ∃ k, n = k + 1 := ⟨n - 1, by omega⟩
    simp only [List.length_cons] at hi hn
    have hx := h16 x (by simp)
    have hy := h16 y (by simp)
    have hxi := vp_in_nI (N := 16) hx (by omega)
    have hnd1 := List.nodup_cons.mp hnd
    have hnd2 := List.nodup_cons.mp hnd1.2
    rw [List.getLast?_cons_cons] at hg
    have hgm : g ∈ y :: l := List.mem_of_getLast? hg
    have hxg : x ≠ g := fun e => hnd1.1 (e ▸ hgm)
    have hg16 := h16 g (by simp at hgm ⊢; exact Or.inr hgm)
    refine pk_le 9 i (fun z => absurd z (by omega)) (fun _ => br_f (fun z => hxg ((nI_eq (by omega) (by omega)).mp z)) ⟨hxi, ?_⟩)
    rw [zx_cl hx, hN x hx, hNf x hx, hNt x hx, hch.1]
    refine nm_e (br_f (by decide) ⟨hxi, hxi, ?_⟩)
    refine zx_setLabel hy (nm_e (nm_r (nI_1 i) ?_))
    refine ih y (i + 1) n (-sI) (-s) (zu_U lb y (-s)) (zu_U uf y (nt x)) (zu_U ut y (nf x)) _ _ _ (zx_sgn hs hs1) (by omega) hg hnd1.2 (fun z hz => h16 z (by simp at hz ⊢; exact Or.inr hz)) hch.2 (by omega) (by omega) (zx_Lu h1 y (zx_sgn hs hs1)) (zx_Nu h2 y (nt x)) (zx_Nu h3 y (nf x)) ?_
    intro lb' uf' ut' a_l a_uf a_ut q1 q2 q3 q4 q5
    obtain ⟨o1, o2, o3⟩ := q2 y hnd2.1
    rw [zu_s] at o1 o2 o3
    refine K lb' uf' ut' a_l a_uf a_ut ⟨o1, o2, o3, q1⟩ (fun z hz => ?_) q3 q4 q5
    simp at hz
    obtain ⟨p1, p2, p3⟩ := q2 z hz.2
    rw [zu_n hz.1] at p1 p2 p3
    exact ⟨p1, p2, p3⟩
theorem zx_rlB {post : SX → Prop} {g : Nat} (hg16 : g < 16) (hN : zx_N 16 a_next nx) (hNf : zx_N 16 a_nextFrom nf) (hNt : zx_N 16 a_nextTo nt) :
    ∀ (X : List Nat) (c i n : Nat) (sI : Int32) (s : Int) (lb : Nat → Int) (uf ut : Nat → Nat) (a_label a_upFrom a_upTo : Nat → Int32), sI.toInt = s → (s = 1 ∨ s = -1) → (X ++ [g]).head? = some c → (X ++ [g]).Nodup → (∀ y, y ∈ X → y < 16) → zl_ch (fun x y => nx x = y) (X ++ [g]) → i + X.length ≤ 9 → X.length < n →
      zx_L a_label lb → zx_N 16 a_upFrom uf → zx_N 16 a_upTo ut →
      (∀ (lb' : Nat → Int) (uf' ut' : Nat → Nat) (a_label' a_upFrom' a_upTo' : Nat → Int32), zo_B nf nt uf' ut' lb' s X → (∀ z, z ∉ X → lb' z = lb z ∧ uf' z = uf z ∧ ut' z = ut z) → zx_L a_label' lb' → zx_N 16 a_upFrom' uf' → zx_N 16 a_upTo' ut' → post (f_outer, f_inner, f_n, f_k, f_maxSize, f_barred, f_stackSize, f_eventA, f_eventB, f_eventDelta, a_weight, a_key, a_slotMask, a_slotValue, a_bestMate, a_bestWeight, a_partner, a_dual, a_top, a_members, a_base, a_label', a_upFrom', a_upTo', a_head, a_next, a_nextFrom, a_nextTo, a_stack)) →
      wX_relabelArc_75 post 0 (nI g) n (nI c) sI (nI i) f_outer f_inner f_n f_k f_maxSize f_barred f_stackSize f_eventA f_eventB f_eventDelta a_weight a_key a_slotMask a_slotValue a_bestMate a_bestWeight a_partner a_dual a_top a_members a_base a_label a_upFrom a_upTo a_head a_next a_nextFrom a_nextTo a_stack := by
  intro X
  induction X with
  | nil =>
    intro c i n sI s lb uf ut a_label a_upFrom a_upTo _ _ hc _ _ _ hi hn h1 h2 h3 K
    obtain ⟨n, rfl⟩ : ∃ k, n = k + 1 := ⟨n - 1, by omega⟩
    simp at hc
    subst hc
    have K' := K lb uf ut _ _ _ trivial (fun _ _ => ⟨rfl, rfl, rfl⟩) h1 h2 h3
    exact pk_le 9 i (fun _ => K') (fun _ => br_t rfl K')
  | cons x l ih =>
    intro c i n sI s lb uf ut a_label a_upFrom a_upTo hs hs1 hc hnd h16 hch hi hn h1 h2 h3 K
    obtain ⟨n, rfl⟩ : ∃ k, n = k + 1 := ⟨n - 1, by omega⟩
    simp only [List.length_cons] at hi hn
    simp at hc
    subst hc
    have hx := h16 x (by simp)
    have hxi := vp_in_nI (N := 16) hx (by omega)
    have hnd1 := List.nodup_cons.mp (show (x :: (l ++ [g])).Nodup from hnd)
    have hxg : x ≠ g := fun e => hnd1.1 (by rw [e]; simp)
    have hxl : x ∉ l := fun e => hnd1.1 (by simp [e])
    obtain ⟨y, hy, r⟩ : ∃ y, (l ++ [g]).head? = some y ∧ nx x = y := by
      cases l with
      | nil => exact ⟨g, rfl, hch.1⟩
      | cons d l => exact ⟨d, rfl, hch.1⟩
    have hch2 : zl_ch (fun x y => nx x = y) (l ++ [g]) := by
      cases l with
      | nil => trivial
      | cons d l => exact hch.2
    refine pk_le 9 i (fun z => absurd z (by omega)) (fun _ => br_f (fun z => hxg ((nI_eq (by omega) (by omega)).mp z)) ⟨hxi, ?_⟩)
    rw [zx_cl hx, hN x hx, hNf x hx, hNt x hx, r]
    refine nm_e (br_t rfl ⟨hxi, hxi, ?_⟩)
    refine zx_setLabel hx (nm_e (nm_r (nI_1 i) ?_))
    refine ih y (i + 1) n (-sI) (-s) (zu_U lb x s) (zu_U uf x (nf x)) (zu_U ut x (nt x)) _ _ _ (zx_sgn hs hs1) (by omega) hy hnd1.2 (fun z hz => h16 z (by simp [hz])) hch2 (by omega) (by omega) (zx_Lu h1 x hs) (zx_Nu h2 x (nf x)) (zx_Nu h3 x (nt x)) ?_
    intro lb' uf' ut' a_l a_uf a_ut q1 q2 q3 q4 q5
    obtain ⟨o1, o2, o3⟩ := q2 x hxl
    rw [zu_s] at o1 o2 o3
    refine K lb' uf' ut' a_l a_uf a_ut ⟨o1, o2, o3, q1⟩ (fun z hz => ?_) q3 q4 q5
    simp at hz
    obtain ⟨p1, p2, p3⟩ := q2 z hz.2
    rw [zu_n hz.1] at p1 p2 p3
    exact ⟨p1, p2, p3⟩
theorem zx_rl5 {post : SX → Prop} {x1 : Int32} {g : Nat} (hg16 : g < 16) (hN : zx_N 16 a_next nx) : ∀ (X : List Nat) (c i n : Nat), (X ++ [g]).head? = some c → (∀ y, y ∈ X → y < 16 ∧ y ≠ g) → zl_ch (fun x y => nx x = y) (X ++ [g]) → i + X.length < 9 → X.length < n →
      wX_relabelArc_32 post x1 (nI g) (nI (i + X.length)) f_outer f_inner f_n f_k f_maxSize f_barred f_stackSize f_eventA f_eventB f_eventDelta a_weight a_key a_slotMask a_slotValue a_bestMate a_bestWeight a_partner a_dual a_top a_members a_base a_label a_upFrom a_upTo a_head a_next a_nextFrom a_nextTo a_stack → wX_relabelArc_5 post x1 (nI g) f_outer f_inner f_n f_k f_maxSize f_barred f_stackSize f_eventA f_eventB f_eventDelta a_weight a_key a_slotMask a_slotValue a_bestMate a_bestWeight a_partner a_dual a_top a_members a_base a_label a_upFrom a_upTo a_head a_next a_nextFrom a_nextTo a_stack n (nI i) (nI c) := by
  intro X
  induction X with
  | nil =>
    intro c i n hc _ _ hi hn K
    obtain ⟨n, rfl⟩ : ∃ k, n = k + 1 := ⟨n - 1, by omega⟩
    simp at hc hi
    subst hc
    exact pk_le 9 i (fun z => absurd z (by omega)) (fun _ => br_t rfl K)
  | cons x l ih =>
    intro c i n hc h16 hch hi hn K
    obtain ⟨n, rfl⟩ : ∃ k, n = k + 1 := ⟨n - 1, by omega⟩
    simp only [List.length_cons] at hi hn
    simp at hc
    subst hc
    obtain ⟨hx, hxg⟩ := h16 x (by simp)
    have hxi := vp_in_nI (N := 16) hx (by omega)
    obtain ⟨y, hy, r⟩ : ∃ y, (l ++ [g]).head? = some y ∧ nx x = y := by
      cases l with
      | nil => exact ⟨g, rfl, hch.1⟩
      | cons d l => exact ⟨d, rfl, hch.1⟩
    have hch2 : zl_ch (fun x y => nx x = y) (l ++ [g]) := by
      cases l with
      | nil => trivial
      | cons d l => exact hch.2
    refine pk_le 9 i (fun z => absurd z (by omega)) (fun _ => br_f (fun z => hxg ((nI_eq (by omega) (by omega)).mp z)) ⟨hxi, ?_⟩)
    rw [zx_cl hx, hN x hx, r]
    refine nm_e (nm_r (nI_1 i) (ih y (i + 1) n hy (fun z hz => h16 z (by simp [hz])) hch2 (by omega) (by omega) ?_))
    rw [show i + 1 + l.length = i + (x :: l).length by simp only [List.length_cons]; omega]
    exact K
/-- relabelArc: forwards over an even number of steps, else backwards -/
theorem zx_relabel {post : SX → Prop} {at' c0 : Nat} {lb : Nat → Int} {uf ut : Nat → Nat} {X : List Nat} (hc0 : c0 < 16) (ha : at' < 16) (hN : zx_N 16 a_next nx) (hNf : zx_N 16 a_nextFrom nf) (hNt : zx_N 16 a_nextTo nt)
    (h1 : zx_L a_label lb) (h2 : zx_N 16 a_upFrom uf) (h3 : zx_N 16 a_upTo ut) (hX : (X ++ [c0]).head? = some at') (hch : zl_ch (fun x y => nx x = y) (X ++ [c0])) (hnd : (X ++ [c0]).Nodup) (h16 : ∀ y, y ∈ X → y < 16) (hl : X.length < 9)
    (KA : X.length % 2 = 0 → ∀ (l : List Nat), at' :: l = X ++ [c0] → ∀ (lb' : Nat → Int) (uf' ut' : Nat → Nat) (a_label' a_upFrom' a_upTo' : Nat → Int32), zo_A nf nt uf' ut' lb' (-1) at' l → (∀ z, z ∉ l → lb' z = lb z ∧ uf' z = uf z ∧ ut' z = ut z) → zx_L a_label' lb' → zx_N 16 a_upFrom' uf' → zx_N 16 a_upTo' ut' → post (f_outer, f_inner, f_n, f_k, f_maxSize, f_barred, f_stackSize, f_eventA, f_eventB, f_eventDelta, a_weight, a_key, a_slotMask, a_slotValue, a_bestMate, a_bestWeight, a_partner, a_dual, a_top, a_members, a_base, a_label', a_upFrom', a_upTo', a_head, a_next, a_nextFrom, a_nextTo, a_stack))
    (KB : X.length % 2 = 1 → wX_relabelArc_75 post 0 (nI at') 10 (nI c0) (-1) (nI 0) f_outer f_inner f_n f_k f_maxSize f_barred f_stackSize f_eventA f_eventB f_eventDelta a_weight a_key a_slotMask a_slotValue a_bestMate a_bestWeight a_partner a_dual a_top a_members a_base a_label a_upFrom a_upTo a_head a_next a_nextFrom a_nextTo a_stack) : wpX_relabelArc post (f_outer, f_inner, f_n, f_k, f_maxSize, f_barred, f_stackSize, f_eventA, f_eventB, f_eventDelta, a_weight, a_key, a_slotMask, a_slotValue, a_bestMate, a_bestWeight, a_partner, a_dual, a_top, a_members, a_base, a_label, a_upFrom, a_upTo, a_head, a_next, a_nextFrom, a_nextTo, a_stack) (nI at') (nI c0) := by
  refine ⟨10, zx_rl5 hc0 hN X at' 0 10 hX (fun y hy => ⟨h16 y hy, fun e => ?_⟩) hch (by omega) (by omega) ?_⟩
  · have := List.nodup_append.mp hnd
    exact this.2.2 y hy c0 (by simp) e
  · unfold wX_relabelArc_32
    rw [Nat.zero_add, pk_andN (n := X.length) (by omega) 1 (by decide)]
    by_cases q : X.length % 2 = 0
    · refine br_t (by rw [q]; rfl) ?_
      unfold wX_relabelArc_43
      refine br_f (by decide) ?_
      unfold wX_relabelArc_55
      refine br_f (by decide) ⟨10, ?_⟩
      cases hXc : X ++ [c0] with
      | nil => simp at hXc
      | cons d l =>
        rw [hXc] at hX hch hnd
        simp at hX
        subst hX
        have hlen := congrArg List.length hXc
        simp at hlen
        refine zx_rlA hN hNf hNt l d 0 10 (-1) (-1) lb uf ut _ _ _ (by decide) (Or.inr rfl) (by rw [← hXc]; simp) hnd (fun y hy => ?_) hch (by omega) (by omega) h1 h2 h3 (KA q l hXc.symm)
        rw [← hXc] at hy
        rcases List.mem_append.mp hy with w | w
        · exact h16 y w
        · simp at w; rw [w]; exact hc0
    · have q1 : X.length % 2 = 1 := by omega
      refine br_f (by rw [q1]; decide) ?_
      unfold wX_relabelArc_43
      refine br_t rfl ?_
      unfold wX_relabelArc_55
      exact br_t rfl ⟨10, KB q1⟩
end
end
section
/-! the walk of openBlossom -/
/-- the whole invariant of a search -/
def zi_I (E : Nat → Nat → Prop) (ky : Nat → Nat → Int) (act : Nat → Bool) (mt tp bs uf ut nx nf nt : Nat → Nat) (du lb : Nat → Int) (ms : Nat → Nat → Bool) (rg : Nat → List Nat) (lam : Int) : Prop :=
  zt_A ms rg ∧ zt_T tp ms rg ∧ zt_Lnk E ms nx nf nt rg ∧ zi_M E mt bs nf nt ms rg ∧ zi_D E ky act mt nf nt du ms rg lam ∧ (∃ rk, zi_F E act mt tp bs uf ut lb ms rg rk) ∧ zi_FD ky tp uf ut du lb ms rg lam
def zo_it (nx : Nat → Nat) (c : Nat) : Nat → Nat
  | 0 => c
  | j + 1 => nx (zo_it nx c j)
theorem zo_shift {nx : Nat → Nat} {c : Nat} : ∀ j, zo_it nx c (j + 1) = zo_it nx (nx c) j := by
  intro j
  induction j with
  | zero => rfl
  | succ j ih => show nx (zo_it nx c (j + 1)) = nx (zo_it nx (nx c) j); rw [ih]
theorem zo_cover {nx : Nat → Nat} : ∀ (t : List Nat) (c : Nat), zl_ch (fun x y => nx x = y) (c :: t) → ∀ d, d ∈ c :: t → ∃ j, j ≤ t.length ∧ d = zo_it nx c j := by
  intro t
  induction t with
  | nil => intro c _ d hd; simp at hd; exact ⟨0, Nat.le_refl _, hd⟩
  | cons e t ih =>
    intro c h d hd
    rcases List.mem_cons.mp hd with q | hd
    · exact ⟨0, Nat.zero_le _, q⟩
    · obtain ⟨j, hj, hdj⟩ := ih e h.2 d hd
      refine ⟨j + 1, by simp only [List.length_cons]; omega, ?_⟩
      rw [zo_shift, show nx c = e from h.1]; exact hdj
theorem zl_last (l : List Nat) (c : Nat) : (l ++ [c]).getLast? = some c := by simp
theorem zl_ch_suf {R : Nat → Nat → Prop} {l2 : List Nat} : ∀ {l1 : List Nat}, zl_ch R (l1 ++ l2) → zl_ch R l2 := by
  intro l1
  induction l1 with
  | nil => intro h; exact h
  | cons a l ih =>
    intro h
    cases l with
    | nil =>
      cases l2 with
      | nil => trivial
      | cons b l2 => exact h.2
    | cons b l => exact ih h.2
theorem zo_Acongr {nf nt uf ut uf' ut' : Nat → Nat} {lb lb' : Nat → Int} : ∀ (l : List Nat) (s : Int) (x : Nat), (∀ z, z ∈ l → lb' z = lb z ∧ uf' z = uf z ∧ ut' z = ut z) → zo_A nf nt uf ut lb s x l → zo_A nf nt uf' ut' lb' s x l := by
  intro l
  induction l with
  | nil => intro _ _ _ _; trivial
  | cons y l ih =>
    intro s x h k
    obtain ⟨k1, k2, k3, k4⟩ := k
    obtain ⟨h1, h2, h3⟩ := h y (by simp)
    exact ⟨h1.trans k1, h2.trans k2, h3.trans k3, ih (-s) y (fun z hz => h z (by simp [hz])) k4⟩
theorem zo_Bcongr {nf nt uf ut uf' ut' : Nat → Nat} {lb lb' : Nat → Int} : ∀ (l : List Nat) (s : Int), (∀ z, z ∈ l → lb' z = lb z ∧ uf' z = uf z ∧ ut' z = ut z) → zo_B nf nt uf ut lb s l → zo_B nf nt uf' ut' lb' s l := by
  intro l
  induction l with
  | nil => intro _ _ _; trivial
  | cons y l ih =>
    intro s h k
    obtain ⟨k1, k2, k3, k4⟩ := k
    obtain ⟨h1, h2, h3⟩ := h y (by simp)
    exact ⟨h1.trans k1, h2.trans k2, h3.trans k3, ih (-s) (fun z hz => h z (by simp [hz])) k4⟩
section
variable {f_outer f_inner f_n f_k f_maxSize f_barred f_stackSize f_eventA f_eventB : Int32} {f_eventDelta : Int64} {a_weight : Nat → Int32} {a_key : Nat → Int64} {a_slotMask a_slotValue a_bestMate a_bestWeight a_partner : Nat → Int32} {a_dual : Nat → Int64} {a_top a_members a_base a_label a_upFrom a_upTo a_head a_next a_nextFrom a_nextTo a_stack : Nat → Int32}
variable {E : Nat → Nat → Prop} {ky : Nat → Nat → Int} {act : Nat → Bool} {mt tp bs uf ut nx nf nt : Nat → Nat} {du lb : Nat → Int} {ms : Nat → Nat → Bool} {rg : Nat → List Nat} {lam : Int}
theorem zx_open9 {post : SX → Prop} {b c0 : Nat} (hm : zx_M a_members ms) (hN : zx_N 16 a_next nx) (hin : ∀ j, zo_it nx c0 j < 16)
    (K : ∀ (a_top' : Nat → Int32) (tp' : Nat → Nat), zx_N 10 a_top' tp' → (∀ v, v < 10 → (∃ j, j < 9 ∧ ms (zo_it nx c0 j) v = true) → (∃ j, tp' v = zo_it nx c0 j) ∧ ms (tp' v) v = true) → (∀ v, v < 10 → (∀ j, j < 9 → ¬ ms (zo_it nx c0 j) v = true) → tp' v = tp v) →
      wX_openBlossom_9 post (nI b) 1 (nI (zo_it nx c0 9)) (nI 9) f_outer f_inner f_n f_k f_maxSize f_barred f_stackSize f_eventA f_eventB f_eventDelta a_weight a_key a_slotMask a_slotValue a_bestMate a_bestWeight a_partner a_dual a_top' a_members a_base a_label a_upFrom a_upTo a_head a_next a_nextFrom a_nextTo a_stack) :
    ∀ (d i : Nat), i + d = 9 → ∀ (a_top : Nat → Int32) (tp1 : Nat → Nat), zx_N 10 a_top tp1 → (∀ v, v < 10 → (∃ j, j < i ∧ ms (zo_it nx c0 j) v = true) → (∃ j, tp1 v = zo_it nx c0 j) ∧ ms (tp1 v) v = true) → (∀ v, v < 10 → (∀ j, j < i → ¬ ms (zo_it nx c0 j) v = true) → tp1 v = tp v) →
      wX_openBlossom_9 post (nI b) (d + 1) (nI (zo_it nx c0 i)) (nI i) f_outer f_inner f_n f_k f_maxSize f_barred f_stackSize f_eventA f_eventB f_eventDelta a_weight a_key a_slotMask a_slotValue a_bestMate a_bestWeight a_partner a_dual a_top a_members a_base a_label a_upFrom a_upTo a_head a_next a_nextFrom a_nextTo a_stack := by
  intro d
  induction d with
  | zero =>
    intro i hi a_top tp1 h1 h2 h3
    obtain rfl : i = 9 := by omega
    exact K a_top tp1 h1 h2 h3
  | succ d ih =>
    intro i hi a_top tp1 h1 h2 h3
    have hx := hin i
    refine pk_le 9 i (fun z => absurd z (by omega)) (fun _ => ?_)
    refine zx_claim hx hm h1 (fun a_top' ht => nm_r (nI_1 i) ⟨vp_in_nI hx (by omega), ?_⟩)
    rw [zx_cl hx, hN _ hx]
    refine nm_e (ih (i + 1) (by omega) a_top' _ ht (fun v hv => ?_) (fun v hv => ?_))
    · rintro ⟨j, hj, q⟩
      by_cases w : ms (zo_it nx c0 i) v = true
      · simp only [if_pos w]
        exact ⟨⟨i, rfl⟩, w⟩
      · simp only [if_neg w]
        rcases Nat.lt_or_ge j i with y | y
        · exact h2 v hv ⟨j, y, q⟩
        · rw [show j = i by omega] at q; exact absurd q w
    · intro q
      simp only [if_neg (q i (by omega))]
      exact h3 v hv (fun j hj => q j (by omega))
theorem zx_open {post : SX → Prop} {b : Nat} (hG : zi_G E ky act) (hI : zi_I E ky act mt tp bs uf ut nx nf nt du lb ms rg lam) (hb : zt_al rg b = true) (hlb : lb b = -1) (hz : du b = 0)
    (hT : zx_N 10 a_top tp) (hM : zx_M a_members ms) (hL : zx_L a_label lb) (hUf : zx_N 16 a_upFrom uf) (hUt : zx_N 16 a_upTo ut) (hH : zx_H a_head rg) (hN : zx_N 16 a_next nx) (hNf : zx_N 16 a_nextFrom nf) (hNt : zx_N 16 a_nextTo nt)
    (K : ∀ (tp' uf' ut' : Nat → Nat) (lb' : Nat → Int) (a_top' a_label' a_upFrom' a_upTo' a_head' : Nat → Int32), zi_I E ky act mt tp' bs uf' ut' nx nf nt du lb' ms (zu_U rg b []) lam → zf_mu tp' bs lb' (zu_U rg b []) < zf_mu tp bs lb rg →
      zx_N 10 a_top' tp' → zx_L a_label' lb' → zx_N 16 a_upFrom' uf' → zx_N 16 a_upTo' ut' → zx_H a_head' (zu_U rg b []) → post (f_outer, f_inner, f_n, f_k, f_maxSize, f_barred, f_stackSize, f_eventA, f_eventB, f_eventDelta, a_weight, a_key, a_slotMask, a_slotValue, a_bestMate, a_bestWeight, a_partner, a_dual, a_top', a_members, a_base, a_label', a_upFrom', a_upTo', a_head', a_next, a_nextFrom, a_nextTo, a_stack)) :
    wpX_openBlossom post (f_outer, f_inner, f_n, f_k, f_maxSize, f_barred, f_stackSize, f_eventA, f_eventB, f_eventDelta, a_weight, a_key, a_slotMask, a_slotValue, a_bestMate, a_bestWeight, a_partner, a_dual, a_top, a_members, a_base, a_label, a_upFrom, a_upTo, a_head, a_next, a_nextFrom, a_nextTo, a_stack) (nI b) := by
  obtain ⟨iA, iT, iL, iM, iD, ⟨rk, iF⟩, iFD⟩ := hI
  have hb16 := (zt_al_iff.mp hb).2.1
  have hbi := vp_in_nI (N := 16) hb16 (by omega)
  obtain ⟨c0, t, hrg, ht2, ht, hnd⟩ := zt_ring iA hb
  have hlen := zt_len iA hb
  rw [hrg] at hlen
  simp only [List.length_cons] at hlen
  have hkid : ∀ c, c ∈ rg b → c < 16 := fun c hc => zt_lv16 (zt_kid iA hb hc)
  have hc0 : c0 ∈ rg b := by rw [hrg]; simp
  have hit : ∀ j, zo_it nx c0 j ∈ rg b := by
    intro j
    induction j with
    | zero => exact hc0
    | succ j ih => exact (zt_links iA iL hb ih).1
  -- the ring as a chain, with tight links
  have hring : zl_ch (fun x y => zt_R E ms nx nf nt x y ∧ zd_sl ky du (zt_al rg) ms (nf x) (nt x) = 0) (c0 :: (t ++ [c0])) := by
    refine zl_ch_lk.mpr (zl_mono (fun x y hx _ r => ⟨r, ?_⟩) (iL b hb c0 t hrg))
    exact iD.2.2.2.2.2.1 b hb x (by rw [hrg]; exact hx)
  have hcovr : ∀ d, d ∈ rg b → ∃ j, j < 9 ∧ d = zo_it nx c0 j := fun d hd => by
    rw [hrg] at hd
    have hr2 : zl_ch (fun x y => nx x = y) (c0 :: t) := by
      have := zl_ch_mono (fun x y q => q.1.1) hring
      rw [show c0 :: (t ++ [c0]) = (c0 :: t) ++ [c0] from rfl] at this
      exact zl_ch_pre this
    obtain ⟨j, hj, e⟩ := zo_cover t c0 hr2 d hd
    exact ⟨j, by omega, e⟩
  obtain ⟨f1, f2, f3, f4, f5, f6, f7, f8⟩ := iF.2.2.2.1 b hlb
  have huf10 := zt_lt iA f2
  unfold wpX_openBlossom
  dsimp only
  have hhd : a_head b = nI c0 := by rw [hH b hb16, hrg]; rfl
  rw [zx_cl hb16, hhd]
  refine ⟨hbi, nm_e ⟨10, zx_open9 (tp := tp) hM hN (fun j => hkid _ (hit j)) ?_ 9 0 rfl a_top tp hT (fun v _ q => by obtain ⟨j, hj, _⟩ := q; omega) (fun _ _ _ => rfl)⟩⟩
  intro a_top' tp' ht' g1 g2
  have t1 : ∀ v c, c ∈ rg b → ms c v = true → tp' v = c := fun v c hc hcv => by
    obtain ⟨j, hj, e⟩ := hcovr c hc
    obtain ⟨⟨j', e'⟩, q⟩ := g1 v (zt_lt iA hcv) ⟨j, hj, by rw [← e]; exact hcv⟩
    exact zt_dj iA hb (by rw [e']; exact hit j') hc q hcv
  have t2 : ∀ v, v < 10 → ¬ ms b v = true → tp' v = tp v := fun v hv hn => g2 v hv (fun j _ q => hn (zt_sub iA hb (hit j) q))
  obtain ⟨at', hat, hatu⟩ := (zt_un iA hb).mp f2
  have hat16 := hkid at' hat
  have etp : tp' (uf b) = at' := t1 _ _ hat hatu
  refine pk_le 9 9 (fun _ => ?_) (fun z => absurd z (by omega))
  rw [zx_cl hb16, hUf b hb16, hhd]
  refine ⟨hbi, vp_in_nI huf10 (by omega), nm_r (e' := nI at') (by rw [nI_clamp (by omega), ht' _ huf10, etp]) ⟨hbi, ?_⟩⟩
  -- how the arc lies
  have bnr : b ∉ rg b := fun z => by have := zt_cdkid iA hb z; omega
  -- the end, given the arc
  have fin : ∀ (l : List Nat) (lb1 : Nat → Int) (uf1 ut1 : Nat → Nat) (a_label1 a_upFrom1 a_upTo1 : Nat → Int32), (at' :: l).Nodup → (∀ x, x ∈ at' :: l → x ∈ rg b) → (at' :: l).getLast? = some c0 →
      (∀ z, z ∉ l → lb1 z = lb z ∧ uf1 z = uf z ∧ ut1 z = ut z) → zx_L a_label1 lb1 → zx_N 16 a_upFrom1 uf1 → zx_N 16 a_upTo1 ut1 →
      (∀ (lb' : Nat → Int) (uf' ut' : Nat → Nat), lb' at' = -1 → (∀ z, z ∈ l → lb' z = lb1 z ∧ uf' z = uf1 z ∧ ut' z = ut1 z) → zl_ch (zo_R E ky mt bs uf' ut' du lb' ms rg) (at' :: l) ∧ lb' c0 = -1 ∧ ∀ z, z ∈ at' :: l → lb' z = 1 ∨ lb' z = -1) →
      (vp_in (nI b) 16 ∧ vp_in (nI b) 16 ∧ wpX_setLabel (fun u => match u with | (f_outer, f_inner, f_n, f_k, f_maxSize, f_barred, f_stackSize, f_eventA, f_eventB, f_eventDelta, a_weight, a_key, a_slotMask, a_slotValue, a_bestMate, a_bestWeight, a_partner, a_dual, a_top, a_members, a_base, a_label, a_upFrom, a_upTo, a_head, a_next, a_nextFrom, a_nextTo, a_stack) => vp_in (nI b) 16 ∧ ∀ a_head_71 : Nat → Int32, a_head_71 = upd a_head b (-1) → (vp_in (nI b) 16 ∧ ∀ a_label_73 : Nat → Int32, a_label_73 = upd a_label b 0 → post (f_outer, f_inner, f_n, f_k, f_maxSize, f_barred, f_stackSize, f_eventA, f_eventB, f_eventDelta, a_weight, a_key, a_slotMask, a_slotValue, a_bestMate, a_bestWeight, a_partner, a_dual, a_top, a_members, a_base, a_label_73, a_upFrom, a_upTo, a_head_71, a_next, a_nextFrom, a_nextTo, a_stack))) (f_outer, f_inner, f_n, f_k, f_maxSize, f_barred, f_stackSize, f_eventA, f_eventB, f_eventDelta, a_weight, a_key, a_slotMask, a_slotValue, a_bestMate, a_bestWeight, a_partner, a_dual, a_top', a_members, a_base, a_label1, a_upFrom1, a_upTo1, a_head, a_next, a_nextFrom, a_nextTo, a_stack) (nI at') (-1) (a_upFrom1 b) (a_upTo1 b)) := by
    intro l lb1 uf1 ut1 a_label1 a_upFrom1 a_upTo1 n1 n2 n3 off r1 r2 r3 hz'
    have bl : b ∉ l := fun z => bnr (n2 b (by simp [z]))
    obtain ⟨ob1, ob2, ob3⟩ := off b bl
    refine ⟨hbi, hbi, ?_⟩
    rw [r2 b hb16, r3 b hb16, ob2, ob3]
    refine zx_setLabel hat16 ⟨hbi, nm_e ⟨hbi, nm_e ?_⟩⟩
    have hbat : at' ≠ b := fun z => bnr (z ▸ hat)
    have hnl := List.nodup_cons.mp n1
    have hla : zu_U (zu_U lb1 at' (-1)) b 0 at' = -1 := (zu_n hbat).trans zu_s
    obtain ⟨z1, z2, z3⟩ := hz' (zu_U (zu_U lb1 at' (-1)) b 0) (zu_U uf1 at' (uf b)) (zu_U ut1 at' (ut b)) hla (fun z hz => by
      have e1 : z ≠ b := fun e => bl (e ▸ hz)
      have e2 : z ≠ at' := fun e => hnl.1 (e ▸ hz)
      rw [zu_n e1, zu_n e2, zu_n e2, zu_n e2]
      exact ⟨rfl, rfl, rfl⟩)
    obtain ⟨o1, o2, o3, o4, o5, o6, o7, o8⟩ := zi_open hG iA iT iL iM iD iF iFD (tp' := tp') (uf' := zu_U uf1 at' (uf b)) (ut' := zu_U ut1 at' (ut b)) (lb' := zu_U (zu_U lb1 at' (-1)) b 0) hb hlb hz hrg t1 t2 n1 n2 n3 hatu hla zu_s zu_s z1 z2 z3 zu_s
      (fun x hx hxb => by
        simp at hx
        obtain ⟨p1, p2, p3⟩ := off x hx.2
        rw [zu_n hxb, zu_n hx.1, zu_n hx.1, zu_n hx.1]
        exact ⟨p1, p2, p3⟩)
    exact K tp' _ _ _ _ _ _ _ _ ⟨o1, o2, o3, o4, o5, o6, o7⟩ o8 ht' (zx_Lu (zx_Lu r1 at' (by decide)) b (by decide)) (zx_Nu r2 at' (uf b)) (zx_Nu r3 at' (ut b)) (zx_Hu hH b rfl)
  have hpr := ((iM.2 b (Or.inr hb)).2 hb c0 t hrg).2
  by_cases hac : at' = c0
  · subst hac
    refine zx_relabel (X := []) hat16 hat16 hN hNf hNt hL hUf hUt rfl trivial (by simp) (fun y hy => by simp at hy) (by simp) ?_ (fun q => by simp at q)
    intro _ l hl lb1 uf1 ut1 a_label1 a_upFrom1 a_upTo1 zA off r1 r2 r3
    have hl' : l = [] := (List.cons.inj hl).2
    subst hl'
    exact fin [] lb1 uf1 ut1 _ _ _ (by simp) (fun x hx => by simp at hx; rw [hx]; exact hat) rfl off r1 r2 r3 (fun lb' uf' ut' h1 _ => ⟨trivial, h1, fun z hz => by simp at hz; subst hz; exact Or.inr h1⟩)
  · have hatt : at' ∈ t := by
      rw [hrg] at hat
      rcases List.mem_cons.mp hat with e | e
      · exact absurd e hac
      · exact e
    obtain ⟨A, B, rfl⟩ := List.append_of_mem hatt
    have hsuf : zl_ch (fun x y => zt_R E ms nx nf nt x y ∧ zd_sl ky du (zt_al rg) ms (nf x) (nt x) = 0) (at' :: (B ++ [c0])) := by
      rw [show c0 :: (A ++ at' :: B ++ [c0]) = (c0 :: A) ++ (at' :: (B ++ [c0])) by simp] at hring
      exact zl_ch_suf hring
    have hpre : zl_ch (fun x y => zt_R E ms nx nf nt x y ∧ zd_sl ky du (zt_al rg) ms (nf x) (nt x) = 0) (c0 :: (A ++ [at'])) := by
      rw [show c0 :: (A ++ at' :: B ++ [c0]) = (c0 :: (A ++ [at'])) ++ (B ++ [c0]) by simp] at hring
      exact zl_ch_pre hring
    have hnd1 := List.nodup_cons.mp hnd
    have hnd2 := List.nodup_append.mp hnd1.2
    have hnd3 := List.nodup_cons.mp hnd2.2.1
    have hat' : at' ∉ A := fun z => hnd2.2.2 at' z at' (by simp) rfl
    have memt : ∀ x, x ∈ A ∨ x = at' ∨ x ∈ B → x ∈ rg b := fun x hx => by
      rw [hrg]; simp; exact Or.inr hx
    have nS : (at' :: (B ++ [c0])).Nodup := by
      refine List.nodup_cons.mpr ⟨?_, List.nodup_append.mpr ⟨hnd3.2, by simp, ?_⟩⟩
      · simp; exact ⟨hnd3.1, hac⟩
      · intro x hx y hy e
        simp at hy
        subst e hy
        exact hnd1.1 (by simp [hx])
    have nP : (c0 :: (A ++ [at'])).Nodup := by
      refine List.nodup_cons.mpr ⟨?_, List.nodup_append.mpr ⟨hnd2.1, by simp, ?_⟩⟩
      · intro z
        simp at z
        rcases z with z | z
        · exact hnd1.1 (by simp [z])
        · exact hac z.symm
      · intro x hx y hy e
        simp at hy
        subst e hy
        exact hat' hx
    have lens : A.length + B.length + 1 = (A ++ at' :: B).length := by simp; omega
    refine zx_relabel (X := at' :: B) (hkid c0 hc0) hat16 hN hNf hNt hL hUf hUt rfl (zl_ch_mono (fun x y q => q.1.1) hsuf) nS (fun y hy => hkid y (memt y (by simp at hy; rcases hy with e | e; exact Or.inr (Or.inl e); exact Or.inr (Or.inr e)))) (by simp only [List.length_cons]; omega) ?_ ?_
    · intro q l hl lb1 uf1 ut1 a_label1 a_upFrom1 a_upTo1 zA off r1 r2 r3
      have hl' : l = B ++ [c0] := (List.cons.inj hl).2
      subst hl'
      simp only [List.length_cons] at q
      refine fin (B ++ [c0]) lb1 uf1 ut1 _ _ _ nS (fun x hx => ?_) (zl_last (at' :: B) c0) off r1 r2 r3 (fun lb' uf' ut' h1 h2 => ?_)
      · simp at hx
        rcases hx with e | e | e
        · exact memt x (Or.inr (Or.inl e))
        · exact memt x (Or.inr (Or.inr e))
        · rw [e]; exact hc0
      · have zA' := zo_Acongr (B ++ [c0]) (-1) at' h2 zA
        refine zo_ahead hG B at' (by omega) zA' h1 hsuf ?_
        exact ((zl_pr_app A (by omega)).mp hpr).2
    · intro q
      simp only [List.length_cons] at q
      refine zx_rlB hat16 hN hNf hNt (c0 :: A) c0 0 10 (-1) (-1) lb uf ut _ _ _ (by decide) (Or.inr rfl) rfl nP (fun y hy => hkid y ?_) (zl_ch_mono (fun x y q => q.1.1) hpre) (by simp only [List.length_cons]; omega) (by simp only [List.length_cons]; omega) hL hUf hUt ?_
      · simp at hy
        rcases hy with e | e
        · rw [e]; exact hc0
        · exact memt y (Or.inl e)
      · intro lb1 uf1 ut1 a_label1 a_upFrom1 a_upTo1 zB off r1 r2 r3
        have eR : at' :: (A.reverse ++ [c0]) = (c0 :: (A ++ [at'])).reverse := by simp
        have off' : ∀ z, z ∉ A.reverse ++ [c0] → lb1 z = lb z ∧ uf1 z = uf z ∧ ut1 z = ut z := fun z hz => off z (fun w => hz (by
          simp at w ⊢
          rcases w with e | e
          · exact Or.inr e
          · exact Or.inl e))
        refine fin (A.reverse ++ [c0]) lb1 uf1 ut1 _ _ _ ?_ (fun x hx => ?_) (zl_last (at' :: A.reverse) c0) off' r1 r2 r3 (fun lb' uf' ut' h1 h2 => ?_)
        · rw [eR]; unfold List.Nodup; rw [List.pairwise_reverse]; exact nP.imp (fun q => q.symm)
        · simp at hx
          rcases hx with e | e | e
          · exact memt x (Or.inr (Or.inl e))
          · exact memt x (Or.inl e)
          · rw [e]; exact hc0
        · have zB' := zo_Bcongr (c0 :: A) (-1) (fun z hz => h2 z (by
            simp at hz ⊢
            rcases hz with e | e
            · exact Or.inr e
            · exact Or.inl e)) zB
          have hp2 : zl_pr (zt_P mt bs nf nt) (A ++ [at']) := by
            have e : A ++ at' :: B = (A ++ [at']) ++ B := by simp
            rw [e] at hpr
            exact ((zl_pr_app (A ++ [at']) (by simp; omega)).mp hpr).1
          obtain ⟨k1, k2, k3⟩ := zo_back hG h1 A c0 (by omega) zB' hpre hp2
          refine ⟨?_, k2, fun z hz => k3 z ?_⟩
          · rw [eR]; exact zl_ch_rev k1
          · rw [eR, List.mem_reverse] at hz; exact hz
end
end
section
/-! the walk of findEvent -/
theorem zx_l64 {x : Int64} {z : Int} (h : x.toInt = z) : -9223372036854775808 ≤ z ∧ z < 9223372036854775808 := by
  rw [← h]; exact ⟨x.le_toInt, x.toInt_lt⟩
theorem zx_ladd {x y : Int64} {a b : Int} (hx : x.toInt = a) (hy : y.toInt = b) (h1 : -9223372036854775808 ≤ a + b) (h2 : a + b < 9223372036854775808) : (x + y).toInt = a + b := by
  rw [Int64.toInt_add, hx, hy]; exact Int.bmod_eq_of_le (by omega) (by omega)
theorem zx_lsub {x y : Int64} {a b : Int} (hx : x.toInt = a) (hy : y.toInt = b) (h1 : -9223372036854775808 ≤ a - b) (h2 : a - b < 9223372036854775808) : (x - y).toInt = a - b := by
  rw [Int64.toInt_sub, hx, hy]; exact Int.bmod_eq_of_le (by omega) (by omega)
theorem zx_lmul {x y : Int64} {a b : Int} (hx : x.toInt = a) (hy : y.toInt = b) (h1 : -9223372036854775808 ≤ a * b) (h2 : a * b < 9223372036854775808) : (x * y).toInt = a * b := by
  rw [Int64.toInt_mul, hx, hy]; exact Int.bmod_eq_of_le (by omega) (by omega)
theorem zx_lhalf {x : Int64} {a : Int} (hx : x.toInt = a) (h0 : 0 ≤ a) : (x / 2).toInt = a / 2 := by
  have hb := zx_l64 hx
  rw [Int64.toInt_div, hx, show (2 : Int64).toInt = 2 from by decide, Int.tdiv_eq_ediv_of_nonneg h0]
  exact Int.bmod_eq_of_le (by omega) (by omega)
/-- the nearest event among candidates -/
def zx_Ev (Cd : Nat → Nat → Int → Prop) (eA eB : Int32) (eD : Int64) : Prop :=
  (eA = -1 ∧ ∀ a b d, ¬ Cd a b d) ∨ (∃ a b d, eA = nI a ∧ a < 16 ∧ eB = nI b ∧ eD.toInt = d ∧ Cd a b d ∧ ∀ a' b' d', Cd a' b' d' → d ≤ d')
theorem zx_Evc {Cd Cd' : Nat → Nat → Int → Prop} {eA eB : Int32} {eD : Int64} (h : ∀ a b d, Cd a b d ↔ Cd' a b d) (k : zx_Ev Cd eA eB eD) : zx_Ev Cd' eA eB eD := by
  rcases k with ⟨k1, k2⟩ | ⟨a, b, d, k1, k2, k3, k4, k5, k6⟩
  · exact Or.inl ⟨k1, fun a b d z => k2 a b d ((h a b d).mpr z)⟩
  · exact Or.inr ⟨a, b, d, k1, k2, k3, k4, (h a b d).mp k5, fun a' b' d' z => k6 a' b' d' ((h a' b' d').mpr z)⟩
section
variable {f_outer f_inner f_n f_k f_maxSize f_barred f_stackSize f_eventA f_eventB : Int32} {f_eventDelta : Int64} {a_weight : Nat → Int32} {a_key : Nat → Int64} {a_slotMask a_slotValue a_bestMate a_bestWeight a_partner : Nat → Int32} {a_dual : Nat → Int64} {a_top a_members a_base a_label a_upFrom a_upTo a_head a_next a_nextFrom a_nextTo a_stack : Nat → Int32}
variable {E : Nat → Nat → Prop} {ky : Nat → Nat → Int} {tp : Nat → Nat} {du lb : Nat → Int}
theorem zx_offer {post : SX → Prop} {Cd : Nat → Nat → Int → Prop} {a b : Nat} {p2 : Int64} {d : Int} (he : zx_Ev Cd f_eventA f_eventB f_eventDelta) (ha : a < 16) (hd : p2.toInt = d)
    (K : ∀ (eA eB : Int32) (eD : Int64), zx_Ev (fun x y z => Cd x y z ∨ (x = a ∧ y = b ∧ z = d)) eA eB eD → post (f_outer, f_inner, f_n, f_k, f_maxSize, f_barred, f_stackSize, eA, eB, eD, a_weight, a_key, a_slotMask, a_slotValue, a_bestMate, a_bestWeight, a_partner, a_dual, a_top, a_members, a_base, a_label, a_upFrom, a_upTo, a_head, a_next, a_nextFrom, a_nextTo, a_stack)) : wpX_offer post (f_outer, f_inner, f_n, f_k, f_maxSize, f_barred, f_stackSize, f_eventA, f_eventB, f_eventDelta, a_weight, a_key, a_slotMask, a_slotValue, a_bestMate, a_bestWeight, a_partner, a_dual, a_top, a_members, a_base, a_label, a_upFrom, a_upTo, a_head, a_next, a_nextFrom, a_nextTo, a_stack) (nI a) (nI b) p2 := by
  have new : ∀ (h : ∀ x y z, Cd x y z → d ≤ z), post (f_outer, f_inner, f_n, f_k, f_maxSize, f_barred, f_stackSize, nI a, nI b, p2, a_weight, a_key, a_slotMask, a_slotValue, a_bestMate, a_bestWeight, a_partner, a_dual, a_top, a_members, a_base, a_label, a_upFrom, a_upTo, a_head, a_next, a_nextFrom, a_nextTo, a_stack) := fun h =>
    K _ _ _ (Or.inr ⟨a, b, d, rfl, ha, rfl, hd, Or.inr ⟨rfl, rfl, rfl⟩, fun x y z q => by
      rcases q with q | ⟨_, _, q⟩
      · exact h x y z q
      · omega⟩)
  unfold wpX_offer
  dsimp only
  rcases he with ⟨k1, k2⟩ | ⟨x, y, z, k1, k2, k3, k4, k5, k6⟩
  · rw [k1]
    exact br_t zx_m1lt (new (fun x y z q => absurd q (k2 x y z)))
  · rw [k1]
    refine br_f (zx_neg k2) (br_c (fun h => ?_) (fun h => ?_))
    · rw [Int64.lt_iff_toInt_lt, hd, k4] at h
      rw [← k1]
      exact new (fun x' y' z' q => by have := k6 x' y' z' q; omega)
    · rw [Int64.lt_iff_toInt_lt, hd, k4] at h
      rw [← k1]
      exact K _ _ _ (Or.inr ⟨x, y, z, k1, k2, k3, k4, Or.inl k5, fun x' y' z' q => by
        rcases q with q | ⟨_, _, q⟩
        · exact k6 x' y' z' q
        · omega⟩)
def zx_cand (E : Nat → Nat → Prop) (ky : Nat → Nat → Int) (tp : Nat → Nat) (du lb : Nat → Int) (u v : Nat) (d : Int) : Prop :=
  E u v ∧ lb (tp u) = 1 ∧ lb (tp v) ≠ -1 ∧ tp u ≠ tp v ∧ d = if lb (tp v) = 1 then (du u + du v - 2 * ky u v) / 2 else du u + du v - 2 * ky u v
theorem zx_consider {post : SX → Prop} {Cd : Nat → Nat → Int → Prop} {u v : Nat} (hu : u < 10) (hv : v < 10) (he : zx_Ev Cd f_eventA f_eventB f_eventDelta)
    (hE : E u v ↔ (¬ a_weight (u * 10 + v) = -100000 ∧ ¬ nI u = f_barred ∧ ¬ nI v = f_barred)) (hT : zx_N 10 a_top tp) (hL : zx_L a_label lb) (hD : zx_D a_dual du) (htu : tp u < 16) (htv : tp v < 16)
    (hk : E u v → (a_key (u * 10 + v)).toInt = ky u v ∧ -4294967296 ≤ ky u v ∧ ky u v ≤ 4294967296)
    (hb : E u v → lb (tp u) = 1 → lb (tp v) ≠ -1 → tp u ≠ tp v → 0 ≤ du u + du v - 2 * ky u v ∧ -1000000000000000000 ≤ du u + du v ∧ du u + du v ≤ 4000000000000000000)
    (K : ∀ (eA eB : Int32) (eD : Int64), zx_Ev (fun x y z => Cd x y z ∨ (x = u ∧ y = v ∧ zx_cand E ky tp du lb u v z)) eA eB eD → post (f_outer, f_inner, f_n, f_k, f_maxSize, f_barred, f_stackSize, eA, eB, eD, a_weight, a_key, a_slotMask, a_slotValue, a_bestMate, a_bestWeight, a_partner, a_dual, a_top, a_members, a_base, a_label, a_upFrom, a_upTo, a_head, a_next, a_nextFrom, a_nextTo, a_stack)) : wpX_considerEdge post (f_outer, f_inner, f_n, f_k, f_maxSize, f_barred, f_stackSize, f_eventA, f_eventB, f_eventDelta, a_weight, a_key, a_slotMask, a_slotValue, a_bestMate, a_bestWeight, a_partner, a_dual, a_top, a_members, a_base, a_label, a_upFrom, a_upTo, a_head, a_next, a_nextFrom, a_nextTo, a_stack) (nI u) (nI v) := by
  have hc : nI u * 10 + nI v = nI (u * 10 + v) := by
    rw [show (10 : Int32) = nI 10 from rfl, pk_mul, nI_add]
  have hui := vp_in_nI (N := 10) hu (by omega)
  have hvi := vp_in_nI (N := 10) hv (by omega)
  have hcell := vp_in_nI (n := u * 10 + v) (N := 100) (by omega) (by omega)
  have none : ¬ (∃ z, zx_cand E ky tp du lb u v z) → post (f_outer, f_inner, f_n, f_k, f_maxSize, f_barred, f_stackSize, f_eventA, f_eventB, f_eventDelta, a_weight, a_key, a_slotMask, a_slotValue, a_bestMate, a_bestWeight, a_partner, a_dual, a_top, a_members, a_base, a_label, a_upFrom, a_upTo, a_head, a_next, a_nextFrom, a_nextTo, a_stack) := fun h => by
    have := K f_eventA f_eventB f_eventDelta (zx_Evc (fun x y z => ⟨fun q => Or.inl q, fun q => by
      rcases q with q | ⟨_, _, q⟩
      · exact q
      · exact absurd ⟨z, q⟩ h⟩) he)
    exact this
  unfold wpX_considerEdge
  dsimp only
  rw [hc, nI_clamp (n := u * 10 + v) (by omega), nI_clamp (n := u) (by omega), nI_clamp (n := v) (by omega), hT u hu, hT v hv]
  refine ⟨hcell, br_c (fun h => none (fun ⟨z, q⟩ => (hE.mp q.1).1 h)) (fun h1 => br_c (fun h => none (fun ⟨z, q⟩ => (hE.mp q.1).2.1 h)) (fun h2 => br_c (fun h => none (fun ⟨z, q⟩ => (hE.mp q.1).2.2 h)) (fun h3 => ⟨hvi, nm_e ⟨hui, vp_in_nI htu (by omega), ?_⟩⟩)))⟩
  have hEuv : E u v := hE.mpr ⟨h1, h2, h3⟩
  rw [zx_cl htu, zx_cl htv]
  have hlu := hL (tp u) htu
  have hlv := hL (tp v) htv
  have e1 : a_label (tp u) = 1 ↔ lb (tp u) = 1 := by rw [← Int32.toInt_inj, hlu]; exact Iff.rfl
  have e2 : a_label (tp v) = -1 ↔ lb (tp v) = -1 := by rw [← Int32.toInt_inj, hlv]; exact Iff.rfl
  have e3 : a_label (tp v) = 1 ↔ lb (tp v) = 1 := by rw [← Int32.toInt_inj, hlv]; exact Iff.rfl
  refine br_c (fun h4 => ⟨vp_in_nI htv (by omega), br_c (fun h => none (fun ⟨z, q⟩ => q.2.2.1 (e2.mp h))) (fun h5 => ⟨hui, br_c (fun h => none (fun ⟨z, q⟩ => q.2.2.2.1 ((nI_eq (by omega) (by omega)).mp h))) (fun h6 => ?_)⟩)⟩) (fun h => none (fun ⟨z, q⟩ => h (e1.mpr q.2.1)))
  have g1 := e1.mp h4
  have g2 : lb (tp v) ≠ -1 := fun z => h5 (e2.mpr z)
  have g3 : tp u ≠ tp v := fun z => h6 (by rw [z])
  obtain ⟨b1, b2, b3⟩ := hb hEuv g1 g2 g3
  obtain ⟨k1, k2, k3⟩ := hk hEuv
  have hs : ((a_dual u + a_dual v) - (2 * a_key (u * 10 + v))).toInt = du u + du v - 2 * ky u v :=
    zx_lsub (zx_ladd (hD u (by omega)) (hD v (by omega)) (by omega) (by omega)) (zx_lmul (a := 2) (by decide) k1 (by omega) (by omega)) (by omega) (by omega)
  refine ⟨vp_in_nI (by omega) (by omega), vp_in_nI (by omega) (by omega), hcell, nm_e ⟨vp_in_nI htv (by omega), br_c (fun h => ⟨by decide, ?_⟩) (fun h => ?_)⟩⟩
  · refine zx_offer he (by omega) (zx_lhalf hs b1) (fun eA eB eD q => K eA eB eD (zx_Evc (fun x y z => ?_) q))
    refine or_congr Iff.rfl (and_congr_right (fun _ => and_congr_right (fun _ => ?_)))
    unfold zx_cand
    rw [if_pos (e3.mp h)]
    exact ⟨fun w => ⟨hEuv, g1, g2, g3, w⟩, fun w => w.2.2.2.2⟩
  · refine zx_offer he (by omega) hs (fun eA eB eD q => K eA eB eD (zx_Evc (fun x y z => ?_) q))
    refine or_congr Iff.rfl (and_congr_right (fun _ => and_congr_right (fun _ => ?_)))
    unfold zx_cand
    rw [if_neg (fun w => h (e3.mpr w))]
    exact ⟨fun w => ⟨hEuv, g1, g2, g3, w⟩, fun w => w.2.2.2.2⟩
/-- all candidates -/
def zx_Cd (E : Nat → Nat → Prop) (ky : Nat → Nat → Int) (tp : Nat → Nat) (du lb : Nat → Int) (i j : Nat) (a b : Nat) (d : Int) : Prop :=
  (a < 10 ∧ b < 10 ∧ a * 10 + b < i ∧ zx_cand E ky tp du lb a b d) ∨ (10 ≤ a ∧ a < j ∧ b = zn_N ∧ lb a = -1 ∧ d = du a / 2)
theorem zx_find34 {post : SX → Prop} (hL : zx_L a_label lb) (hD : zx_D a_dual du) (hnn : ∀ b, 10 ≤ b → b < 16 → lb b = -1 → 0 ≤ du b)
    (K : ∀ (eA eB : Int32) (eD : Int64), zx_Ev (zx_Cd E ky tp du lb 100 16) eA eB eD → post (f_outer, f_inner, f_n, f_k, f_maxSize, f_barred, f_stackSize, eA, eB, eD, a_weight, a_key, a_slotMask, a_slotValue, a_bestMate, a_bestWeight, a_partner, a_dual, a_top, a_members, a_base, a_label, a_upFrom, a_upTo, a_head, a_next, a_nextFrom, a_nextTo, a_stack)) :
    ∀ d j, j + d = 16 → 10 ≤ j → ∀ (f_eventA f_eventB : Int32) (f_eventDelta : Int64), zx_Ev (zx_Cd E ky tp du lb 100 j) f_eventA f_eventB f_eventDelta → wX_findEvent_34 post (d + 1) (nI j) f_outer f_inner f_n f_k f_maxSize f_barred f_stackSize f_eventA f_eventB f_eventDelta a_weight a_key a_slotMask a_slotValue a_bestMate a_bestWeight a_partner a_dual a_top a_members a_base a_label a_upFrom a_upTo a_head a_next a_nextFrom a_nextTo a_stack := by
  intro d
  induction d with
  | zero =>
    intro j hj _ f_eventA f_eventB f_eventDelta he
    obtain rfl : j = 16 := by omega
    exact pk_le 16 16 (fun _ => K _ _ _ he) (fun z => absurd z (by omega))
  | succ d ih =>
    intro j hj h10 f_eventA f_eventB f_eventDelta he
    have hj16 : j < 16 := by omega
    have hji := vp_in_nI (N := 16) hj16 (by omega)
    have hl := hL j hj16
    refine pk_le 16 j (fun z => absurd z (by omega)) (fun _ => ⟨hji, ?_⟩)
    rw [zx_cl hj16]
    have e2 : a_label j = -1 ↔ lb j = -1 := by rw [← Int32.toInt_inj, hl]; exact Iff.rfl
    refine br_c (fun h => ⟨hji, by decide, ?_⟩) (fun h => nm_r (nI_1 j) (ih (j + 1) (by omega) (by omega) _ _ _ (zx_Evc (fun a b z => ?_) he)))
    · have hl' := e2.mp h
      rw [← zn_eq]
      refine zx_offer he hj16 (zx_lhalf (hD j hj16) (hnn j h10 hj16 hl')) (fun eA eB eD q => nm_r (nI_1 j) (ih (j + 1) (by omega) (by omega) _ _ _ (zx_Evc (fun a b z => ?_) q)))
      unfold zx_Cd
      constructor
      · rintro ((w | w) | w)
        · exact Or.inl w
        · exact Or.inr ⟨w.1, by omega, w.2.2⟩
        · obtain ⟨rfl, rfl, rfl⟩ := w
          exact Or.inr ⟨h10, by omega, rfl, hl', rfl⟩
      · rintro (w | ⟨w1, w2, w3, w4, w5⟩)
        · exact Or.inl (Or.inl w)
        · by_cases q : a = j
          · subst q; exact Or.inr ⟨rfl, w3, w5⟩
          · exact Or.inl (Or.inr ⟨w1, by omega, w3, w4, w5⟩)
    · unfold zx_Cd
      constructor
      · rintro (w | w)
        · exact Or.inl w
        · exact Or.inr ⟨w.1, by omega, w.2.2⟩
      · rintro (w | ⟨w1, w2, w3, w4, w5⟩)
        · exact Or.inl w
        · by_cases q : a = j
          · subst q; exact absurd (e2.mpr w4) h
          · exact Or.inr ⟨w1, by omega, w3, w4, w5⟩
theorem zx_find {post : SX → Prop} (hE : ∀ u v, u < 10 → v < 10 → (E u v ↔ (¬ a_weight (u * 10 + v) = -100000 ∧ ¬ nI u = f_barred ∧ ¬ nI v = f_barred))) (hT : zx_N 10 a_top tp) (hL : zx_L a_label lb) (hD : zx_D a_dual du) (ht : ∀ v, v < 10 → tp v < 16)
    (hk : ∀ u v, E u v → (a_key (u * 10 + v)).toInt = ky u v ∧ -4294967296 ≤ ky u v ∧ ky u v ≤ 4294967296)
    (hb : ∀ u v, E u v → lb (tp u) = 1 → lb (tp v) ≠ -1 → tp u ≠ tp v → 0 ≤ du u + du v - 2 * ky u v ∧ -1000000000000000000 ≤ du u + du v ∧ du u + du v ≤ 4000000000000000000)
    (hnn : ∀ b, 10 ≤ b → b < 16 → lb b = -1 → 0 ≤ du b)
    (K : ∀ (eA eB : Int32) (eD : Int64), zx_Ev (zx_Cd E ky tp du lb 100 16) eA eB eD → post (f_outer, f_inner, f_n, f_k, f_maxSize, f_barred, f_stackSize, eA, eB, eD, a_weight, a_key, a_slotMask, a_slotValue, a_bestMate, a_bestWeight, a_partner, a_dual, a_top, a_members, a_base, a_label, a_upFrom, a_upTo, a_head, a_next, a_nextFrom, a_nextTo, a_stack)) : wpX_findEvent post (f_outer, f_inner, f_n, f_k, f_maxSize, f_barred, f_stackSize, f_eventA, f_eventB, f_eventDelta, a_weight, a_key, a_slotMask, a_slotValue, a_bestMate, a_bestWeight, a_partner, a_dual, a_top, a_members, a_base, a_label, a_upFrom, a_upTo, a_head, a_next, a_nextFrom, a_nextTo, a_stack) := by
  have loop : ∀ d i, i + d = 100 → ∀ (f_eventA f_eventB : Int32) (f_eventDelta : Int64), zx_Ev (zx_Cd E ky tp du lb i 10) f_eventA f_eventB f_eventDelta → wX_findEvent_7 post (d + 1) (nI i) f_outer f_inner f_n f_k f_maxSize f_barred f_stackSize f_eventA f_eventB f_eventDelta a_weight a_key a_slotMask a_slotValue a_bestMate a_bestWeight a_partner a_dual a_top a_members a_base a_label a_upFrom a_upTo a_head a_next a_nextFrom a_nextTo a_stack := by
    intro d
    induction d with
    | zero =>
      intro i hi f_eventA f_eventB f_eventDelta he
      obtain rfl : i = 100 := by omega
      exact pk_le 100 100 (fun _ => ⟨7, zx_find34 hL hD hnn K 6 10 rfl (by omega) _ _ _ he⟩) (fun z => absurd z (by omega))
    | succ d ih =>
      intro i hi f_eventA f_eventB f_eventDelta he
      refine pk_le 100 i (fun z => absurd z (by omega)) (fun _ => ⟨by decide, by decide, ?_⟩)
      have e1 : nI i / 10 = nI (i / 10) := pk_div (a := i) (d := 10) (by omega) (by omega) (by omega)
      have e2 : nI i - nI i / 10 * 10 = nI (i % 10) := pk_rem (a := i) (d := 10) (by omega) (by omega) (by omega)
      rw [e2, e1]
      have hu : i / 10 < 10 := by omega
      have hv : i % 10 < 10 := by omega
      refine zx_consider hu hv he (hE _ _ hu hv) hT hL hD (ht _ hu) (ht _ hv) (hk _ _) (hb _ _) (fun eA eB eD q => nm_r (nI_1 i) (ih (i + 1) (by omega) _ _ _ (zx_Evc (fun a b z => ?_) q)))
      unfold zx_Cd
      constructor
      · rintro ((w | w) | w)
        · exact Or.inl ⟨w.1, w.2.1, by omega, w.2.2.2⟩
        · exact Or.inr w
        · obtain ⟨rfl, rfl, w⟩ := w
          exact Or.inl ⟨hu, hv, by omega, w⟩
      · rintro (⟨w1, w2, w3, w4⟩ | w)
        · by_cases q : a * 10 + b = i
          · have ea : a = i / 10 := by omega
            have eb : b = i % 10 := by omega
            subst ea eb
            exact Or.inr ⟨rfl, rfl, w4⟩
          · exact Or.inl (Or.inl ⟨w1, w2, by omega, w4⟩)
        · exact Or.inl (Or.inr w)
  exact ⟨101, loop 100 0 rfl _ _ _ (Or.inl ⟨rfl, fun a b d q => by
    rcases q with q | q
    · omega
    · omega⟩)⟩
end
end
section
/-! the walks of moveDuals, growTree, plantRoots, begin -/
section
variable {f_outer f_inner f_n f_k f_maxSize f_barred f_stackSize f_eventA f_eventB : Int32} {f_eventDelta : Int64} {a_weight : Nat → Int32} {a_key : Nat → Int64} {a_slotMask a_slotValue a_bestMate a_bestWeight a_partner : Nat → Int32} {a_dual : Nat → Int64} {a_top a_members a_base a_label a_upFrom a_upTo a_head a_next a_nextFrom a_nextTo a_stack : Nat → Int32}
variable {E : Nat → Nat → Prop} {ky : Nat → Nat → Int} {act : Nat → Bool} {mt tp bs uf ut nx nf nt : Nat → Nat} {du lb : Nat → Int} {ms : Nat → Nat → Bool} {rg : Nat → List Nat} {lam : Int}
theorem zx_move {post : SX → Prop} {de : Int} (hT : zx_N 10 a_top tp) (hL : zx_L a_label lb) (hD : zx_D a_dual du) (ht : ∀ v, v < 10 → tp v < 16) (hlb : ∀ x, lb x = 0 ∨ lb x = 1 ∨ lb x = -1) (hde : f_eventDelta.toInt = de) (h0 : 0 ≤ de) (h1 : de < 4611686018427387904)
    (hr : ∀ x, x < 16 → -9223372036854775808 ≤ zi_mv tp lb du de x ∧ zi_mv tp lb du de x < 9223372036854775808)
    (K : ∀ a_dual', zx_D a_dual' (zi_mv tp lb du de) → post (f_outer, f_inner, f_n, f_k, f_maxSize, f_barred, f_stackSize, f_eventA, f_eventB, f_eventDelta, a_weight, a_key, a_slotMask, a_slotValue, a_bestMate, a_bestWeight, a_partner, a_dual', a_top, a_members, a_base, a_label, a_upFrom, a_upTo, a_head, a_next, a_nextFrom, a_nextTo, a_stack)) : wpX_moveDuals post (f_outer, f_inner, f_n, f_k, f_maxSize, f_barred, f_stackSize, f_eventA, f_eventB, f_eventDelta, a_weight, a_key, a_slotMask, a_slotValue, a_bestMate, a_bestWeight, a_partner, a_dual, a_top, a_members, a_base, a_label, a_upFrom, a_upTo, a_head, a_next, a_nextFrom, a_nextTo, a_stack) := by
  have loop2 : ∀ d i, i + d = 16 → 10 ≤ i → ∀ a_dual, zx_D a_dual (fun j => if j < i then zi_mv tp lb du de j else du j) → wX_moveDuals_43 post f_outer f_inner f_n f_k f_maxSize f_barred f_stackSize f_eventA f_eventB f_eventDelta (d + 1) (nI i) a_weight a_key a_slotMask a_slotValue a_bestMate a_bestWeight a_partner a_dual a_top a_members a_base a_label a_upFrom a_upTo a_head a_next a_nextFrom a_nextTo a_stack := by
    intro d
    induction d with
    | zero =>
      intro i hi _ a_dual h
      obtain rfl : i = 16 := by omega
      refine pk_le 16 16 (fun _ => K a_dual (fun x hx => ?_)) (fun z => absurd z (by omega))
      rw [h x hx]; exact if_pos hx
    | succ d ih =>
      intro i hi h10 a_dual h
      have hi16 : i < 16 := by omega
      have hii := vp_in_nI (N := 16) hi16 (by omega)
      refine pk_le 16 i (fun z => absurd z (by omega)) (fun _ => ⟨hii, hii, hii, ?_⟩)
      rw [zx_cl hi16]
      refine nm_e (nm_r (nI_1 i) (ih (i + 1) (by omega) (by omega) _ (fun x hx => ?_)))
      by_cases q : x = i
      · subst q
        have hm : zi_mv tp lb du de x = du x + 2 * lb x * de := if_neg (by omega)
        rw [pk_uLs]
        show _ = if x < x + 1 then zi_mv tp lb du de x else du x
        rw [if_pos (by omega), hm]
        have hdx : (a_dual x).toInt = du x := by rw [h x hx]; exact if_neg (by omega)
        have hl := hL x hx
        have hrx := hr x hx
        rw [hm] at hrx
        have h2 : (2 * a_label x).toInt64.toInt = 2 * lb x := by
          rw [Int32.toInt_toInt64, Int32.toInt_mul, hl, show (2 : Int32).toInt = 2 from by decide]
          rcases hlb x with e | e | e <;> rw [e] <;> decide
        refine zx_ladd hdx (zx_lmul h2 hde ?_ ?_) hrx.1 hrx.2
        · rcases hlb x with e | e | e <;> rw [e] <;> omega
        · rcases hlb x with e | e | e <;> rw [e] <;> omega
      · rw [pk_uLn q, h x hx]
        show (if x < i then zi_mv tp lb du de x else du x) = if x < i + 1 then zi_mv tp lb du de x else du x
        by_cases w : x < i
        · rw [if_pos w, if_pos (by omega)]
        · rw [if_neg w, if_neg (by omega)]
  have loop1 : ∀ d i, i + d = 10 → ∀ a_dual, zx_D a_dual (fun j => if j < i then zi_mv tp lb du de j else du j) → wX_moveDuals_2 post f_outer f_inner f_n f_k f_maxSize f_barred f_stackSize f_eventA f_eventB f_eventDelta (d + 1) (nI i) a_weight a_key a_slotMask a_slotValue a_bestMate a_bestWeight a_partner a_dual a_top a_members a_base a_label a_upFrom a_upTo a_head a_next a_nextFrom a_nextTo a_stack := by
    intro d
    induction d with
    | zero =>
      intro i hi a_dual h
      obtain rfl : i = 10 := by omega
      exact pk_le 10 10 (fun _ => ⟨7, loop2 6 10 rfl (by omega) a_dual h⟩) (fun z => absurd z (by omega))
    | succ d ih =>
      intro i hi a_dual h
      have hi16 : i < 16 := by omega
      have hi10 : i < 10 := by omega
      have hii := vp_in_nI (N := 16) hi16 (by omega)
      refine pk_le 10 i (fun z => absurd z (by omega)) (fun _ => ⟨hii, vp_in_nI (by omega) (by omega), ?_⟩)
      rw [zx_cl hi16, hT i hi10, zx_cl (ht i hi10)]
      refine ⟨vp_in_nI (ht i hi10) (by omega), hii, nm_e (nm_r (nI_1 i) (ih (i + 1) (by omega) _ (fun x hx => ?_)))⟩
      by_cases q : x = i
      · subst q
        have hm : zi_mv tp lb du de x = du x - lb (tp x) * de := if_pos (by omega)
        rw [pk_uLs]
        show _ = if x < x + 1 then zi_mv tp lb du de x else du x
        rw [if_pos (by omega), hm]
        have hdx : (a_dual x).toInt = du x := by rw [h x hx]; exact if_neg (by omega)
        have hl := hL (tp x) (ht x hi10)
        have hrx := hr x hx
        rw [hm] at hrx
        have h2 : (a_label (tp x)).toInt64.toInt = lb (tp x) := by
          rw [Int32.toInt_toInt64, hl]
        refine zx_lsub hdx (zx_lmul h2 hde ?_ ?_) hrx.1 hrx.2
        · rcases hlb (tp x) with e | e | e <;> rw [e] <;> omega
        · rcases hlb (tp x) with e | e | e <;> rw [e] <;> omega
      · rw [pk_uLn q, h x hx]
        show (if x < i then zi_mv tp lb du de x else du x) = if x < i + 1 then zi_mv tp lb du de x else du x
        by_cases w : x < i
        · rw [if_pos w, if_pos (by omega)]
        · rw [if_neg w, if_neg (by omega)]
  exact ⟨11, loop1 10 0 rfl a_dual (fun x hx => (hD x hx).trans (if_neg (by omega)).symm)⟩
theorem zx_grow {post : SX → Prop} {u v : Nat} (hG : zi_G E ky act) (hI : zi_I E ky act mt tp bs uf ut nx nf nt du lb ms rg lam) (he : E u v) (hu : lb (tp u) = 1) (hv : lb (tp v) = 0) (hs : zd_sl ky du (zt_al rg) ms u v = 0)
    (hP : zx_P a_partner mt) (hB : zx_N 16 a_base bs) (hT : zx_N 10 a_top tp) (hL : zx_L a_label lb) (hUf : zx_N 16 a_upFrom uf) (hUt : zx_N 16 a_upTo ut)
    (K : ∀ (uf' ut' : Nat → Nat) (lb' : Nat → Int) (a_label' a_upFrom' a_upTo' : Nat → Int32), zi_I E ky act mt tp bs uf' ut' nx nf nt du lb' ms rg lam → zf_mu tp bs lb' rg < zf_mu tp bs lb rg →
      zx_L a_label' lb' → zx_N 16 a_upFrom' uf' → zx_N 16 a_upTo' ut' → post (f_outer, f_inner, f_n, f_k, f_maxSize, f_barred, f_stackSize, f_eventA, f_eventB, f_eventDelta, a_weight, a_key, a_slotMask, a_slotValue, a_bestMate, a_bestWeight, a_partner, a_dual, a_top, a_members, a_base, a_label', a_upFrom', a_upTo', a_head, a_next, a_nextFrom, a_nextTo, a_stack)) :
    wpX_growTree post (f_outer, f_inner, f_n, f_k, f_maxSize, f_barred, f_stackSize, f_eventA, f_eventB, f_eventDelta, a_weight, a_key, a_slotMask, a_slotValue, a_bestMate, a_bestWeight, a_partner, a_dual, a_top, a_members, a_base, a_label, a_upFrom, a_upTo, a_head, a_next, a_nextFrom, a_nextTo, a_stack) (nI u) (nI v) := by
  obtain ⟨iA, iT, iL, iM, iD, ⟨rk, iF⟩, iFD⟩ := hI
  obtain ⟨g1, g2, g3, g4, g5⟩ := zi_grow hG iA iT iL iM iD iF iFD he hu hv hs
  obtain ⟨_, hv10, _⟩ := hG.1 u v he
  have hx := zt_tlv iT hv10
  have hx16 := zt_lv16 hx
  have hb10 := zt_lt iA (iM.2 _ hx).1
  have hf10 := (iM.1 _ hb10).1
  have hy16 := zt_lv16 (zt_tlv iT hf10)
  have hxi := vp_in_nI (N := 16) hx16 (by omega)
  unfold wpX_growTree
  dsimp only
  rw [nI_clamp (n := v) (by omega), hT v hv10]
  refine ⟨vp_in_nI hv10 (by omega), nm_e ⟨hxi, ?_⟩⟩
  rw [zx_cl hx16, hB _ hx16, nI_clamp (n := bs (tp v)) (by omega), hP _ hb10, if_neg g1]
  refine ⟨vp_in_nI hb10 (by omega), nm_e ?_⟩
  refine zx_setLabel hx16 (br_f (nI_pos (by omega)) ⟨vp_in_nI hf10 (by omega), hxi, ?_⟩)
  dsimp only
  rw [nI_clamp (n := mt (bs (tp v))) (by omega), hT _ hf10, hB _ hx16]
  refine zx_setLabel hy16 ?_
  exact K _ _ _ _ _ _ ⟨iA, iT, iL, iM, iD, g3, g4⟩ g5 (zx_Lu (zx_Lu hL (tp v) (by decide)) _ (by decide)) (zx_Nu (zx_Nu hUf (tp v) v) _ _) (zx_Nu (zx_Nu hUt (tp v) u) _ _)
theorem zx_plant {post : SX → Prop} {nn : Nat} (hn : f_n = nI nn) (hn10 : nn ≤ 10) (hact : ∀ v, v < 10 → (act v = true ↔ v < nn ∧ ¬ nI v = f_barred)) (hm : ∀ v, v < 10 → mt v < 10) (ht : ∀ v, v < 10 → tp v < 16)
    (hinj : ∀ v w, v < 10 → w < 10 → mt v = v → mt w = w → tp v = tp w → v = w) (hP : zx_P a_partner mt) (hT : zx_N 10 a_top tp) (hUf : zx_N 16 a_upFrom uf) (hUt : zx_N 16 a_upTo ut)
    (K : ∀ (uf' ut' : Nat → Nat) (lb' : Nat → Int) (a_label' a_upFrom' a_upTo' : Nat → Int32), (∀ x, lb' x = 0 ∨ lb' x = 1) → (∀ v, v < 10 → act v = true → mt v = v → lb' (tp v) = 1 ∧ uf' (tp v) = v ∧ ut' (tp v) = zn_N) →
      (∀ x, lb' x ≠ 0 → ∃ v, v < 10 ∧ act v = true ∧ mt v = v ∧ tp v = x) → zx_L a_label' lb' → zx_N 16 a_upFrom' uf' → zx_N 16 a_upTo' ut' → post (f_outer, f_inner, f_n, f_k, f_maxSize, f_barred, f_stackSize, f_eventA, f_eventB, f_eventDelta, a_weight, a_key, a_slotMask, a_slotValue, a_bestMate, a_bestWeight, a_partner, a_dual, a_top, a_members, a_base, a_label', a_upFrom', a_upTo', a_head, a_next, a_nextFrom, a_nextTo, a_stack)) : wpX_plantRoots post (f_outer, f_inner, f_n, f_k, f_maxSize, f_barred, f_stackSize, f_eventA, f_eventB, f_eventDelta, a_weight, a_key, a_slotMask, a_slotValue, a_bestMate, a_bestWeight, a_partner, a_dual, a_top, a_members, a_base, a_label, a_upFrom, a_upTo, a_head, a_next, a_nextFrom, a_nextTo, a_stack) := by
  have loop2 : ∀ d i, i + d = nn → ∀ (uf ut : Nat → Nat) (lb : Nat → Int) (a_label a_upFrom a_upTo : Nat → Int32), (∀ x, lb x = 0 ∨ lb x = 1) → (∀ v, v < i → act v = true → mt v = v → lb (tp v) = 1 ∧ uf (tp v) = v ∧ ut (tp v) = zn_N) →
      (∀ x, lb x ≠ 0 → ∃ v, v < 10 ∧ act v = true ∧ mt v = v ∧ tp v = x) → zx_L a_label lb → zx_N 16 a_upFrom uf → zx_N 16 a_upTo ut → wX_plantRoots_23 post (d + 1) (nI i) f_outer f_inner f_n f_k f_maxSize f_barred f_stackSize f_eventA f_eventB f_eventDelta a_weight a_key a_slotMask a_slotValue a_bestMate a_bestWeight a_partner a_dual a_top a_members a_base a_label a_upFrom a_upTo a_head a_next a_nextFrom a_nextTo a_stack := by
    intro d
    induction d with
    | zero =>
      intro i hi uf ut lb a_label a_upFrom a_upTo p1 p2 p3 r1 r2 r3
      refine pk_le nn i (fun _ => K uf ut lb _ _ _ p1 (fun v hv ha => p2 v (by have := ((hact v hv).mp ha).1; omega) ha) p3 r1 r2 r3) (fun z => absurd z (by omega)) hn
    | succ d ih =>
      intro i hi uf ut lb a_label a_upFrom a_upTo p1 p2 p3 r1 r2 r3
      have hi10 : i < 10 := by omega
      have hii := vp_in_nI (N := 10) hi10 (by omega)
      have skip : ¬ (act i = true ∧ mt i = i) → wX_plantRoots_23 post (d + 1) (nI (i + 1)) f_outer f_inner f_n f_k f_maxSize f_barred f_stackSize f_eventA f_eventB f_eventDelta a_weight a_key a_slotMask a_slotValue a_bestMate a_bestWeight a_partner a_dual a_top a_members a_base a_label a_upFrom a_upTo a_head a_next a_nextFrom a_nextTo a_stack := fun hno => ih (i + 1) (by omega) uf ut lb _ _ _ p1 (fun v hv ha hf => by
        rcases Nat.lt_or_ge v i with q | q
        · exact p2 v q ha hf
        · have : v = i := by omega
          subst this
          exact absurd ⟨ha, hf⟩ hno) p3 r1 r2 r3
      refine pk_le nn i (fun z => absurd z (by omega)) (fun _ => br_c (fun h => nm_r (nI_1 i) (skip (fun q => ((hact i hi10).mp q.1).2 h))) (fun h => ⟨hii, ?_⟩)) hn
      rw [nI_clamp (n := i) (by omega), hP i hi10, hT i hi10]
      by_cases q : mt i = i
      · have ha : act i = true := (hact i hi10).mpr ⟨by omega, h⟩
        rw [if_pos q]
        refine br_f zx_m1ge ⟨hii, ?_⟩
        refine zx_setLabel (ht i hi10) (nm_r (nI_1 i) (ih (i + 1) (by omega) (zu_U uf (tp i) i) (zu_U ut (tp i) zn_N) (zu_U lb (tp i) 1) _ _ _ ?_ ?_ ?_ (zx_Lu r1 (tp i) (by decide)) (zx_Nu r2 (tp i) i) (zx_Nu' r3 (tp i) zn_eq.symm)))
        · intro x
          by_cases e : x = tp i
          · subst e; rw [zu_s]; exact Or.inr rfl
          · rw [zu_n e]; exact p1 x
        · intro v hv ha' hf
          by_cases e : tp v = tp i
          · have : v = i := hinj v i (by omega) hi10 hf q e
            subst this
            rw [zu_s, zu_s, zu_s]; exact ⟨rfl, rfl, rfl⟩
          · rw [zu_n e, zu_n e, zu_n e]
            refine p2 v ?_ ha' hf
            rcases Nat.lt_or_ge v i with w | w
            · exact w
            · exact absurd (by rw [show v = i by omega]) e
        · intro x hx
          by_cases e : x = tp i
          · exact ⟨i, hi10, ha, q, e.symm⟩
          · rw [zu_n e] at hx; exact p3 x hx
      · rw [if_neg q]
        refine br_t (nI_pos' (by have := hm i hi10; omega)) (nm_r (nI_1 i) (skip (fun w => q w.2)))
  have loop1 : ∀ d i, i + d = 16 → ∀ a_label, (∀ x, x < i → a_label x = 0) → wX_plantRoots_2 post f_outer f_inner f_n f_k f_maxSize f_barred f_stackSize f_eventA f_eventB f_eventDelta (d + 1) (nI i) a_weight a_key a_slotMask a_slotValue a_bestMate a_bestWeight a_partner a_dual a_top a_members a_base a_label a_upFrom a_upTo a_head a_next a_nextFrom a_nextTo a_stack := by
    intro d
    induction d with
    | zero =>
      intro i hi a_label h
      refine pk_le 16 i (fun _ => ⟨nn + 1, loop2 nn 0 (by omega) uf ut (fun _ => 0) _ _ _ (fun _ => Or.inl rfl) (fun v hv => by omega) (fun x hx => absurd rfl hx) (fun x hx => ?_) hUf hUt⟩) (fun z => absurd z (by omega))
      rw [h x (by omega)]; rfl
    | succ d ih =>
      intro i hi a_label h
      refine pk_le 16 i (fun z => absurd z (by omega)) (fun _ => ⟨vp_in_nI (by omega) (by omega), ?_⟩)
      rw [nI_clamp (n := i) (by omega)]
      refine nm_e (nm_r (nI_1 i) (ih (i + 1) (by omega) _ (fun x hx => ?_)))
      by_cases e : x = i
      · subst e; exact pk_us
      · rw [pk_un e]; exact h x (by omega)
  exact ⟨17, loop1 16 0 rfl a_label (fun x hx => by omega)⟩
theorem zx_begin {post : SX → Prop} {p0 : Int32}
    (K : ∀ (bs : Nat → Nat) (du : Nat → Int) (ms : Nat → Nat → Bool) (a_dual' : Nat → Int64) (a_partner' a_top' a_members' a_base' a_head' : Nat → Int32), zx_P a_partner' (fun v => v) → zx_D a_dual' du → (∀ v, v < 10 → du v = 2000000000) → zx_N 10 a_top' (fun v => v) → zx_N 16 a_base' bs → (∀ v, v < 10 → bs v = v) →
      zx_M a_members' ms → (∀ x, x < 10 → ∀ v, ms x v = true ↔ v = x) → (∀ x v, ms x v = true → v < 10) → zx_H a_head' (fun _ => []) → post (f_outer, f_inner, f_n, f_k, f_maxSize, p0, f_stackSize, f_eventA, f_eventB, f_eventDelta, a_weight, a_key, a_slotMask, a_slotValue, a_bestMate, a_bestWeight, a_partner', a_dual', a_top', a_members', a_base', a_label, a_upFrom, a_upTo, a_head', a_next, a_nextFrom, a_nextTo, a_stack)) : wpX_begin post (f_outer, f_inner, f_n, f_k, f_maxSize, f_barred, f_stackSize, f_eventA, f_eventB, f_eventDelta, a_weight, a_key, a_slotMask, a_slotValue, a_bestMate, a_bestWeight, a_partner, a_dual, a_top, a_members, a_base, a_label, a_upFrom, a_upTo, a_head, a_next, a_nextFrom, a_nextTo, a_stack) p0 := by
  have loop2 : ∀ d i, i + d = 16 → ∀ (a_partner : Nat → Int32) (a_dual : Nat → Int64) (a_top a_members a_base a_head : Nat → Int32), (∀ v, v < 10 → a_partner v = -1 ∧ a_dual v = 2000000000 ∧ a_base v = nI v ∧ a_top v = nI v ∧ a_members v = (1 : Int32) <<< (nI v &&& 31)) → (∀ x, x < i → a_head x = -1) →
      wX_begin_60 post f_outer f_inner f_n f_k f_maxSize p0 f_stackSize f_eventA f_eventB f_eventDelta (d + 1) (nI i) a_weight a_key a_slotMask a_slotValue a_bestMate a_bestWeight a_partner a_dual a_top a_members a_base a_label a_upFrom a_upTo a_head a_next a_nextFrom a_nextTo a_stack := by
    intro d
    induction d with
    | zero =>
      intro i hi a_partner a_dual a_top a_members a_base a_head h h2
      refine pk_le 16 i (fun _ => ?_) (fun z => absurd z (by omega))
      obtain ⟨bs0, hbs0⟩ := zx_Nex 16 a_base
      refine K (fun x => if x < 10 then x else bs0 x) (fun x => (a_dual x).toInt) (fun x v => if x < 10 then decide (v = x) else (decide (v < 10) && bt (a_members x) v)) _ _ _ _ _ _ ?_ ?_ ?_ ?_ ?_ ?_ ?_ ?_ ?_ ?_
      · intro v hv; rw [(h v hv).1, if_pos rfl]
      · intro x _; rfl
      · intro v hv
        show (a_dual v).toInt = _
        rw [(h v hv).2.1]; decide
      · intro v hv; exact (h v hv).2.2.2.1
      · intro x hx
        show _ = nI (if x < 10 then x else bs0 x)
        by_cases e : x < 10
        · rw [if_pos e]; exact (h x e).2.2.1
        · rw [if_neg e]; exact hbs0 x hx
      · intro v hv; exact if_pos hv
      · intro x hx v hv
        by_cases e : x < 10
        · rw [(h x e).2.2.2.2]
          have := zx_B1 e v hv
          simp only [if_pos e]
          exact this
        · simp only [if_neg e]
          rw [zx_bit _ (by omega)]
          simp [hv]
      · intro x hx v
        simp [hx]
      · intro x v hv
        by_cases e : x < 10
        · simp only [if_pos e, decide_eq_true_eq] at hv
          omega
        · simp only [if_neg e, Bool.and_eq_true, decide_eq_true_eq] at hv
          exact hv.1
      · intro x hx; exact h2 x (by omega)
    | succ d ih =>
      intro i hi a_partner a_dual a_top a_members a_base a_head h h2
      refine pk_le 16 i (fun z => absurd z (by omega)) (fun _ => ⟨vp_in_nI (by omega) (by omega), ?_⟩)
      rw [nI_clamp (n := i) (by omega)]
      refine nm_e (nm_r (nI_1 i) (ih (i + 1) (by omega) _ _ _ _ _ _ h (fun x hx => ?_)))
      by_cases e : x = i
      · subst e; exact pk_us
      · rw [pk_un e]; exact h2 x (by omega)
  have loop1 : ∀ d i, i + d = 10 → ∀ (a_partner : Nat → Int32) (a_dual : Nat → Int64) (a_top a_members a_base : Nat → Int32), (∀ v, v < i → a_partner v = -1 ∧ a_dual v = 2000000000 ∧ a_base v = nI v ∧ a_top v = nI v ∧ a_members v = (1 : Int32) <<< (nI v &&& 31)) →
      wX_begin_7 post f_outer f_inner f_n f_k f_maxSize p0 f_stackSize f_eventA f_eventB f_eventDelta (d + 1) (nI i) a_weight a_key a_slotMask a_slotValue a_bestMate a_bestWeight a_partner a_dual a_top a_members a_base a_label a_upFrom a_upTo a_head a_next a_nextFrom a_nextTo a_stack := by
    intro d
    induction d with
    | zero =>
      intro i hi a_partner a_dual a_top a_members a_base h
      exact pk_le 10 i (fun _ => ⟨17, loop2 16 0 rfl _ _ _ _ _ _ (fun v hv => h v (by omega)) (fun x hx => by omega)⟩) (fun z => absurd z (by omega))
    | succ d ih =>
      intro i hi a_partner a_dual a_top a_members a_base h
      have i10 := vp_in_nI (n := i) (N := 10) (by omega) (by omega)
      have i16 := vp_in_nI (n := i) (N := 16) (by omega) (by omega)
      refine pk_le 10 i (fun z => absurd z (by omega)) (fun _ => ⟨i10, ?_⟩)
      rw [nI_clamp (n := i) (by omega)]
      refine nm_e ⟨i16, nm_e ⟨i16, nm_e ⟨i10, nm_e ⟨i16, nm_e (nm_r (nI_1 i) (ih (i + 1) (by omega) _ _ _ _ _ (fun v hv => ?_)))⟩⟩⟩⟩
      by_cases e : v = i
      · subst e
        rw [pk_us, pk_uLs, pk_us, pk_us, pk_us]
        exact ⟨rfl, rfl, rfl, rfl, rfl⟩
      · rw [pk_un e, pk_uLn e, pk_un e, pk_un e, pk_un e]
        exact h v (by omega)
  exact ⟨11, loop1 10 0 rfl _ _ _ _ _ (fun v hv => by omega)⟩
end
end
section
/-! the walk of joinOuter -/
def zx_V (rg : Nat → List Nat) : Prop := ∀ x, x < 10 ∨ 16 ≤ x → rg x = []
theorem zx_V10 {rg : Nat → List Nat} (h : zx_V rg) : ∀ x, x < 10 → rg x = [] := fun x hx => h x (Or.inl hx)
theorem zx_Val {rg : Nat → List Nat} (h : zx_V rg) {x c : Nat} (hc : c ∈ rg x) : zt_al rg x = true := by
  refine zt_al_iff.mpr ?_
  have hn : rg x ≠ [] := fun z => by rw [z] at hc; simp at hc
  rcases Nat.lt_or_ge x 10 with q | q
  · exact absurd (h x (Or.inl q)) hn
  · rcases Nat.lt_or_ge x 16 with w | w
    · exact ⟨q, w, hn⟩
    · exact absurd (h x (Or.inr w)) hn
theorem zx_V16 {ms : Nat → Nat → Bool} {rg : Nat → List Nat} (h : zx_V rg) (hA : zt_A ms rg) : ∀ x c, c ∈ rg x → c < 16 := fun x c hc => zt_lv16 (zt_kid hA (zx_Val h hc) hc)
theorem zx_Vu {rg : Nat → List Nat} (h : zx_V rg) {b : Nat} {l : List Nat} (h1 : 10 ≤ b) (h2 : b < 16) : zx_V (zu_U rg b l) := fun x hx => by
  rw [zu_n (by omega)]; exact h x hx
theorem zx_Vm {rg rg' : Nat → List Nat} (h : zx_V rg) (hm : ∀ x c, c ∈ rg' x ↔ c ∈ rg x) : zx_V rg' := fun x hx => (zr_nil hm x).mpr (h x hx)
section
variable {E : Nat → Nat → Prop} {ky : Nat → Nat → Int} {act : Nat → Bool} {mt tp bs uf ut nx nf nt : Nat → Nat} {du lb : Nat → Int} {ms : Nat → Nat → Bool} {rg : Nat → List Nat} {rk : Nat → Nat} {lam : Int}
/-- what flipPath asks of a way from an outer node -/
theorem zf_flipok (hG : zi_G E ky act) (h : zt_A ms rg) (hT : zt_T tp ms rg) (hM : zi_M E mt bs nf nt ms rg) (hD : zi_D E ky act mt nf nt du ms rg lam)
    (hF : zi_F E act mt tp bs uf ut lb ms rg rk) (hFD : zi_FD ky tp uf ut du lb ms rg lam) {x : Nat} {l : List Nat} (hx : lb x = 1) (hU : zf_UP tp ut x l) :
    (∀ y, y ∈ x :: l → zt_lv rg y) ∧ (∀ y, y ∈ l → ms y (uf y) = true ∧ (ut y < 10 → ut y ≠ uf y ∧ ms (tp (ut y)) (ut y) = true)) ∧ (∀ p q, p ∈ x :: l → q ∈ x :: l → p ≠ q → zr_dis ms p q) ∧ (x :: l).Nodup ∧ l.length % 2 = 0 ∧ l.length < 16 ∧ (∀ y, y ∈ x :: l → lb y ≠ 0) := by
  have hall : ∀ y, y ∈ x :: l → lb y ≠ 0 := fun y hy => by
    rcases List.mem_cons.mp hy with e | hy
    · rw [e]; omega
    · exact (zf_all hF (by omega) hU y hy).1
  have hlv : ∀ y, y ∈ x :: l → zt_lv rg y := fun y hy => (hF.2.1 y (hall y hy)).1
  have hnd := zf_nodup hF (by omega) hU
  refine ⟨hlv, fun y hy => ?_, fun p q hp hq hn v hv hv' => ?_, hnd, ?_, ?_, hall⟩
  · have hy' : y ∈ x :: l := by simp [hy]
    refine ⟨?_, fun hu => ?_⟩
    · rcases hF.1 y with z | z | z
      · exact absurd z (hall y hy')
      · rw [(hF.2.2.1 y z).1]; exact (hM.2 y (hlv y hy')).1
      · exact (hF.2.2.2.1 y z).2.1
    · obtain ⟨_, e2, e3, _⟩ := zf_edge h hT hM hD hF hFD (hall y hy') hu
      exact ⟨fun z => (hG.1 _ _ e3).2.2.1 z.symm, e2⟩
  · exact hn (((hF.2.1 p (hall p hp)).2 v hv).symm.trans ((hF.2.1 q (hall q hq)).2 v hv'))
  · obtain ⟨r, hr, r1, r2⟩ := zf_root hU
    obtain ⟨A, C, e⟩ := List.append_of_mem hr
    have hC : C = [] := by
      have hUr := zf_at e hU
      cases C with
      | nil => rfl
      | cons c C =>
        have := hUr.1
        rw [r1] at this
        exact absurd this (by decide)
    subst hC
    have hr1 : lb r = 1 := by
      rcases hF.1 r with z | z | z
      · exact absurd z (hall r hr)
      · exact z
      · have := (hF.2.2.2.1 r z).1
        rw [r1] at this
        exact absurd this (by decide)
    have := zl_pr_even A (zf_pairs hF A x l r [] e hU hx hr1)
    have hl := congrArg List.length e
    simp at hl
    omega
  · have := zl_pigeon 16 (x :: l) hnd (fun y hy => zt_lv16 (hlv y hy))
    simp at this
    omega
end
section
variable {f_outer f_inner f_n f_k f_maxSize f_barred f_stackSize f_eventA f_eventB : Int32} {f_eventDelta : Int64} {a_weight : Nat → Int32} {a_key : Nat → Int64} {a_slotMask a_slotValue a_bestMate a_bestWeight a_partner : Nat → Int32} {a_dual : Nat → Int64} {a_top a_members a_base a_label a_upFrom a_upTo a_head a_next a_nextFrom a_nextTo a_stack : Nat → Int32}
variable {E : Nat → Nat → Prop} {ky : Nat → Nat → Int} {act : Nat → Bool} {mt tp bs uf ut nx nf nt : Nat → Nat} {du lb : Nat → Int} {ms : Nat → Nat → Bool} {rg : Nat → List Nat} {lam : Int}
theorem zx_join {post : Int32 → SX → Prop} {u v : Nat} (hG : zi_G E ky act) (hI : zi_I E ky act mt tp bs uf ut nx nf nt du lb ms rg lam) (hV : zx_V rg) (he : E u v) (hu : lb (tp u) = 1) (hv : lb (tp v) = 1) (huv : tp u ≠ tp v) (hs : zd_sl ky du (zt_al rg) ms u v = 0)
    (hP : zx_P a_partner mt) (hD : zx_D a_dual du) (hT : zx_N 10 a_top tp) (hM : zx_M a_members ms) (hB : zx_N 16 a_base bs) (hL : zx_L a_label lb) (hUf : zx_N 16 a_upFrom uf) (hUt : zx_N 16 a_upTo ut) (hH : zx_H a_head rg) (hN : zx_N 16 a_next nx) (hNf : zx_N 16 a_nextFrom nf) (hNt : zx_N 16 a_nextTo nt)
    (K1 : ∀ (bs' mt' : Nat → Nat) (rg' : Nat → List Nat) (f_stackSize' : Int32) (a_partner' a_base' a_head' a_stack' : Nat → Int32), zt_A ms rg' → zt_T tp ms rg' → zt_Lnk E ms nx nf nt rg' → zi_M E mt' bs' nf nt ms rg' → zi_D E ky act mt' nf nt du ms rg' lam → zm_cov mt' = zm_cov mt + 2 → zm_K ky mt' = zm_K ky mt + 2 * lam → zx_V rg' →
      zx_P a_partner' mt' → zx_N 16 a_base' bs' → zx_H a_head' rg' → post 1 (f_outer, f_inner, f_n, f_k, f_maxSize, f_barred, f_stackSize', f_eventA, f_eventB, f_eventDelta, a_weight, a_key, a_slotMask, a_slotValue, a_bestMate, a_bestWeight, a_partner', a_dual, a_top, a_members, a_base', a_label, a_upFrom, a_upTo, a_head', a_next, a_nextFrom, a_nextTo, a_stack'))
    (K2 : ∀ (tp' bs' uf' ut' nx' nf' nt' : Nat → Nat) (du' lb' : Nat → Int) (ms' : Nat → Nat → Bool) (rg' : Nat → List Nat) (a_dual' : Nat → Int64) (a_top' a_members' a_base' a_label' a_upFrom' a_upTo' a_head' a_next' a_nextFrom' a_nextTo' : Nat → Int32),
      zi_I E ky act mt tp' bs' uf' ut' nx' nf' nt' du' lb' ms' rg' lam → zf_mu tp' bs' lb' rg' < zf_mu tp bs lb rg → zx_V rg' → (∀ v, v < 10 → du' v = du v) →
      zx_N 10 a_top' tp' → zx_M a_members' ms' → zx_N 16 a_base' bs' → zx_D a_dual' du' → zx_L a_label' lb' → zx_N 16 a_upFrom' uf' → zx_N 16 a_upTo' ut' → zx_H a_head' rg' → zx_N 16 a_next' nx' → zx_N 16 a_nextFrom' nf' → zx_N 16 a_nextTo' nt' →
      post 0 (f_outer, f_inner, f_n, f_k, f_maxSize, f_barred, f_stackSize, f_eventA, f_eventB, f_eventDelta, a_weight, a_key, a_slotMask, a_slotValue, a_bestMate, a_bestWeight, a_partner, a_dual', a_top', a_members', a_base', a_label', a_upFrom', a_upTo', a_head', a_next', a_nextFrom', a_nextTo', a_stack)) :
    wpX_joinOuter post (f_outer, f_inner, f_n, f_k, f_maxSize, f_barred, f_stackSize, f_eventA, f_eventB, f_eventDelta, a_weight, a_key, a_slotMask, a_slotValue, a_bestMate, a_bestWeight, a_partner, a_dual, a_top, a_members, a_base, a_label, a_upFrom, a_upTo, a_head, a_next, a_nextFrom, a_nextTo, a_stack) (nI u) (nI v) := by
  obtain ⟨iA, iT, iL, iM, iD, ⟨rk, iF⟩, iFD⟩ := hI
  obtain ⟨hu10, hv10, hne, _, _⟩ := hG.1 u v he
  obtain ⟨la, Ua⟩ := zf_ex iF (tp u) (by omega)
  obtain ⟨lv, Ub⟩ := zf_ex iF (tp v) (by omega)
  obtain ⟨a1, a2, a3, a4, a5, a6, a7⟩ := zf_flipok hG iA iT iM iD iF iFD hu Ua
  obtain ⟨b1, b2, b3, b4, b5, b6, b7⟩ := zf_flipok hG iA iT iM iD iF iFD hv Ub
  have hv0 := zx_V10 hV
  have h16 := zx_V16 hV iA
  unfold wpX_joinOuter
  dsimp only
  rw [nI_clamp (n := u) (by omega), nI_clamp (n := v) (by omega), hT u hu10, hT v hv10]
  refine ⟨vp_in_nI hu10 (by omega), vp_in_nI hv10 (by omega), ?_⟩
  refine zx_meeting hT hUt Ua Ub (fun y hy => zt_lv16 (a1 y hy)) (fun y hy => zt_lv16 (b1 y hy)) a4 b4 (fun hdj => br_t zx_m1lt ?_) (fun m A B C C' ea eb hB' => ?_)
  · refine ⟨10, zx_flip8 (E := E) hN hNf hNt hM hT hUf hUt la (tp u) u v 0 10 bs mt rg _ _ _ _ _ iA iL hv0 h16 Ua rfl (zt_tms iT hu10) hu10 hv10 (fun z => hne z.symm) a1 a2 a3 a4 a5 (by omega) (by omega) hP hB hH ?_⟩
    intro bs1 mt1 rg1 f_s1 a_partner1 a_base1 a_head1 a_stack1 hFS hBM hP1 hB1 hH1
    have hFS' := hFS
    obtain ⟨m1, ⟨hA1, hL1⟩, o1, o2, o3⟩ := hFS'
    have hV1 := zx_Vm hV m1
    refine ⟨10, zx_flip8 (E := E) hN hNf hNt hM hT hUf hUt lv (tp v) v u 0 10 bs1 mt1 rg1 _ _ _ _ _ hA1 hL1 (zx_V10 hV1) (zx_V16 hV1 hA1) Ub rfl (zt_tms iT hv10) hv10 hu10 hne (fun y hy => (zr_lv m1 y).mpr (b1 y hy)) b2 b3 b4 b5 (by omega) (by omega) hP1 hB1 hH1 ?_⟩
    intro bs2 mt2 rg2 f_s2 a_partner2 a_base2 a_head2 a_stack2 hFS2 hBM2 hP2 hB2 hH2
    have hdis : ∀ p q, p ∈ tp u :: la → q ∈ tp v :: lv → zr_dis ms p q := fun p q hp hq w hw hw' => by
      have e1 := (iF.2.1 p (a7 p hp)).2 w hw
      have e2 := (iF.2.1 q (b7 q hq)).2 w hw'
      exact hdj q hq (by rw [← e2, e1]; exact hp)
    have hc := zr_FSc hdis hFS hFS2
    have hBM' : zr_BM uf ut bs2 mt2 (tp u) u v la := by
      refine zr_BMcongr la (tp u) u v (fun p hp => ?_) hBM
      have hpl := a1 p hp
      refine ⟨(hFS2.2.2.1 p (fun q hq => zr_dsub iA (hdis p q hp hq) hpl (fun w hw => hw))).2, hFS2.2.2.2.1 _ (fun q hq z => ?_)⟩
      exact hdis p q hp hq _ (o3 p hp p ((zr_lv m1 p).mpr hpl) (fun w hw => hw)).1 z
    obtain ⟨r1, r2, r3, r4, r5, r6, r7⟩ := zi_aug hG iA iT iL iM iD iF iFD he hu hv hs Ua Ub hdj hc hBM' hBM2
    exact K1 bs2 mt2 rg2 f_s2 a_partner2 a_base2 a_head2 a_stack2 r1 r2 r3 r4 r5 r6 r7 (zx_Vm hV hc.1) hP2 hB2 hH2
  · have hmA : m ∈ tp u :: la := by rw [ea]; simp
    have hm16 := zt_lv16 (a1 m hmA)
    refine br_f (zx_neg hm16) ?_
    have slot : ¬ ∀ b, 10 ≤ b → b < 16 → rg b ≠ [] := fun z => zi_slot iA iM z
    refine ⟨6, zx_form7 hH h16 slot (fun nb n1 n2 n3 => ?_) 5 0 rfl (fun j hj => by omega)⟩
    have dead : ∀ y, zt_lv rg y → y ≠ nb := fun y hy e => by
      subst e
      rcases hy with q | q
      · omega
      · exact (zt_al_iff.mp q).2.2 n3
    have memA : ∀ x, x ∈ A → x ∈ tp u :: la := fun x hx => by rw [ea]; simp [hx]
    have memB : ∀ x, x ∈ B → x ∈ tp v :: lv := fun x hx => by rw [eb]; simp [hx]
    have chA : zl_ch (fun x y => ut x < 10 ∧ tp (ut x) = y) (A ++ [m]) := by
      have := zf_ch Ua
      rw [ea, show A ++ m :: C = (A ++ [m]) ++ C by simp] at this
      exact zl_ch_pre this
    have chB : zl_ch (fun x y => ut x < 10 ∧ tp (ut x) = y) (B ++ [m]) := by
      have := zf_ch Ub
      rw [eb, show B ++ m :: C' = (B ++ [m]) ++ C' by simp] at this
      exact zl_ch_pre this
    have nA : (A ++ [m]).Nodup := by
      rw [ea, show A ++ m :: C = (A ++ [m]) ++ C by simp] at a4
      exact (List.nodup_append.mp a4).1
    have nB : (B ++ [m]).Nodup := by
      rw [eb, show B ++ m :: C' = (B ++ [m]) ++ C' by simp] at b4
      exact (List.nodup_append.mp b4).1
    have cA : (A ++ [m]).head? = some (tp u) := by
      cases A with
      | nil => obtain ⟨e1, _⟩ := List.cons.inj ea; simp [e1]
      | cons b A => obtain ⟨e1, _⟩ := List.cons.inj ea; simp [e1]
    have cB : (B ++ [m]).head? = some (tp v) := by
      cases B with
      | nil => obtain ⟨e1, _⟩ := List.cons.inj eb; simp [e1]
      | cons b B => obtain ⟨e1, _⟩ := List.cons.inj eb; simp [e1]
    refine zx_form32 hu10 hv10 hm16 n2 (dead m (a1 m hmA)) hT hB hD hL hUf hUt hH hM hN hNf hNt cA cB chA chB nA nB (fun x hx => ⟨zt_lv16 (a1 x (memA x hx)), dead x (a1 x (memA x hx))⟩) (fun x hx => ⟨zt_lv16 (b1 x (memB x hx)), dead x (b1 x (memB x hx))⟩) (fun x hx hxA => hB' x hx (memA x hxA)) ?_
    intro nx' nf' nt' a_dual' a_top' a_members' a_base' a_label' a_upFrom' a_upTo' a_head' a_next' a_nextFrom' a_nextTo' k1 k2 k3 koff q1 q2 q3 q4 q5 q6 q7 q8 q9 q10 q11
    obtain ⟨p1, p2, p3, p4, p5, p6, p7, p8, p9⟩ := zi_path hG iA iT iM iD iF iFD he hu hv huv hs Ua Ub ea eb hB' k1 k2 k3
    obtain ⟨r1, r2, r3, r4, r5, r6, r7, r8⟩ := zi_form hG iA iT iL iM iD iF iFD n1 n2 n3 p1 p2 p3 p4 p5 p6 p7 p8 p9 koff
    exact K2 _ _ _ _ _ _ _ _ _ _ _ _ _ _ _ _ _ _ _ _ _ _ ⟨r1, r2, r3, r4, r5, r6, r7⟩ r8 (zx_Vu hV n1 n2) (fun w hw => zu_n (by omega)) q1 q2 q3 q4 q5 q6 q7 q8 q9 q10 q11
end
end
section
/-! the walk of augmentOnce -/
/-- what holds between two searches -/
def zi_S (E : Nat → Nat → Prop) (ky : Nat → Nat → Int) (act : Nat → Bool) (mt tp bs nx nf nt : Nat → Nat) (du : Nat → Int) (ms : Nat → Nat → Bool) (rg : Nat → List Nat) (lam : Int) : Prop :=
  zt_A ms rg ∧ zt_T tp ms rg ∧ zt_Lnk E ms nx nf nt rg ∧ zi_M E mt bs nf nt ms rg ∧ zi_D E ky act mt nf nt du ms rg lam ∧ zx_V rg ∧ (∀ v, v < 10 → ¬ act v = true → du v = 2000000000) ∧ -20000000000 ≤ lam ∧ lam ≤ 2000000000
def zx_RS (mt tp bs nx nf nt : Nat → Nat) (du : Nat → Int) (ms : Nat → Nat → Bool) (rg : Nat → List Nat) (a_partner : Nat → Int32) (a_dual : Nat → Int64) (a_top a_members a_base a_head a_next a_nextFrom a_nextTo : Nat → Int32) : Prop :=
  zx_P a_partner mt ∧ zx_D a_dual du ∧ zx_N 10 a_top tp ∧ zx_M a_members ms ∧ zx_N 16 a_base bs ∧ zx_H a_head rg ∧ zx_N 16 a_next nx ∧ zx_N 16 a_nextFrom nf ∧ zx_N 16 a_nextTo nt
/-- the graph as the arrays hold it -/
def zx_G (E : Nat → Nat → Prop) (ky : Nat → Nat → Int) (act : Nat → Bool) (f_n f_barred : Int32) (a_weight : Nat → Int32) (a_key : Nat → Int64) : Prop :=
  zi_G E ky act ∧ (∃ nn, nn ≤ 10 ∧ f_n = nI nn ∧ ∀ v, v < 10 → (act v = true ↔ v < nn ∧ ¬ nI v = f_barred)) ∧
  (∀ u v, u < 10 → v < 10 → (E u v ↔ (¬ a_weight (u * 10 + v) = -100000 ∧ ¬ nI u = f_barred ∧ ¬ nI v = f_barred))) ∧
  (∀ u v, E u v → (a_key (u * 10 + v)).toInt = ky u v ∧ -2000000000 ≤ ky u v ∧ ky u v ≤ 2000000000)
def zb_w : Nat → Int
  | 0 => 1
  | m + 1 => 3 * zb_w m
theorem zb_w1 : ∀ m, 1 ≤ zb_w m := by
  intro m
  induction m with
  | zero => exact Int.le_refl _
  | succ m ih => show 1 ≤ 3 * zb_w m; omega
theorem zb_wG {G : Int} (h0 : 0 ≤ G) (m : Nat) : G ≤ G * zb_w m := by
  have := Int.mul_le_mul_of_nonneg_left (zb_w1 m) h0
  omega
section
variable {f_outer f_inner f_n f_k f_maxSize f_barred f_stackSize f_eventA f_eventB : Int32} {f_eventDelta : Int64} {a_weight : Nat → Int32} {a_key : Nat → Int64} {a_slotMask a_slotValue a_bestMate a_bestWeight a_partner : Nat → Int32} {a_dual : Nat → Int64} {a_top a_members a_base a_label a_upFrom a_upTo a_head a_next a_nextFrom a_nextTo a_stack : Nat → Int32}
variable {E : Nat → Nat → Prop} {ky : Nat → Nat → Int} {act : Nat → Bool}
theorem zx_aug6 {post : Int32 → SX → Prop} {mt0 : Nat → Nat} (hX : zx_G E ky act f_n f_barred a_weight a_key)
    (K0 : ∀ (f_stackSize' f_eventA' f_eventB' : Int32) (f_eventDelta' : Int64) (a_partner' : Nat → Int32) (a_dual' : Nat → Int64) (a_top' a_members' a_base' a_label' a_upFrom' a_upTo' a_head' a_next' a_nextFrom' a_nextTo' a_stack' : Nat → Int32), (∀ N, zm_M E N → zm_cov N ≤ zm_cov mt0) →
      post 0 (f_outer, f_inner, f_n, f_k, f_maxSize, f_barred, f_stackSize', f_eventA', f_eventB', f_eventDelta', a_weight, a_key, a_slotMask, a_slotValue, a_bestMate, a_bestWeight, a_partner', a_dual', a_top', a_members', a_base', a_label', a_upFrom', a_upTo', a_head', a_next', a_nextFrom', a_nextTo', a_stack'))
    (K1 : ∀ (mt tp bs nx nf nt : Nat → Nat) (du : Nat → Int) (ms : Nat → Nat → Bool) (rg : Nat → List Nat) (lam : Int) (f_stackSize' f_eventA' f_eventB' : Int32) (f_eventDelta' : Int64) (a_partner' : Nat → Int32) (a_dual' : Nat → Int64) (a_top' a_members' a_base' a_label' a_upFrom' a_upTo' a_head' a_next' a_nextFrom' a_nextTo' a_stack' : Nat → Int32),
      zi_S E ky act mt tp bs nx nf nt du ms rg lam → zx_RS mt tp bs nx nf nt du ms rg a_partner' a_dual' a_top' a_members' a_base' a_head' a_next' a_nextFrom' a_nextTo' → zm_cov mt = zm_cov mt0 + 2 →
      post 1 (f_outer, f_inner, f_n, f_k, f_maxSize, f_barred, f_stackSize', f_eventA', f_eventB', f_eventDelta', a_weight, a_key, a_slotMask, a_slotValue, a_bestMate, a_bestWeight, a_partner', a_dual', a_top', a_members', a_base', a_label', a_upFrom', a_upTo', a_head', a_next', a_nextFrom', a_nextTo', a_stack')) :
    ∀ (m i n : Nat) (tp bs uf ut nx nf nt : Nat → Nat) (du lb : Nat → Int) (ms : Nat → Nat → Bool) (rg : Nat → List Nat) (lam G : Int) (f_stackSize f_eventA f_eventB : Int32) (f_eventDelta : Int64) (a_partner : Nat → Int32) (a_dual : Nat → Int64) (a_top a_members a_base a_label a_upFrom a_upTo a_head a_next a_nextFrom a_nextTo a_stack : Nat → Int32),
      zf_mu tp bs lb rg ≤ m → i + m ≤ 16 → m < n → zi_I E ky act mt0 tp bs uf ut nx nf nt du lb ms rg lam → zx_V rg → (∀ v, v < 10 → ¬ act v = true → du v = 2000000000) → 6000000000 - G ≤ lam → lam ≤ 2000000000 → 0 ≤ G → G * zb_w m ≤ 1119214746000000000 →
      zx_RS mt0 tp bs nx nf nt du ms rg a_partner a_dual a_top a_members a_base a_head a_next a_nextFrom a_nextTo → zx_L a_label lb → zx_N 16 a_upFrom uf → zx_N 16 a_upTo ut →
      wX_augmentOnce_6 post n (nI i) f_outer f_inner f_n f_k f_maxSize f_barred f_stackSize f_eventA f_eventB f_eventDelta a_weight a_key a_slotMask a_slotValue a_bestMate a_bestWeight a_partner a_dual a_top a_members a_base a_label a_upFrom a_upTo a_head a_next a_nextFrom a_nextTo a_stack := by
  obtain ⟨hG, ⟨nn, hnn, hfn, hact⟩, hE, hk⟩ := hX
  intro m
  induction m using Nat.strongRecOn with
  | ind m ih =>
    intro i n tp bs uf ut nx nf nt du lb ms rg lam G f_stackSize f_eventA f_eventB f_eventDelta a_partner a_dual a_top a_members a_base a_label a_upFrom a_upTo a_head a_next a_nextFrom a_nextTo a_stack hmu hi hn hI hV hna hlam hlam2 hG0 hGm hR hL hUf hUt
    obtain ⟨n, rfl⟩ : ∃ k, n = k + 1 := ⟨n - 1, by omega⟩
    obtain ⟨hP, hD, hT, hM, hB, hH, hN, hNf, hNt⟩ := hR
    obtain ⟨iA, iT, iL, iM, iD, ⟨rk, iF⟩, iFD⟩ := hI
    have GL : G ≤ 1119214746000000000 := Int.le_trans (zb_wG hG0 m) hGm
    obtain ⟨bd1, bd2⟩ := zi_bnd hG iA iL iM iD (K := 2000000000) (fun u v e => (hk u v e).2)
    have hdu : ∀ v, v < 10 → act v = true → lam ≤ du v ∧ du v ≤ 4000000000 - lam := fun v hv ha => by
      obtain ⟨q1, q2⟩ := bd1 v hv ha
      rcases q2 with q2 | q2 <;> omega
    have hsl : ∀ (du : Nat → Int) u v, tp u ≠ tp v → zd_sl ky du (zt_al rg) ms u v = du u + du v - 2 * ky u v := fun du u v hne => by
      unfold zd_sl; rw [zi_z0 iT hne]; omega
    have ht16 : ∀ v, v < 10 → tp v < 16 := fun v hv => zt_lv16 (zt_tlv iT hv)
    have hal : ∀ b, 10 ≤ b → lb b ≠ 0 → zt_al rg b = true := fun b hb hl => by
      rcases (iF.2.1 b hl).1 with q | q
      · omega
      · exact q
    -- how a round goes on
    have next : ∀ (tp' bs' uf' ut' nx' nf' nt' : Nat → Nat) (du' lb' : Nat → Int) (ms' : Nat → Nat → Bool) (rg' : Nat → List Nat) (lam' : Int) (f_stackSize' f_eventA' f_eventB' : Int32) (f_eventDelta' : Int64) (a_partner' : Nat → Int32) (a_dual' : Nat → Int64) (a_top' a_members' a_base' a_label' a_upFrom' a_upTo' a_head' a_next' a_nextFrom' a_nextTo' a_stack' : Nat → Int32),
        zf_mu tp' bs' lb' rg' < zf_mu tp bs lb rg → zi_I E ky act mt0 tp' bs' uf' ut' nx' nf' nt' du' lb' ms' rg' lam' → zx_V rg' → (∀ v, v < 10 → ¬ act v = true → du' v = 2000000000) → 6000000000 - 3 * G ≤ lam' → lam' ≤ 2000000000 →
        zx_RS mt0 tp' bs' nx' nf' nt' du' ms' rg' a_partner' a_dual' a_top' a_members' a_base' a_head' a_next' a_nextFrom' a_nextTo' → zx_L a_label' lb' → zx_N 16 a_upFrom' uf' → zx_N 16 a_upTo' ut' →
        ∀ x1 : Int32, x1 = nI i + 1 → wX_augmentOnce_6 post n x1 f_outer f_inner f_n f_k f_maxSize f_barred f_stackSize' f_eventA' f_eventB' f_eventDelta' a_weight a_key a_slotMask a_slotValue a_bestMate a_bestWeight a_partner' a_dual' a_top' a_members' a_base' a_label' a_upFrom' a_upTo' a_head' a_next' a_nextFrom' a_nextTo' a_stack' := by
      intro tp' bs' uf' ut' nx' nf' nt' du' lb' ms' rg' lam' f_s' f_a' f_b' f_d' a_partner' a_dual' a_top' a_members' a_base' a_label' a_upFrom' a_upTo' a_head' a_next' a_nextFrom' a_nextTo' a_stack' n1 n2 n3 n4 n5 n6 n7 n8 n9 n10
      have h0 := zf_mu_0 (tp := tp') (bs := bs') (lb := lb') (rg := rg')
      obtain ⟨m', rfl⟩ : ∃ k, m = k + 1 := ⟨m - 1, by omega⟩
      refine nm_r (nI_1 i) (ih m' (by omega) (i + 1) n tp' bs' uf' ut' nx' nf' nt' du' lb' ms' rg' lam' (3 * G) f_s' f_a' f_b' f_d' _ _ _ _ _ _ _ _ _ _ _ _ _ (by omega) (by omega) (by omega) n2 n3 n4 n5 n6 (by omega) ?_ n7 n8 n9 n10)
      have e : G * zb_w (m' + 1) = 3 * G * zb_w m' := by
        show G * (3 * zb_w m') = _
        rw [← Int.mul_assoc, Int.mul_comm G 3]
      rw [← e]; exact hGm
    refine pk_le 64 i (fun z => absurd z (by omega)) (fun _ => ?_)
    refine zx_find hE hT hL hD ht16 (fun u v e => ⟨(hk u v e).1, by have := (hk u v e).2; omega, by have := (hk u v e).2; omega⟩) (fun u v e h1 h2 h3 => ?_) (fun b hb1 hb2 hl => (iD.2.2.1 b (hal b hb1 (by omega))).1) ?_
    · have q := iD.1 u v e
      rw [hsl du u v h3] at q
      have qk := (hk u v e).2
      obtain ⟨e1, e2, _, e4, e5⟩ := hG.1 u v e
      have d1 := hdu u e1 e4
      have d2 := hdu v e2 e5
      omega
    intro eA eB eD hEv
    rcases hEv with ⟨rfl, hno⟩ | ⟨a, b, d, rfl, ha16, rfl, ed, hc, hmin⟩
    · refine br_f zx_m1ge (K0 _ _ _ _ _ _ _ _ _ _ _ _ _ _ _ _ _ (fun N hN => ?_))
      refine zi_none hG iA iT iL iM iD iF iFD (fun u v e h1 h2 => ?_) (fun b hb hl => ?_) hN
      · by_cases q : tp u = tp v
        · exact q
        · obtain ⟨e1, e2, _⟩ := hG.1 u v e
          exact absurd (Or.inl ⟨e1, e2, by omega, e, h1, h2, q, rfl⟩) (hno u v _)
      · have := zt_al_iff.mp hb
        exact absurd (Or.inr ⟨this.1, this.2.1, rfl, hl, rfl⟩) (hno b zn_N _)
    · have hd : 0 ≤ d ∧ d ≤ 12000000000 - 2 * lam := by
        rcases hc with ⟨q1, q2, _, e, h1, h2, h3, q⟩ | ⟨q1, q2, _, hl, q⟩
        · have s := iD.1 a b e
          rw [hsl du a b h3] at s
          have qk := (hk a b e).2
          obtain ⟨_, _, _, e4, e5⟩ := hG.1 a b e
          have d1 := hdu a q1 e4
          have d2 := hdu b q2 e5
          by_cases w : lb (tp b) = 1
          · rw [if_pos w] at q; omega
          · rw [if_neg w] at q; omega
        · have s := bd2 a (hal a q1 (by omega))
          omega
      obtain ⟨hd0, hd1⟩ := hd
      have c1 : ∀ u v, E u v → lb (tp u) = 1 → lb (tp v) = 0 → d ≤ zd_sl ky du (zt_al rg) ms u v := fun u v e h1 h2 => by
        have h3 : tp u ≠ tp v := fun z => by rw [z, h2] at h1; omega
        obtain ⟨e1, e2, _⟩ := hG.1 u v e
        rw [hsl du u v h3]
        exact hmin u v _ (Or.inl ⟨e1, e2, by omega, e, h1, by omega, h3, (if_neg (by omega)).symm⟩)
      have c2 : ∀ u v, E u v → lb (tp u) = 1 → lb (tp v) = 1 → tp u ≠ tp v → 2 * d ≤ zd_sl ky du (zt_al rg) ms u v := fun u v e h1 h2 h3 => by
        obtain ⟨e1, e2, _⟩ := hG.1 u v e
        rw [hsl du u v h3]
        have := hmin u v _ (Or.inl ⟨e1, e2, by omega, e, h1, by omega, h3, (if_pos h2).symm⟩)
        omega
      have c3 : ∀ b, zt_al rg b = true → lb b = -1 → 2 * d ≤ du b := fun b hb hl => by
        have q := zt_al_iff.mp hb
        have := hmin b zn_N _ (Or.inr ⟨q.1, q.2.1, rfl, hl, rfl⟩)
        omega
      obtain ⟨iD', iFD'⟩ := zi_move hG iA iT iL iM iD iF iFD hd0 c1 c2 c3
      have hI' : zi_I E ky act mt0 tp bs uf ut nx nf nt (zi_mv tp lb du d) lb ms rg (lam - d) := ⟨iA, iT, iL, iM, iD', ⟨rk, iF⟩, iFD'⟩
      have hna' : ∀ v, v < 10 → ¬ act v = true → zi_mv tp lb du d v = 2000000000 := fun v hv hn => by
        have h0 : lb (tp v) = 0 := by
          by_cases q : lb (tp v) = 0
          · exact q
          · exact absurd (zi_lact hG iA iT iL iM iF hv q) hn
        have e : zi_mv tp lb du d v = du v - lb (tp v) * d := if_pos hv
        rw [e, h0, hna v hv hn]; omega
      have hr : ∀ x, x < 16 → -9223372036854775808 ≤ zi_mv tp lb du d x ∧ zi_mv tp lb du d x < 9223372036854775808 := fun x hx => by
        rcases Nat.lt_or_ge x 10 with q | q
        · by_cases ha : act x = true
          · have e : zi_mv tp lb du d x = du x - lb (tp x) * d := if_pos q
            have := hdu x q ha
            rw [e]
            rcases iF.1 (tp x) with w | w | w <;> rw [w] <;> omega
          · rw [hna' x q ha]; omega
        · have e : zi_mv tp lb du d x = du x + 2 * lb x * d := if_neg (by omega)
          rw [e]
          by_cases w : lb x = 0
          · rw [w]
            have := zx_l64 (hD x hx)
            omega
          · have := bd2 x (hal x q w)
            rcases iF.1 x with y | y | y <;> rw [y] <;> omega
      refine br_t (nI_pos' (by omega)) (zx_move hT hL hD ht16 iF.1 ed hd0 (by omega) hr (fun a_dual' hD' => ?_))
      rcases hc with ⟨q1, q2, _, e, h1, h2, h3, q⟩ | ⟨q1, q2, rfl, hl, q⟩
      · refine br_t (nI_pos' (by omega)) ⟨vp_in_nI q2 (by omega), ?_⟩
        rw [nI_clamp (n := b) (by omega), hT b q2, zx_cl (ht16 b q2)]
        refine ⟨vp_in_nI (ht16 b q2) (by omega), ?_⟩
        have hlb := hL (tp b) (ht16 b q2)
        have e0 : a_label (tp b) = 0 ↔ lb (tp b) = 0 := by rw [← Int32.toInt_inj, hlb]; exact Iff.rfl
        have hsl' : zd_sl ky (zi_mv tp lb du d) (zt_al rg) ms a b = du a + du b - 2 * ky a b - (lb (tp a) + lb (tp b)) * d := by
          rw [zi_sldiff iA iT iF d q1 q2 (hG.1 a b e).2.2.1, if_neg h3, hsl du a b h3]
        refine br_c (fun w => ?_) (fun w => ?_)
        · have w' := e0.mp w
          rw [h1, w'] at hsl'
          rw [if_neg (by omega)] at q
          refine zx_grow hG hI' e h1 w' (by rw [hsl']; omega) hP hB hT hL hUf hUt ?_
          intro uf' ut' lb' a_label' a_upFrom' a_upTo' r1 r2 r3 r4 r5
          exact next tp bs uf' ut' nx nf nt _ lb' ms rg _ _ _ _ _ _ _ _ _ _ _ _ _ _ _ _ _ _ r2 r1 hV hna' (by omega) (by omega) ⟨hP, hD', hT, hM, hB, hH, hN, hNf, hNt⟩ r3 r4 r5
        · have w' : lb (tp b) = 1 := by
            rcases iF.1 (tp b) with y | y | y
            · exact absurd (e0.mpr y) w
            · exact y
            · exact absurd y h2
          rw [h1, w'] at hsl'
          rw [if_pos w'] at q
          have p1 := iFD.2 a q1 (by omega)
          have p2 := iFD.2 b q2 (by omega)
          refine zx_join hG hI' hV e h1 w' h3 (by rw [hsl']; omega) hP hD' hT hM hB hL hUf hUt hH hN hNf hNt ?_ ?_
          · intro bs' mt' rg' f_s' a_partner' a_base' a_head' a_stack' r1 r2 r3 r4 r5 r6 r7 r8 r9 r10 r11
            refine br_f (by decide) (K1 mt' tp bs' nx nf nt _ ms rg' (lam - d) _ _ _ _ _ _ _ _ _ _ _ _ _ _ _ _ _ ⟨r1, r2, r3, r4, r5, r8, hna', ?_, by omega⟩ ⟨r9, hD', hT, hM, r10, r11, hN, hNf, hNt⟩ r6)
            have k1 := zm_Kb (ky := ky) (K := 2000000000) (by omega) (fun u v e => (hk u v e).2) r4.1
            have k2 := zm_Kb (ky := ky) (K := 2000000000) (by omega) (fun u v e => (hk u v e).2) iM.1
            omega
          · intro tp' bs' uf' ut' nx' nf' nt' du' lb' ms' rg' a_dual2 a_top' a_members' a_base' a_label' a_upFrom' a_upTo' a_head' a_next' a_nextFrom' a_nextTo' r1 r2 r3 r4 r5 r6 r7 r8 r9 r10 r11 r12 r13 r14 r15
            exact br_t rfl (next tp' bs' uf' ut' nx' nf' nt' du' lb' ms' rg' _ _ _ _ _ _ _ _ _ _ _ _ _ _ _ _ _ _ r2 r1 r3 (fun v hv hn => by rw [r4 v hv]; exact hna' v hv hn) (by omega) (by omega) ⟨hP, r8, r5, r6, r7, r12, r13, r14, r15⟩ r9 r10 r11)
      · have ha := hal a q1 (by omega)
        have ev := (iD.2.2.1 a ha).2
        have hz : zi_mv tp lb du d a = 0 := by
          have e : zi_mv tp lb du d a = du a + 2 * lb a * d := if_neg (by omega)
          rw [e, hl]; omega
        rw [zn_eq]
        refine br_f zx_m1ge (zx_open hG hI' ha hl hz hT hM hL hUf hUt hH hN hNf hNt ?_)
        intro tp' uf' ut' lb' a_top' a_label' a_upFrom' a_upTo' a_head' r1 r2 r3 r4 r5 r6 r7
        have q3 := zt_al_iff.mp ha
        exact next tp' bs uf' ut' nx nf nt _ lb' ms _ _ _ _ _ _ _ _ _ _ _ _ _ _ _ _ _ _ _ r2 r1 (zx_Vu hV q3.1 q3.2.1) hna' (by omega) (by omega) ⟨hP, hD', r3, hM, hB, r7, hN, hNf, hNt⟩ r4 r5 r6
end
end
section
/-! the graph with keys; refresh -/
def zk_f : Nat → Int
  | 0 => 1
  | n + 1 => ((n + 1 : Nat) : Int) * zk_f n
def zk_p (u v : Nat) : Int := if u < v then (10 - (v : Int)) * zk_f (9 - u) else (10 - (u : Int)) * zk_f (9 - v)
def zk_y (w : Nat → Nat → Int) (u v : Nat) : Int := w u v * 3628800 + zk_p u v
def zk_E (p : Nat → Nat → Bool) (ex : Nat) (u v : Nat) : Prop := p u v = true ∧ u ≠ ex ∧ v ≠ ex
def zk_act (nn ex : Nat) (v : Nat) : Bool := decide (v < nn) && decide (v ≠ ex)
def zk_G (nn : Nat) (p : Nat → Nat → Bool) (w : Nat → Nat → Int) : Prop :=
  2 ≤ nn ∧ nn ≤ 10 ∧ (∀ u v, p u v = true → u < nn ∧ v < nn ∧ u ≠ v ∧ -500 ≤ w u v ∧ w u v ≤ 500) ∧ (∀ u v, p u v = p v u) ∧ (∀ u v, w u v = w v u)
def zk_X (p : Nat → Nat → Bool) (w : Nat → Nat → Int) (a_weight : Nat → Int32) (a_key : Nat → Int64) : Prop :=
  ∀ u v, u < 10 → v < 10 → (p u v = true → (a_weight (u * 10 + v)).toInt = w u v ∧ (a_key (u * 10 + v)).toInt = zk_y w u v) ∧ (¬ p u v = true → a_weight (u * 10 + v) = -100000)
theorem zk_pb : ∀ u, u < 10 → ∀ v, v < 10 → 0 ≤ zk_p u v ∧ zk_p u v ≤ 3628800 := by decide +kernel
theorem zk_ps (u v : Nat) : zk_p u v = zk_p v u := by
  unfold zk_p
  rcases Nat.lt_trichotomy u v with q | q | q
  · rw [if_pos q, if_neg (by omega)]
  · subst q; rfl
  · rw [if_neg (by omega), if_pos q]
theorem zk_zxG {nn ex : Nat} {p : Nat → Nat → Bool} {w : Nat → Nat → Int} {f_n f_barred : Int32} {a_weight : Nat → Int32} {a_key : Nat → Int64} (hG : zk_G nn p w) (hX : zk_X p w a_weight a_key) (hn : f_n = nI nn) (hb : f_barred = nI ex) (hex : ex < 10 ∨ ex = zn_N) :
    zx_G (zk_E p ex) (zk_y w) (zk_act nn ex) f_n f_barred a_weight a_key := by
  obtain ⟨_, g2, g3, g4, g5⟩ := hG
  have hbar : ∀ v, v < 10 → (¬ nI v = f_barred ↔ v ≠ ex) := fun v hv => by
    rw [hb]
    rcases hex with q | q
    · rw [nI_eq (by omega) (by omega)]
    · rw [q, zn_eq]
      have h1 : ¬ nI v = -1 := fun z => by
        have := nI_pos' (n := v) (by omega)
        rw [z] at this
        exact zx_m1ge this
      have h2 : v ≠ zn_N := fun z => by rw [z] at hv; exact absurd hv (by decide)
      exact ⟨fun _ => h2, fun _ => h1⟩
  refine ⟨⟨?_, ?_, ?_⟩, ⟨nn, g2, hn, ?_⟩, ?_, ?_⟩
  · rintro u v ⟨e1, e2, e3⟩
    obtain ⟨h1, h2, h3, _⟩ := g3 u v e1
    refine ⟨by omega, by omega, h3, ?_, ?_⟩
    · simp [zk_act, h1, e2]
    · simp [zk_act, h2, e3]
  · rintro u v ⟨e1, e2, e3⟩
    exact ⟨by rw [g4]; exact e1, e3, e2⟩
  · intro u v
    unfold zk_y
    rw [g5 u v, zk_ps u v]
  · intro v hv
    rw [hbar v hv]
    simp [zk_act]
  · intro u v hu hv
    rw [hbar u hu, hbar v hv]
    unfold zk_E
    have h := hX u v hu hv
    by_cases q : p u v = true
    · obtain ⟨h1, h2⟩ := h.1 q
      have : ¬ a_weight (u * 10 + v) = -100000 := fun z => by
        rw [z, show (-100000 : Int32).toInt = -100000 from by decide] at h1
        have := (g3 u v q).2.2.2
        omega
      exact ⟨fun z => ⟨this, z.2⟩, fun z => ⟨q, z.2⟩⟩
    · exact ⟨fun z => absurd z.1 q, fun z => absurd (h.2 q) z.1⟩
  · rintro u v ⟨e1, e2, e3⟩
    obtain ⟨h1, h2, h3, h4, h5⟩ := g3 u v e1
    have h := (hX u v (by omega) (by omega)).1 e1
    have hp := zk_pb u (by omega) v (by omega)
    refine ⟨h.2, ?_, ?_⟩ <;> unfold zk_y <;> omega
def zm_W (w : Nat → Nat → Int) (m : Nat → Nat) : Int := zs_S (fun v => if v < m v then w v (m v) else 0) 10
def zk_B (p : Nat → Nat → Bool) (w : Nat → Nat → Int) (ex : Nat) (m : Nat → Nat) : Prop := zm_M (zk_E p ex) m ∧ ∀ N, zm_M (zk_E p ex) N → zm_cov N = zm_cov m → zm_K (zk_y w) N ≤ zm_K (zk_y w) m
def zk_row (p : Nat → Nat → Bool) (w : Nat → Nat → Int) (j : Nat) (a_bestMate a_bestWeight : Nat → Int32) : Prop :=
  ∃ m, zk_B p w zn_N m ∧ zm_cov m = 2 * (j : Int) ∧ (∀ v, v < 10 → a_bestMate (j * 10 + v) = if m v = v then -1 else nI (m v)) ∧ (a_bestWeight j).toInt = zm_W w m
theorem zi_SB {p : Nat → Nat → Bool} {w : Nat → Nat → Int} {nn ex : Nat} {mt tp bs nx nf nt : Nat → Nat} {du : Nat → Int} {ms : Nat → Nat → Bool} {rg : Nat → List Nat} {lam : Int} (hG : zi_G (zk_E p ex) (zk_y w) (zk_act nn ex))
    (h : zi_S (zk_E p ex) (zk_y w) (zk_act nn ex) mt tp bs nx nf nt du ms rg lam) : zk_B p w ex mt := by
  obtain ⟨iA, iT, iL, iM, iD, _⟩ := h
  refine ⟨iM.1, fun N hN hc => ?_⟩
  have := zi_main hG iA iM iD hN
  rw [hc, show zm_cov mt - zm_cov mt = 0 by omega, Int.mul_zero] at this
  omega
theorem zm_cov_nn (m : Nat → Nat) : 0 ≤ zm_cov m ∧ zm_cov m ≤ 10 := by
  refine ⟨zs_nn 10 (fun v _ => by split <;> omega), ?_⟩
  have : zm_cov m ≤ zs_S (fun _ => 1) 10 := zs_le 10 (fun v _ => by split <;> omega)
  exact this
section
variable {f_outer f_inner f_n f_k f_maxSize f_barred f_stackSize f_eventA f_eventB : Int32} {f_eventDelta : Int64} {a_weight : Nat → Int32} {a_key : Nat → Int64} {a_slotMask a_slotValue a_bestMate a_bestWeight a_partner : Nat → Int32} {a_dual : Nat → Int64} {a_top a_members a_base a_label a_upFrom a_upTo a_head a_next a_nextFrom a_nextTo a_stack : Nat → Int32}
theorem zx_augment {post : Int32 → SX → Prop} {E : Nat → Nat → Prop} {ky : Nat → Nat → Int} {act : Nat → Bool} {mt tp bs nx nf nt : Nat → Nat} {du : Nat → Int} {ms : Nat → Nat → Bool} {rg : Nat → List Nat} {lam : Int} (hX : zx_G E ky act f_n f_barred a_weight a_key)
    (hS : zi_S E ky act mt tp bs nx nf nt du ms rg lam) (hR : zx_RS mt tp bs nx nf nt du ms rg a_partner a_dual a_top a_members a_base a_head a_next a_nextFrom a_nextTo)
    (K0 : ∀ (f_stackSize' f_eventA' f_eventB' : Int32) (f_eventDelta' : Int64) (a_partner' : Nat → Int32) (a_dual' : Nat → Int64) (a_top' a_members' a_base' a_label' a_upFrom' a_upTo' a_head' a_next' a_nextFrom' a_nextTo' a_stack' : Nat → Int32), (∀ N, zm_M E N → zm_cov N ≤ zm_cov mt) →
      post 0 (f_outer, f_inner, f_n, f_k, f_maxSize, f_barred, f_stackSize', f_eventA', f_eventB', f_eventDelta', a_weight, a_key, a_slotMask, a_slotValue, a_bestMate, a_bestWeight, a_partner', a_dual', a_top', a_members', a_base', a_label', a_upFrom', a_upTo', a_head', a_next', a_nextFrom', a_nextTo', a_stack'))
    (K1 : ∀ (mt' tp bs nx nf nt : Nat → Nat) (du : Nat → Int) (ms : Nat → Nat → Bool) (rg : Nat → List Nat) (lam : Int) (f_stackSize' f_eventA' f_eventB' : Int32) (f_eventDelta' : Int64) (a_partner' : Nat → Int32) (a_dual' : Nat → Int64) (a_top' a_members' a_base' a_label' a_upFrom' a_upTo' a_head' a_next' a_nextFrom' a_nextTo' a_stack' : Nat → Int32),
      zi_S E ky act mt' tp bs nx nf nt du ms rg lam → zx_RS mt' tp bs nx nf nt du ms rg a_partner' a_dual' a_top' a_members' a_base' a_head' a_next' a_nextFrom' a_nextTo' → zm_cov mt' = zm_cov mt + 2 →
      post 1 (f_outer, f_inner, f_n, f_k, f_maxSize, f_barred, f_stackSize', f_eventA', f_eventB', f_eventDelta', a_weight, a_key, a_slotMask, a_slotValue, a_bestMate, a_bestWeight, a_partner', a_dual', a_top', a_members', a_base', a_label', a_upFrom', a_upTo', a_head', a_next', a_nextFrom', a_nextTo', a_stack')) :
    wpX_augmentOnce post (f_outer, f_inner, f_n, f_k, f_maxSize, f_barred, f_stackSize, f_eventA, f_eventB, f_eventDelta, a_weight, a_key, a_slotMask, a_slotValue, a_bestMate, a_bestWeight, a_partner, a_dual, a_top, a_members, a_base, a_label, a_upFrom, a_upTo, a_head, a_next, a_nextFrom, a_nextTo, a_stack) := by
  have hX' := hX
  obtain ⟨hG, ⟨nn, hnn, hfn, hact⟩, _⟩ := hX'
  obtain ⟨iA, iT, iL, iM, iD, hV, hna, hl1, hl2⟩ := hS
  have hR' := hR
  obtain ⟨hP, hD, hT, _⟩ := hR'
  obtain ⟨uf, hUf⟩ := zx_Nex 16 a_upFrom
  obtain ⟨ut, hUt⟩ := zx_Nex 16 a_upTo
  unfold wpX_augmentOnce
  dsimp only
  refine zx_plant hfn hnn hact (fun v hv => (iM.1 v hv).1) (fun v hv => zt_lv16 (zt_tlv iT hv)) (fun v u hv hu h1 h2 e => ?_) hP hT hUf hUt ?_
  · rw [zi_bsfree iA iT iM hv h1, zi_bsfree iA iT iM hu h2, e]
  · intro uf' ut' lb' a_label' a_upFrom' a_upTo' p1 p2 p3 r1 r2 r3
    obtain ⟨iF, iFD⟩ := zi_plant hG iA iT iM iD p1 p2 p3
    exact ⟨17, zx_aug6 hX K0 K1 16 0 17 tp bs uf' ut' nx nf nt du lb' ms rg lam 26000000000 _ _ _ _ _ _ _ _ _ _ _ _ _ _ _ _ _ zf_mu_16 (by omega) (by omega) ⟨iA, iT, iL, iM, iD, ⟨_, iF⟩, iFD⟩ hV hna (by omega) hl2 (by omega) (by decide +kernel) hR r1 r2 r3⟩
theorem zx_mweight {post : Int32 → Prop} {p : Nat → Nat → Bool} {w : Nat → Nat → Int} {nn ex : Nat} {mt : Nat → Nat} (hG : zk_G nn p w) (hX : zk_X p w a_weight a_key) (hM : zm_M (zk_E p ex) mt) (hP : zx_P a_partner mt) (K : ∀ r : Int32, r.toInt = zm_W w mt → post r) : wpX_matchedWeight post (f_outer, f_inner, f_n, f_k, f_maxSize, f_barred, f_stackSize, f_eventA, f_eventB, f_eventDelta, a_weight, a_key, a_slotMask, a_slotValue, a_bestMate, a_bestWeight, a_partner, a_dual, a_top, a_members, a_base, a_label, a_upFrom, a_upTo, a_head, a_next, a_nextFrom, a_nextTo, a_stack) := by
  obtain ⟨_, g2, g3, g4, g5⟩ := hG
  have loop : ∀ d i, i + d = 10 → ∀ x : Int32, x.toInt = zs_S (fun v => if v < mt v then w v (mt v) else 0) i → (-500 * (i : Int) ≤ x.toInt ∧ x.toInt ≤ 500 * (i : Int)) → wX_matchedWeight_4 post f_outer f_inner f_n f_k f_maxSize f_barred f_stackSize f_eventA f_eventB f_eventDelta a_weight a_key a_slotMask a_slotValue a_bestMate a_bestWeight a_partner a_dual a_top a_members a_base a_label a_upFrom a_upTo a_head a_next a_nextFrom a_nextTo a_stack (d + 1) x (nI i) := by
    intro d
    induction d with
    | zero =>
      intro i hi x hx _
      obtain rfl : i = 10 := by omega
      exact pk_le 10 10 (fun _ => K x hx) (fun z => absurd z (by omega))
    | succ d ih =>
      intro i hi x hx hb
      have hi10 : i < 10 := by omega
      have hii := vp_in_nI (N := 10) hi10 (by omega)
      obtain ⟨m1, m2, m3⟩ := hM i hi10
      refine pk_le 10 i (fun z => absurd z (by omega)) (fun _ => ⟨hii, ?_⟩)
      rw [nI_clamp (n := i) (by omega), hP i hi10]
      have hsum : zs_S (fun v => if v < mt v then w v (mt v) else 0) (i + 1) = zs_S (fun v => if v < mt v then w v (mt v) else 0) i + (if i < mt i then w i (mt i) else 0) := rfl
      by_cases q : i < mt i
      · have hne : mt i ≠ i := by omega
        rw [if_neg hne]
        obtain ⟨e1, _⟩ := m3 hne
        have hk := (hX i (mt i) hi10 m1).1 e1
        have hwb := (g3 _ _ e1).2.2.2
        have hc : nI i * 10 + nI (mt i) = nI (i * 10 + mt i) := by
          rw [show (10 : Int32) = nI 10 from rfl, pk_mul, nI_add]
        rw [hc, nI_clamp (n := i * 10 + mt i) (by omega)]
        have hadd : (x + a_weight (i * 10 + mt i)).toInt = x.toInt + w i (mt i) := by
          rw [Int32.toInt_add, hk.1]; exact Int.bmod_eq_of_le (by omega) (by omega)
        refine br_f (nI_ge q (by omega)) ⟨hii, vp_in_nI (by omega) (by omega), nm_e (nm_r (nI_1 i) (ih (i + 1) (by omega) _ ?_ ?_))⟩
        · rw [hsum, if_pos q, hadd, hx]
        · rw [hadd]; omega
      · have e : (if mt i = i then (-1 : Int32) else nI (mt i)) ≤ nI i := by
          by_cases z : mt i = i
          · rw [if_pos z]
            exact Int32.le_trans (show (-1 : Int32) ≤ 0 by decide) (nI_pos' (by omega))
          · rw [if_neg z]; exact nI_le (by omega) (by omega)
        refine br_t e (nm_r (nI_1 i) (ih (i + 1) (by omega) x ?_ (by omega)))
        rw [hsum, if_neg q, hx]; omega
  exact ⟨11, loop 10 0 rfl 0 rfl (by decide)⟩
theorem zx_keep {post : SX → Prop} {p : Nat → Nat → Bool} {w : Nat → Nat → Int} {nn ex j : Nat} {mt : Nat → Nat} (hG : zk_G nn p w) (hX : zk_X p w a_weight a_key) (hM : zm_M (zk_E p ex) mt) (hP : zx_P a_partner mt) (hj : j < 6)
    (K : ∀ (a_bestMate' a_bestWeight' : Nat → Int32), (∀ v, v < 10 → a_bestMate' (j * 10 + v) = if mt v = v then -1 else nI (mt v)) → (a_bestWeight' j).toInt = zm_W w mt → (∀ i, i < j * 10 → a_bestMate' i = a_bestMate i) → (∀ i, i < j → a_bestWeight' i = a_bestWeight i) →
      post (f_outer, f_inner, f_n, f_k, nI j, f_barred, f_stackSize, f_eventA, f_eventB, f_eventDelta, a_weight, a_key, a_slotMask, a_slotValue, a_bestMate', a_bestWeight', a_partner, a_dual, a_top, a_members, a_base, a_label, a_upFrom, a_upTo, a_head, a_next, a_nextFrom, a_nextTo, a_stack)) : wpX_keepBest post (f_outer, f_inner, f_n, f_k, f_maxSize, f_barred, f_stackSize, f_eventA, f_eventB, f_eventDelta, a_weight, a_key, a_slotMask, a_slotValue, a_bestMate, a_bestWeight, a_partner, a_dual, a_top, a_members, a_base, a_label, a_upFrom, a_upTo, a_head, a_next, a_nextFrom, a_nextTo, a_stack) (nI j) := by
  have hji := vp_in_nI (N := 6) hj (by omega)
  have loop : ∀ d i, i + d = 10 → ∀ b_bm : Nat → Int32, (∀ v, v < i → b_bm (j * 10 + v) = if mt v = v then -1 else nI (mt v)) → (∀ x, x < j * 10 → b_bm x = a_bestMate x) → wX_keepBest_2 post (nI j) f_outer f_inner f_n f_k f_maxSize f_barred f_stackSize f_eventA f_eventB f_eventDelta (d + 1) (nI i) a_weight a_key a_slotMask a_slotValue b_bm a_bestWeight a_partner a_dual a_top a_members a_base a_label a_upFrom a_upTo a_head a_next a_nextFrom a_nextTo a_stack := by
    intro d
    induction d with
    | zero =>
      intro i hi b_bm h1 h2
      obtain rfl : i = 10 := by omega
      refine pk_le 10 10 (fun _ => ?_) (fun z => absurd z (by omega))
      refine zx_mweight hG hX hM hP (fun r hr => ⟨hji, ?_⟩)
      rw [nI_clamp (n := j) (by omega)]
      exact nm_e (K b_bm _ h1 (by rw [pk_us]; exact hr) h2 (fun x hx => pk_un (by omega)))
    | succ d ih =>
      intro i hi b_bm h1 h2
      have hi10 : i < 10 := by omega
      have hc : nI j * 10 + nI i = nI (j * 10 + i) := by
        rw [show (10 : Int32) = nI 10 from rfl, pk_mul, nI_add]
      refine pk_le 10 i (fun z => absurd z (by omega)) (fun _ => ⟨vp_in_nI hi10 (by omega), ?_⟩)
      rw [hc, nI_clamp (n := j * 10 + i) (by omega), nI_clamp (n := i) (by omega)]
      refine ⟨vp_in_nI (by omega) (by omega), nm_e (nm_r (nI_1 i) (ih (i + 1) (by omega) _ (fun v hv => ?_) (fun x hx => ?_)))⟩
      · by_cases e : v = i
        · subst e; rw [pk_us]; exact hP v hi10
        · rw [pk_un (by omega)]; exact h1 v (by omega)
      · rw [pk_un (by omega)]; exact h2 x hx
  exact ⟨11, loop 10 0 rfl a_bestMate (fun v hv => by omega) (fun _ _ => rfl)⟩
/-- after begin -/
theorem zx_beginS {p : Nat → Nat → Bool} {w : Nat → Nat → Int} {nn ex : Nat} {nx nf nt bs : Nat → Nat} {du : Nat → Int} {ms : Nat → Nat → Bool} (hX : zx_G (zk_E p ex) (zk_y w) (zk_act nn ex) f_n f_barred a_weight a_key)
    (h1 : ∀ v, v < 10 → du v = 2000000000) (h2 : ∀ v, v < 10 → bs v = v) (h3 : ∀ x, x < 10 → ∀ v, ms x v = true ↔ v = x) (h4 : ∀ x v, ms x v = true → v < 10) :
    zi_S (zk_E p ex) (zk_y w) (zk_act nn ex) (fun v => v) (fun v => v) bs nx nf nt du ms (fun _ => []) 2000000000 ∧ zm_cov (fun v => v) = 0 := by
  obtain ⟨hG, _, _, hk⟩ := hX
  obtain ⟨b1, b2, b3, b4, b5⟩ := zi_begin (mt := fun v => v) (tp := fun v => v) (nx := nx) (nf := nf) (nt := nt) (rg := fun _ => []) hG (fun u v e => (hk u v e).2.2) (fun _ _ => rfl) h3 h4 (fun _ _ => rfl) (fun _ _ => rfl) h2 h1
  refine ⟨⟨b1, b2, b3, b4, b5, fun _ _ => rfl, fun v hv _ => h1 v hv, by omega, by omega⟩, ?_⟩
  exact zs_z 10 (fun v _ => if_pos rfl)
theorem zx_refresh {post : SX → Prop} {p : Nat → Nat → Bool} {w : Nat → Nat → Int} {nn : Nat} (hG : zk_G nn p w) (hX : zk_X p w a_weight a_key) (hn : f_n = nI nn)
    (K : ∀ (ms : Nat) (f_stackSize' f_eventA' f_eventB' : Int32) (f_eventDelta' : Int64) (a_bestMate' a_bestWeight' : Nat → Int32) (a_partner' : Nat → Int32) (a_dual' : Nat → Int64) (a_top' a_members' a_base' a_label' a_upFrom' a_upTo' a_head' a_next' a_nextFrom' a_nextTo' a_stack' : Nat → Int32), ms ≤ 5 → (∀ j, j ≤ ms → zk_row p w j a_bestMate' a_bestWeight') → (∀ N, zm_M (zk_E p zn_N) N → zm_cov N ≤ 2 * (ms : Int)) →
      post (f_outer, f_inner, f_n, f_k, nI ms, -1, f_stackSize', f_eventA', f_eventB', f_eventDelta', a_weight, a_key, a_slotMask, a_slotValue, a_bestMate', a_bestWeight', a_partner', a_dual', a_top', a_members', a_base', a_label', a_upFrom', a_upTo', a_head', a_next', a_nextFrom', a_nextTo', a_stack')) :
    wpX_refresh post (f_outer, f_inner, f_n, f_k, f_maxSize, f_barred, f_stackSize, f_eventA, f_eventB, f_eventDelta, a_weight, a_key, a_slotMask, a_slotValue, a_bestMate, a_bestWeight, a_partner, a_dual, a_top, a_members, a_base, a_label, a_upFrom, a_upTo, a_head, a_next, a_nextFrom, a_nextTo, a_stack) := by
  have hXG : zx_G (zk_E p zn_N) (zk_y w) (zk_act nn zn_N) f_n (-1) a_weight a_key := zk_zxG hG hX hn zn_eq.symm (Or.inr rfl)
  have hg := hXG.1
  have rowk : ∀ (j : Nat) (mt tp bs nx nf nt : Nat → Nat) (du : Nat → Int) (ms : Nat → Nat → Bool) (rg : Nat → List Nat) (lam : Int) (bm bw bm' bw' : Nat → Int32), zi_S (zk_E p zn_N) (zk_y w) (zk_act nn zn_N) mt tp bs nx nf nt du ms rg lam → zm_cov mt = 2 * (j : Int) →
      (∀ i, i < j → zk_row p w i bm bw) → (∀ v, v < 10 → bm' (j * 10 + v) = if mt v = v then -1 else nI (mt v)) → (bw' j).toInt = zm_W w mt → (∀ i, i < j * 10 → bm' i = bm i) → (∀ i, i < j → bw' i = bw i) → ∀ i, i ≤ j → zk_row p w i bm' bw' := by
    intro j mt tp bs nx nf nt du ms rg lam bm bw bm' bw' hS hc h1 h2 h3 h4 h5 i hi
    rcases Nat.lt_or_ge i j with q | q
    · obtain ⟨m, r1, r2, r3, r4⟩ := h1 i q
      exact ⟨m, r1, r2, fun v hv => by rw [h4 _ (by omega)]; exact r3 v hv, by rw [h5 i q]; exact r4⟩
    · obtain rfl : i = j := by omega
      exact ⟨mt, zi_SB hg hS, hc, h2, h3⟩
  have loop : ∀ d j, j + d = 6 → 1 ≤ j → ∀ (mt tp bs nx nf nt : Nat → Nat) (du : Nat → Int) (ms : Nat → Nat → Bool) (rg : Nat → List Nat) (lam : Int) (f_stackSize f_eventA f_eventB : Int32) (f_eventDelta : Int64) (a_bestMate a_bestWeight : Nat → Int32) (a_partner : Nat → Int32) (a_dual : Nat → Int64) (a_top a_members a_base a_label a_upFrom a_upTo a_head a_next a_nextFrom a_nextTo a_stack : Nat → Int32),
      zi_S (zk_E p zn_N) (zk_y w) (zk_act nn zn_N) mt tp bs nx nf nt du ms rg lam → zx_RS mt tp bs nx nf nt du ms rg a_partner a_dual a_top a_members a_base a_head a_next a_nextFrom a_nextTo → zm_cov mt = 2 * ((j - 1 : Nat) : Int) → (∀ i, i ≤ j - 1 → zk_row p w i a_bestMate a_bestWeight) →
      wX_refresh_12 post (d + 1) (nI j) f_outer f_inner f_n f_k (nI (j - 1)) (-1) f_stackSize f_eventA f_eventB f_eventDelta a_weight a_key a_slotMask a_slotValue a_bestMate a_bestWeight a_partner a_dual a_top a_members a_base a_label a_upFrom a_upTo a_head a_next a_nextFrom a_nextTo a_stack := by
    intro d
    induction d with
    | zero =>
      intro j hj h1 mt tp bs nx nf nt du ms rg lam f_stackSize f_eventA f_eventB f_eventDelta a_bestMate a_bestWeight a_partner a_dual a_top a_members a_base a_label a_upFrom a_upTo a_head a_next a_nextFrom a_nextTo a_stack hS hR hc hr
      refine pk_lt 5 j (fun _ => K (j - 1) _ _ _ _ _ _ _ _ _ _ _ _ _ _ _ _ _ _ _ (by omega) hr (fun N _ => ?_)) (fun z => absurd z (by omega))
      have := (zm_cov_nn N).2
      omega
    | succ d ih =>
      intro j hj h1 mt tp bs nx nf nt du ms rg lam f_stackSize f_eventA f_eventB f_eventDelta a_bestMate a_bestWeight a_partner a_dual a_top a_members a_base a_label a_upFrom a_upTo a_head a_next a_nextFrom a_nextTo a_stack hS hR hc hr
      refine pk_lt 5 j (fun z => absurd z (by omega)) (fun _ => ?_)
      refine zx_augment hXG hS hR ?_ ?_
      · intro f_s' f_a' f_b' f_d' a1 a2 a3 a4 a5 a6 a7 a8 a9 a10 a11 a12 a13 hno
        exact br_t rfl (K (j - 1) _ _ _ _ _ _ _ _ _ _ _ _ _ _ _ _ _ _ _ (by omega) hr (fun N hN => by rw [← hc]; exact hno N hN))
      · intro mt' tp' bs' nx' nf' nt' du' ms' rg' lam' f_s' f_a' f_b' f_d' a1 a2 a3 a4 a5 a6 a7 a8 a9 a10 a11 a12 a13 hS' hR' hc'
        refine br_f (by decide) ?_
        refine zx_keep hG hX hS'.2.2.2.1.1 hR'.1 (by omega) (fun bm bw k1 k2 k3 k4 => nm_r (nI_1 j) ?_)
        have hc2 : zm_cov mt' = 2 * (j : Int) := by rw [hc', hc]; omega
        have := ih (j + 1) (by omega) (by omega) mt' tp' bs' nx' nf' nt' du' ms' rg' lam' f_s' f_a' f_b' f_d' bm bw a1 a2 a3 a4 a5 a6 a7 a8 a9 a10 a11 a12 a13 hS' hR' hc2 (rowk j mt' tp' bs' nx' nf' nt' du' ms' rg' lam' a_bestMate a_bestWeight bm bw hS' hc2 (fun i hi => hr i (by omega)) k1 k2 k3 k4)
        exact this
  unfold wpX_refresh
  dsimp only
  refine zx_begin ?_
  intro bs du ms a_dual' a_partner' a_top' a_members' a_base' a_head' r1 r2 r3 r4 r5 r6 r7 r8 r9 r10
  obtain ⟨nx, hN⟩ := zx_Nex 16 a_next
  obtain ⟨nf, hNf⟩ := zx_Nex 16 a_nextFrom
  obtain ⟨nt, hNt⟩ := zx_Nex 16 a_nextTo
  obtain ⟨hS, hc⟩ := zx_beginS (nx := nx) (nf := nf) (nt := nt) hXG r3 r6 r8 r9
  refine zx_keep (j := 0) hG hX hS.2.2.2.1.1 r1 (by omega) (fun bm bw k1 k2 k3 k4 => ⟨6, ?_⟩)
  exact loop 5 1 rfl (by omega) _ _ bs nx nf nt du ms _ _ _ _ _ _ bm bw _ _ _ _ _ _ _ _ _ _ _ _ _ hS ⟨r1, r2, r4, r7, r5, r10, hN, hNf, hNt⟩ hc (rowk 0 _ _ bs nx nf nt du ms _ _ a_bestMate a_bestWeight bm bw hS hc (fun i hi => by omega) k1 k2 k3 k4)
end
end
section
/-! matchings as rising lists of codes a * 10 + b -/
def zy_pr (c : Nat) : Int := (10 - ((c % 10 : Nat) : Int)) * zk_f (9 - c / 10)
def zy_dis (c d : Nat) : Prop := c / 10 ≠ d / 10 ∧ c / 10 ≠ d % 10 ∧ c % 10 ≠ d / 10 ∧ c % 10 ≠ d % 10
def zy_ok (T : List Nat) : Prop := T.Pairwise (fun c d => c < d ∧ zy_dis c d) ∧ ∀ c, c ∈ T → c / 10 < c % 10
theorem zk_f1 : ∀ n, 1 ≤ zk_f n := by
  intro n
  induction n with
  | zero => exact Int.le_refl _
  | succ n ih =>
    show 1 ≤ ((n + 1 : Nat) : Int) * zk_f n
    have := Int.mul_le_mul_of_nonneg_right (show (1 : Int) ≤ ((n + 1 : Nat) : Int) by omega) (show 0 ≤ zk_f n by omega)
    omega
theorem zk_fs (n : Nat) : zk_f n ≤ zk_f (n + 1) := by
  show zk_f n ≤ ((n + 1 : Nat) : Int) * zk_f n
  have h1 := zk_f1 n
  have := Int.mul_le_mul_of_nonneg_right (show (1 : Int) ≤ ((n + 1 : Nat) : Int) by omega) (show 0 ≤ zk_f n by omega)
  omega
theorem zk_fm {a b : Nat} (h : a ≤ b) : zk_f a ≤ zk_f b := by
  induction h with
  | refl => exact Int.le_refl _
  | step _ ih => exact Int.le_trans ih (zk_fs _)
theorem zy_pr1 {c : Nat} (h : c / 10 < c % 10) : 1 ≤ zy_pr c := by
  unfold zy_pr
  have h1 := zk_f1 (9 - c / 10)
  have := Int.mul_le_mul_of_nonneg_right (show (1 : Int) ≤ 10 - ((c % 10 : Nat) : Int) by omega) (show 0 ≤ zk_f (9 - c / 10) by omega)
  omega
theorem zy_prk {c : Nat} (h : c / 10 < c % 10) : zk_p (c / 10) (c % 10) = zy_pr c := if_pos h
theorem zy_tail {c : Nat} {X : List Nat} (h : zy_ok (c :: X)) : zy_ok X ∧ ∀ d, d ∈ X → c / 10 + 1 ≤ d / 10 ∧ c < d ∧ zy_dis c d := by
  obtain ⟨h1, h2⟩ := h
  rw [List.pairwise_cons] at h1
  refine ⟨⟨h1.2, fun d hd => h2 d (by simp [hd])⟩, fun d hd => ?_⟩
  obtain ⟨q1, q2⟩ := h1.1 d hd
  have : c / 10 ≤ d / 10 := Nat.div_le_div_right (by omega)
  have := q2.1
  exact ⟨by omega, q1, q2⟩
theorem zy_p1 : ∀ (X : List Nat) (lo : Nat), zy_ok X → lo ≤ 10 → (∀ c, c ∈ X → lo ≤ c / 10) → 0 ≤ zl_sum zy_pr X ∧ zl_sum zy_pr X ≤ zk_f (10 - lo) - 1 := by
  intro X
  induction X with
  | nil =>
    intro lo _ _ _
    have := zk_f1 (10 - lo)
    exact ⟨Int.le_refl _, by show (0 : Int) ≤ _; omega⟩
  | cons c X ih =>
    intro lo h hlo hl
    obtain ⟨t1, t2⟩ := zy_tail h
    have hc := h.2 c (by simp)
    have hcl := hl c (by simp)
    have i := ih (c / 10 + 1) t1 (by omega) (fun d hd => (t2 d hd).1)
    have hF := zk_f1 (9 - c / 10)
    have e1 : 10 - (c / 10 + 1) = 9 - c / 10 := by omega
    rw [e1] at i
    have e2 : zk_f (10 - c / 10) = ((10 - c / 10 : Nat) : Int) * zk_f (9 - c / 10) := by
      rw [show 10 - c / 10 = (9 - c / 10) + 1 by omega]; rfl
    have m1 : zk_f (10 - c / 10) ≤ zk_f (10 - lo) := zk_fm (by omega)
    have m2 : (10 - ((c % 10 : Nat) : Int) + 1) * zk_f (9 - c / 10) ≤ ((10 - c / 10 : Nat) : Int) * zk_f (9 - c / 10) := Int.mul_le_mul_of_nonneg_right (by omega) (by omega)
    have m3 : (10 - ((c % 10 : Nat) : Int) + 1) * zk_f (9 - c / 10) = zy_pr c + zk_f (9 - c / 10) := by
      unfold zy_pr; rw [Int.add_mul]; omega
    have p1 := zy_pr1 hc
    show 0 ≤ zy_pr c + zl_sum zy_pr X ∧ zy_pr c + zl_sum zy_pr X ≤ _
    omega
theorem zy_p10 {X : List Nat} (h : zy_ok X) : 0 ≤ zl_sum zy_pr X ∧ zl_sum zy_pr X < 3628800 := by
  have := zy_p1 X 0 h (by omega) (fun c _ => by omega)
  have e : zk_f (10 - 0) = 3628800 := by decide +kernel
  rw [e] at this
  omega
theorem zy_p2 {e : Nat} {X : List Nat} (he : e / 10 < e % 10) (h : zy_ok X) (hX : ∀ c, c ∈ X → e < c) : zl_sum zy_pr X < zy_pr e := by
  have hF := zk_f1 (9 - e / 10)
  cases X with
  | nil => have := zy_pr1 he; show (0 : Int) < _; omega
  | cons c X =>
    obtain ⟨t1, t2⟩ := zy_tail h
    have hc := h.2 c (by simp)
    have hec := hX c (by simp)
    have i := (zy_p1 X (c / 10 + 1) t1 (by omega) (fun d hd => (t2 d hd).1)).2
    have e1 : 10 - (c / 10 + 1) = 9 - c / 10 := by omega
    rw [e1] at i
    show zy_pr c + zl_sum zy_pr X < zy_pr e
    by_cases q : c / 10 = e / 10
    · have hb : e % 10 < c % 10 := by omega
      have m2 : (10 - ((c % 10 : Nat) : Int) + 1) * zk_f (9 - c / 10) ≤ (10 - ((e % 10 : Nat) : Int)) * zk_f (9 - c / 10) := Int.mul_le_mul_of_nonneg_right (by omega) (by rw [q]; omega)
      have m3 : (10 - ((c % 10 : Nat) : Int) + 1) * zk_f (9 - c / 10) = zy_pr c + zk_f (9 - c / 10) := by
        unfold zy_pr; rw [Int.add_mul]; omega
      have m4 : (10 - ((e % 10 : Nat) : Int)) * zk_f (9 - c / 10) = zy_pr e := by unfold zy_pr; rw [q]
      omega
    · have hlt : e / 10 < c / 10 := by
        have : e / 10 ≤ c / 10 := Nat.div_le_div_right (by omega)
        omega
      have := (zy_p1 (c :: X) (e / 10 + 1) h (by omega) (fun d hd => by
        rcases List.mem_cons.mp hd with w | w
        · rw [w]; omega
        · have := (t2 d w).1; omega)).2
      rw [show 10 - (e / 10 + 1) = 9 - e / 10 by omega] at this
      have p : zk_f (9 - e / 10) ≤ zy_pr e := by
        unfold zy_pr
        have := Int.mul_le_mul_of_nonneg_right (show (1 : Int) ≤ 10 - ((e % 10 : Nat) : Int) by omega) (show 0 ≤ zk_f (9 - e / 10) by omega)
        omega
      have this' : zy_pr c + zl_sum zy_pr X ≤ zk_f (9 - e / 10) - 1 := this
      omega
theorem zy_p3 : ∀ (T T' : List Nat), zy_ok T → zy_ok T' → zl_sum zy_pr T = zl_sum zy_pr T' → T = T' := by
  intro T
  induction T with
  | nil =>
    intro T' _ h' e
    cases T' with
    | nil => rfl
    | cons c X =>
      have h1 := zy_pr1 (h'.2 c (by simp))
      have h2 := (zy_p10 (zy_tail h').1).1
      have e' : (0 : Int) = zy_pr c + zl_sum zy_pr X := e
      omega
  | cons c X ih =>
    intro T' h h' e
    cases T' with
    | nil =>
      have h1 := zy_pr1 (h.2 c (by simp))
      have h2 := (zy_p10 (zy_tail h).1).1
      have e' : zy_pr c + zl_sum zy_pr X = 0 := e
      omega
    | cons c' X' =>
      obtain ⟨t1, t2⟩ := zy_tail h
      obtain ⟨u1, u2⟩ := zy_tail h'
      have e' : zy_pr c + zl_sum zy_pr X = zy_pr c' + zl_sum zy_pr X' := e
      have n1 := (zy_p10 t1).1
      have n2 := (zy_p10 u1).1
      rcases Nat.lt_trichotomy c c' with q | q | q
      · have := zy_p2 (h.2 c (by simp)) h' (fun d hd => by
          rcases List.mem_cons.mp hd with w | w
          · rw [w]; exact q
          · have := (u2 d w).2.1; omega)
        have this' : zy_pr c' + zl_sum zy_pr X' < zy_pr c := this
        omega
      · subst q
        rw [ih X' t1 u1 (by omega)]
      · have := zy_p2 (h'.2 c' (by simp)) h (fun d hd => by
          rcases List.mem_cons.mp hd with w | w
          · rw [w]; exact q
          · have := (t2 d w).2.1; omega)
        have this' : zy_pr c + zl_sum zy_pr X < zy_pr c' := this
        omega
/-! the involution of a list -/
def zy_m : List Nat → Nat → Nat
  | [] => fun v => v
  | c :: T => zu_U (zu_U (zy_m T) (c / 10) (c % 10)) (c % 10) (c / 10)
theorem zy_m1 : ∀ (T : List Nat) (v : Nat), (∀ c, c ∈ T → v ≠ c / 10 ∧ v ≠ c % 10) → zy_m T v = v := by
  intro T
  induction T with
  | nil => intro v _; rfl
  | cons c T ih =>
    intro v h
    obtain ⟨h1, h2⟩ := h c (by simp)
    show zu_U (zu_U (zy_m T) (c / 10) (c % 10)) (c % 10) (c / 10) v = v
    rw [zu_n h2, zu_n h1]
    exact ih v (fun d hd => h d (by simp [hd]))
theorem zy_m2 : ∀ (T : List Nat), zy_ok T → ∀ c, c ∈ T → zy_m T (c / 10) = c % 10 ∧ zy_m T (c % 10) = c / 10 := by
  intro T
  induction T with
  | nil => intro _ c hc; simp at hc
  | cons d T ih =>
    intro h c hc
    obtain ⟨t1, t2⟩ := zy_tail h
    have hd := h.2 d (by simp)
    show zu_U (zu_U (zy_m T) (d / 10) (d % 10)) (d % 10) (d / 10) (c / 10) = c % 10 ∧ zu_U (zu_U (zy_m T) (d / 10) (d % 10)) (d % 10) (d / 10) (c % 10) = c / 10
    rcases List.mem_cons.mp hc with e | hc
    · subst e
      rw [zu_n (show c / 10 ≠ c % 10 by omega), zu_s, zu_s]
      exact ⟨rfl, rfl⟩
    · obtain ⟨_, _, q1, q2, q3, q4⟩ := t2 c hc
      rw [zu_n (fun z => q3 z.symm), zu_n (fun z => q1 z.symm), zu_n (fun z => q4 z.symm), zu_n (fun z => q2 z.symm)]
      exact ih t1 c hc
theorem zy_m3 {E : Nat → Nat → Prop} (hs : ∀ u v, E u v → E v u) {T : List Nat} (h : zy_ok T) (hE : ∀ c, c ∈ T → E (c / 10) (c % 10)) : zm_M E (zy_m T) := by
  intro v hv
  by_cases q : ∃ c, c ∈ T ∧ (v = c / 10 ∨ v = c % 10)
  · obtain ⟨c, hc, e⟩ := q
    obtain ⟨m1, m2⟩ := zy_m2 T h c hc
    have hcv := h.2 c hc
    rcases e with e | e
    · rw [e, m1, m2]
      exact ⟨by omega, rfl, fun _ => hE c hc⟩
    · rw [e, m2, m1]
      exact ⟨by omega, rfl, fun _ => hs _ _ (hE c hc)⟩
  · have e := zy_m1 T v (fun c hc => ⟨fun z => q ⟨c, hc, Or.inl z⟩, fun z => q ⟨c, hc, Or.inr z⟩⟩)
    rw [e, e]
    exact ⟨hv, rfl, fun z => absurd rfl z⟩
theorem zy_m4 (f : Nat → Nat → Int) : ∀ (T : List Nat), zy_ok T → zm_W f (zy_m T) = zl_sum (fun c => f (c / 10) (c % 10)) T := by
  intro T
  induction T with
  | nil =>
    intro _
    exact zs_z 10 (fun v _ => if_neg (by show ¬ v < v; omega))
  | cons c T ih =>
    intro h
    obtain ⟨t1, t2⟩ := zy_tail h
    have hc := h.2 c (by simp)
    have ea : zy_m T (c / 10) = c / 10 := zy_m1 T _ (fun d hd => by obtain ⟨_, _, q1, q2, q3, q4⟩ := t2 d hd; exact ⟨q1, q2⟩)
    have eb : zy_m T (c % 10) = c % 10 := zy_m1 T _ (fun d hd => by obtain ⟨_, _, q1, q2, q3, q4⟩ := t2 d hd; exact ⟨q3, q4⟩)
    show zm_W f (zu_U (zu_U (zy_m T) (c / 10) (c % 10)) (c % 10) (c / 10)) = f (c / 10) (c % 10) + zl_sum (fun c => f (c / 10) (c % 10)) T
    rw [← ih t1]
    unfold zm_W
    have key : zs_S (fun v => if v < zu_U (zu_U (zy_m T) (c / 10) (c % 10)) (c % 10) (c / 10) v then f v (zu_U (zu_U (zy_m T) (c / 10) (c % 10)) (c % 10) (c / 10) v) else 0) 10 =
        zs_S (fun v => (if v = c / 10 then f (c / 10) (c % 10) else 0) + (if v < zy_m T v then f v (zy_m T v) else 0)) 10 := by
      apply zs_congr
      intro v _
      by_cases e1 : v = c % 10
      · rw [e1, zu_s, eb, if_neg (by omega), if_neg (by omega), if_neg (by omega)]; rfl
      · rw [zu_n e1]
        by_cases e2 : v = c / 10
        · rw [e2, zu_s, ea, if_pos hc, if_pos rfl, if_neg (by omega)]; omega
        · rw [zu_n e2, if_neg e2]; omega
    rw [key, zs_add, zs_one _ 10 (by omega)]
/-- the rising list of an involution -/
def zy_t (m : Nat → Nat) : List Nat := (List.range 100).filter (fun c => decide (c / 10 < c % 10) && (m (c / 10) == c % 10))
theorem zy_t_mem {m : Nat → Nat} {c : Nat} : c ∈ zy_t m ↔ c < 100 ∧ c / 10 < c % 10 ∧ m (c / 10) = c % 10 := by
  unfold zy_t
  rw [List.mem_filter, List.mem_range]
  simp
theorem zy_t_ok {E : Nat → Nat → Prop} {m : Nat → Nat} (h : zm_M E m) : zy_ok (zy_t m) := by
  refine ⟨?_, fun c hc => (zy_t_mem.mp hc).2.1⟩
  have hs : (zy_t m).Pairwise (fun c d => c < d) := List.Pairwise.filter _ List.pairwise_lt_range
  refine List.Pairwise.imp_of_mem ?_ hs
  intro c d hc hd hlt
  obtain ⟨_, c2, c3⟩ := zy_t_mem.mp hc
  obtain ⟨_, d2, d3⟩ := zy_t_mem.mp hd
  have mc := (h (c / 10) (by omega)).2.1
  have md := (h (d / 10) (by omega)).2.1
  rw [c3] at mc
  rw [d3] at md
  refine ⟨hlt, fun z => ?_, fun z => ?_, fun z => ?_, fun z => ?_⟩
  · rw [z, d3] at c3; omega
  · rw [z, md] at c3; omega
  · rw [z, d3] at mc; omega
  · rw [z, md] at mc; omega
theorem zy_tm {E : Nat → Nat → Prop} {m : Nat → Nat} (h : zm_M E m) : ∀ v, v < 10 → zy_m (zy_t m) v = m v := by
  intro v hv
  obtain ⟨m1, m2, _⟩ := h v hv
  have two := zy_m2 (zy_t m) (zy_t_ok h)
  rcases Nat.lt_trichotomy v (m v) with q | q | q
  · have e1 : (v * 10 + m v) / 10 = v := by omega
    have e2 : (v * 10 + m v) % 10 = m v := by omega
    have := (two (v * 10 + m v) (zy_t_mem.mpr ⟨by omega, by rw [e1, e2]; exact q, by rw [e1, e2]⟩)).1
    rw [e1, e2] at this
    exact this
  · rw [← q]
    apply zy_m1
    intro c hc
    obtain ⟨_, c2, c3⟩ := zy_t_mem.mp hc
    have mc := (h (c / 10) (by omega)).2.1
    rw [c3] at mc
    refine ⟨fun z => ?_, fun z => ?_⟩
    · rw [← z, ← q] at c3; omega
    · rw [← z, ← q] at mc; omega
  · have e1 : (m v * 10 + v) / 10 = m v := by omega
    have e2 : (m v * 10 + v) % 10 = v := by omega
    have := (two (m v * 10 + v) (zy_t_mem.mpr ⟨by omega, by rw [e1, e2]; exact q, by rw [e1, e2]; exact m2⟩)).2
    rw [e1, e2] at this
    exact this
theorem zm_Wc (f : Nat → Nat → Int) {m m' : Nat → Nat} (h : ∀ v, v < 10 → m v = m' v) : zm_W f m = zm_W f m' := by
  apply zs_congr
  intro v hv
  rw [h v hv]
theorem zm_Kc (f : Nat → Nat → Int) {m m' : Nat → Nat} (h : ∀ v, v < 10 → m v = m' v) : zm_K f m = zm_K f m' := by
  apply zs_congr
  intro v hv
  rw [h v hv]
theorem zm_covc {m m' : Nat → Nat} (h : ∀ v, v < 10 → m v = m' v) : zm_cov m = zm_cov m' := by
  apply zs_congr
  intro v hv
  rw [h v hv]
theorem zm_KW {E : Nat → Nat → Prop} {m : Nat → Nat} (h : zm_M E m) (f : Nat → Nat → Int) (hf : ∀ u v, f u v = f v u) : zm_K f m = 2 * zm_W f m := by
  have e1 : zm_K f m = zs_S (fun v => (if v < m v then f v (m v) else 0) + (if m v < v then f v (m v) else 0)) 10 := by
    apply zs_congr
    intro v _
    rcases Nat.lt_trichotomy v (m v) with q | q | q
    · rw [if_neg (by omega), if_pos q, if_neg (by omega)]; omega
    · rw [if_pos q.symm, if_neg (by omega), if_neg (by omega)]; rfl
    · rw [if_neg (by omega), if_neg (by omega), if_pos q]; omega
  have e2 : zs_S (fun v => if m v < v then f v (m v) else 0) 10 = zs_S (fun v => if v < m v then f v (m v) else 0) 10 := by
    rw [← zs_inv (p := m) (fun v => if v < m v then f v (m v) else 0) 10 (fun i hi => ⟨(h i hi).1, (h i hi).2.1⟩)]
    apply zs_congr
    intro v hv
    show _ = if m v < m (m v) then f (m v) (m (m v)) else 0
    rw [(h v hv).2.1, hf v (m v)]
  rw [e1, zs_add, e2]
  unfold zm_W
  omega
theorem zm_covW {E : Nat → Nat → Prop} {m : Nat → Nat} (h : zm_M E m) : zm_cov m = 2 * zm_W (fun _ _ => 1) m := by
  rw [← zm_KW h (fun _ _ => 1) (fun _ _ => rfl)]
  rfl
theorem zm_Wlin (w : Nat → Nat → Int) (m : Nat → Nat) : zm_W (zk_y w) m = 3628800 * zm_W w m + zm_W zk_p m := by
  unfold zm_W
  rw [← zs_mul, ← zs_add]
  apply zs_congr
  intro v _
  show (if v < m v then zk_y w v (m v) else 0) = 3628800 * (if v < m v then w v (m v) else 0) + (if v < m v then zk_p v (m v) else 0)
  by_cases q : v < m v
  · rw [if_pos q, if_pos q, if_pos q]; unfold zk_y; omega
  · rw [if_neg q, if_neg q, if_neg q]; rfl
theorem zy_len (T : List Nat) : zl_sum (fun _ => 1) T = (T.length : Int) := by
  induction T with
  | nil => rfl
  | cons c T ih =>
    show 1 + zl_sum (fun _ => 1) T = ((T.length + 1 : Nat) : Int)
    rw [ih]; omega
theorem zl_sum_c {f g : Nat → Int} : ∀ T : List Nat, (∀ c, c ∈ T → f c = g c) → zl_sum f T = zl_sum g T := by
  intro T
  induction T with
  | nil => intro _; rfl
  | cons c T ih =>
    intro h
    show f c + zl_sum f T = g c + zl_sum g T
    rw [h c (by simp), ih (fun d hd => h d (by simp [hd]))]
/-- the key of a list -/
def zy_key (w : Nat → Nat → Int) (T : List Nat) : Int := 3628800 * zl_sum (fun c => w (c / 10) (c % 10)) T + zl_sum zy_pr T
theorem zy_keyK {E : Nat → Nat → Prop} {w : Nat → Nat → Int} (hw : ∀ u v, w u v = w v u) {T : List Nat} (h : zy_ok T) (hM : zm_M E (zy_m T)) : zm_K (zk_y w) (zy_m T) = 2 * zy_key w T := by
  rw [zm_KW hM _ (fun u v => by unfold zk_y; rw [hw, zk_ps]), zm_Wlin, zy_m4 w T h, zy_m4 zk_p T h]
  unfold zy_key
  rw [zl_sum_c T (fun c hc => zy_prk (h.2 c hc))]
theorem zy_covT {E : Nat → Nat → Prop} {T : List Nat} (h : zy_ok T) (hM : zm_M E (zy_m T)) : zm_cov (zy_m T) = 2 * (T.length : Int) := by
  rw [zm_covW hM, zy_m4 _ T h, zy_len]
theorem zk_ar {A B a b : Int} (e : 2 * (3628800 * A + a) = 2 * (3628800 * B + b)) (ha : 0 ≤ a ∧ a < 3628800) (hb : 0 ≤ b ∧ b < 3628800) : a = b := by omega
/-- one key, one matching -/
theorem zk_uniq {E E' : Nat → Nat → Prop} {w : Nat → Nat → Int} (hw : ∀ u v, w u v = w v u) {m m' : Nat → Nat} (h : zm_M E m) (h' : zm_M E' m') (e : zm_K (zk_y w) m = zm_K (zk_y w) m') : ∀ v, v < 10 → m v = m' v := by
  have sy : ∀ u v, zk_y w u v = zk_y w v u := fun u v => by unfold zk_y; rw [hw, zk_ps]
  rw [zm_KW h _ sy, zm_KW h' _ sy, zm_Wlin, zm_Wlin, ← zm_Wc w (zy_tm h), ← zm_Wc w (zy_tm h'), ← zm_Wc zk_p (zy_tm h), ← zm_Wc zk_p (zy_tm h'), zy_m4 w _ (zy_t_ok h), zy_m4 w _ (zy_t_ok h'), zy_m4 zk_p _ (zy_t_ok h), zy_m4 zk_p _ (zy_t_ok h'),
    zl_sum_c (zy_t m) (fun c hc => zy_prk ((zy_t_ok h).2 c hc)), zl_sum_c (zy_t m') (fun c hc => zy_prk ((zy_t_ok h').2 c hc))] at e
  have b1 := zy_p10 (zy_t_ok h)
  have b2 := zy_p10 (zy_t_ok h')
  have e3 : zl_sum zy_pr (zy_t m) = zl_sum zy_pr (zy_t m') := zk_ar e b1 b2
  have := zy_p3 _ _ (zy_t_ok h) (zy_t_ok h') e3
  intro v hv
  rw [← zy_tm h v hv, ← zy_tm h' v hv, this]
end
section
/-! the reference's walk through all matchings -/
def zy_bits (u c : Nat) : Nat := u ||| (1 <<< (c / 10) ||| 1 <<< (c % 10))
def zy_f : List Nat → Nat → Nat
  | [], _ => 1
  | e :: Q, u => if (u.testBit (e / 10) || u.testBit (e % 10)) = true then 1 + zy_f Q u else 1 + (zy_f Q (zy_bits u e) + zy_f Q u)
theorem zy_f1 : ∀ (Q : List Nat) (u : Nat), 1 ≤ zy_f Q u := by
  intro Q u
  cases Q with
  | nil => exact Nat.le_refl _
  | cons e Q =>
    show 1 ≤ if (u.testBit (e / 10) || u.testBit (e % 10)) = true then 1 + zy_f Q u else 1 + (zy_f Q (zy_bits u e) + zy_f Q u)
    split <;> omega
theorem zy_fmono {Q Q2 : List Nat} (h : Q.Sublist Q2) : ∀ u, zy_f Q u ≤ zy_f Q2 u := by
  induction h with
  | slnil => intro u; exact Nat.le_refl _
  | cons e _ ih =>
    rename_i Q Q2 _
    intro u
    have := ih u
    show zy_f Q u ≤ if (u.testBit (e / 10) || u.testBit (e % 10)) = true then 1 + zy_f Q2 u else 1 + (zy_f Q2 (zy_bits u e) + zy_f Q2 u)
    split <;> omega
  | cons_cons e _ ih =>
    rename_i Q Q2 _
    intro u
    have h1 := ih u
    have h2 := ih (zy_bits u e)
    show (if (u.testBit (e / 10) || u.testBit (e % 10)) = true then 1 + zy_f Q u else 1 + (zy_f Q (zy_bits u e) + zy_f Q u)) ≤ if (u.testBit (e / 10) || u.testBit (e % 10)) = true then 1 + zy_f Q2 u else 1 + (zy_f Q2 (zy_bits u e) + zy_f Q2 u)
    split <;> omega
def zy_full : List Nat := (List.range 100).filter (fun c => decide (c / 10 < c % 10))
theorem zy_ffull : zy_f zy_full 0 ≤ 500000 := by decide +kernel
def zy_mask (S : List Nat) : Nat := S.foldl zy_bits 0
theorem zy_mask_app (S : List Nat) (e : Nat) : zy_mask (S ++ [e]) = zy_bits (zy_mask S) e := by
  unfold zy_mask
  rw [List.foldl_append]
  rfl
theorem zy_mask_bit : ∀ (S : List Nat) (u v : Nat), (S.foldl zy_bits u).testBit v = true ↔ (u.testBit v = true ∨ ∃ c, c ∈ S ∧ (v = c / 10 ∨ v = c % 10)) := by
  intro S
  induction S with
  | nil => intro u v; simp
  | cons c S ih =>
    intro u v
    rw [List.foldl_cons, ih]
    unfold zy_bits
    rw [Nat.testBit_or, Nat.testBit_or, Nat.one_shiftLeft, Nat.one_shiftLeft, Nat.testBit_two_pow, Nat.testBit_two_pow]
    simp only [Bool.or_eq_true, decide_eq_true_eq, List.mem_cons]
    constructor
    · rintro ((q | q | q) | ⟨d, hd, q⟩)
      · exact Or.inl q
      · exact Or.inr ⟨c, Or.inl rfl, Or.inl q.symm⟩
      · exact Or.inr ⟨c, Or.inl rfl, Or.inr q.symm⟩
      · exact Or.inr ⟨d, Or.inr hd, q⟩
    · rintro (q | ⟨d, hd | hd, q⟩)
      · exact Or.inl (Or.inl q)
      · subst hd
        rcases q with q | q
        · exact Or.inl (Or.inr (Or.inl q.symm))
        · exact Or.inl (Or.inr (Or.inr q.symm))
      · exact Or.inr ⟨d, hd, q⟩
def zy_free (S : List Nat) (e : Nat) : Prop := ∀ c, c ∈ S → zy_dis c e
theorem zy_free_iff {S : List Nat} {e : Nat} : ¬ ((zy_mask S).testBit (e / 10) || (zy_mask S).testBit (e % 10)) = true ↔ zy_free S e := by
  rw [Bool.or_eq_true]
  unfold zy_mask
  rw [zy_mask_bit, zy_mask_bit]
  simp only [Nat.zero_testBit, Bool.false_eq_true, false_or]
  constructor
  · intro h c hc
    refine ⟨fun z => h (Or.inl ⟨c, hc, Or.inl z.symm⟩), fun z => h (Or.inr ⟨c, hc, Or.inl z.symm⟩), fun z => h (Or.inl ⟨c, hc, Or.inr z.symm⟩), fun z => h (Or.inr ⟨c, hc, Or.inr z.symm⟩)⟩
  · rintro h (⟨c, hc, z | z⟩ | ⟨c, hc, z | z⟩)
    · exact (h c hc).1 z.symm
    · exact (h c hc).2.2.1 z.symm
    · exact (h c hc).2.1 z.symm
    · exact (h c hc).2.2.2 z.symm
def zy_wt (w : Nat → Nat → Int) (T : List Nat) : Int := zl_sum (fun c => w (c / 10) (c % 10)) T
def zy_upd (w : Nat → Nat → Int) (bo : Option (List Nat)) (T : List Nat) : Option (List Nat) :=
  match bo with
  | none => some T
  | some M => if zy_wt w T ≤ zy_wt w M then some M else some T
def zy_ext (size : Nat) (S Q T : List Nat) : Prop := ∃ X, X.Sublist Q ∧ T = S ++ X ∧ T.length = size ∧ zy_ok T
def zy_cond (size : Nat) (bo : Option (List Nat)) (S Q : List Nat) : Prop := ∀ M, bo = some M → zy_ok M ∧ ∀ T, zy_ext size S Q T → zl_sum zy_pr T < zl_sum zy_pr M
def zy_spec (w : Nat → Nat → Int) (size : Nat) (S Q : List Nat) (bo bo' : Option (List Nat)) : Prop :=
  (bo' = bo ∨ ∃ T, bo' = some T ∧ zy_ext size S Q T) ∧ (∀ T, zy_ext size S Q T → ∃ M, bo' = some M ∧ zy_key w T ≤ zy_key w M) ∧ (∀ M, bo = some M → ∃ M', bo' = some M' ∧ zy_key w M ≤ zy_key w M')
theorem zy_upd_ok {w : Nat → Nat → Int} {bo : Option (List Nat)} {T : List Nat} (hT : zy_ok T) (hc : ∀ M, bo = some M → zy_ok M ∧ zl_sum zy_pr T < zl_sum zy_pr M) :
    (zy_upd w bo T = bo ∨ zy_upd w bo T = some T) ∧ (∃ M, zy_upd w bo T = some M ∧ zy_key w T ≤ zy_key w M) ∧ (∀ M, bo = some M → ∃ M', zy_upd w bo T = some M' ∧ zy_key w M ≤ zy_key w M') := by
  cases bo with
  | none => exact ⟨Or.inr rfl, ⟨T, rfl, Int.le_refl _⟩, fun M h => by simp at h⟩
  | some M =>
    obtain ⟨hM, hlt⟩ := hc M rfl
    have b1 := zy_p10 hT
    have b2 := zy_p10 hM
    have e1 : zy_key w T = 3628800 * zy_wt w T + zl_sum zy_pr T := rfl
    have e2 : zy_key w M = 3628800 * zy_wt w M + zl_sum zy_pr M := rfl
    by_cases q : zy_wt w T ≤ zy_wt w M
    · have e : zy_upd w (some M) T = some M := if_pos q
      rw [e]
      refine ⟨Or.inl rfl, ⟨M, rfl, ?_⟩, fun M' h => ⟨M, rfl, ?_⟩⟩
      · omega
      · obtain rfl := Option.some.inj h; exact Int.le_refl _
    · have e : zy_upd w (some M) T = some T := if_neg q
      rw [e]
      refine ⟨Or.inr rfl, ⟨T, rfl, Int.le_refl _⟩, fun M' h => ⟨T, rfl, ?_⟩⟩
      obtain rfl := Option.some.inj h
      omega
theorem zy_ok_app {S X : List Nat} (h : zy_ok (S ++ X)) : zy_ok X ∧ ∀ c e, c ∈ S → e ∈ X → zy_dis c e := by
  obtain ⟨h1, h2⟩ := h
  have := List.pairwise_append.mp h1
  exact ⟨⟨this.2.1, fun c hc => h2 c (by simp [hc])⟩, fun c e hc he => (this.2.2 c hc e he).2⟩
theorem zy_sum_nn {T : List Nat} (h : ∀ c, c ∈ T → c / 10 < c % 10) : 0 ≤ zl_sum zy_pr T := by
  induction T with
  | nil => exact Int.le_refl _
  | cons c T ih =>
    have := ih (fun d hd => h d (by simp [hd]))
    have := zy_pr1 (h c (by simp))
    show 0 ≤ zy_pr c + zl_sum zy_pr T
    omega
theorem zy_run {WL : List Nat → List Nat → Option (List Nat) → Nat → Prop} {L : List Nat} {size : Nat} {w : Nat → Nat → Int} (hLs : L.Pairwise (fun c d => c < d)) (hLv : ∀ c, c ∈ L → c / 10 < c % 10)
    (hskip : ∀ S e Q bo t, S.length < size → (∃ P, L = P ++ e :: Q) → ¬ zy_free S e → t < 500000 → WL S Q bo (t + 1) → WL S (e :: Q) bo t)
    (hpush : ∀ S e Q bo t, S.length + 1 < size → (∃ P, L = P ++ e :: Q) → zy_free S e → t < 500000 → WL (S ++ [e]) Q bo (t + 1) → WL S (e :: Q) bo t)
    (hlast : ∀ S e Q bo t, S.length + 1 = size → (∃ P, L = P ++ e :: Q) → zy_free S e → t < 500000 → WL (S ++ [e]) Q (zy_upd w bo (S ++ [e])) (t + 1) → WL S (e :: Q) bo t)
    (hpop : ∀ S e Q Q0 P bo t, L = P ++ e :: Q0 → (S.length + 1 = size ∨ Q = []) → S.length + 1 ≤ size → t < 500000 → (∀ c, c ∈ S → zy_dis c e) → WL S Q0 bo (t + 1) → WL (S ++ [e]) Q bo t) :
    ∀ (Q S : List Nat) (bo : Option (List Nat)) (t : Nat), (∃ P, L = P ++ Q) → zy_ok S → (∀ c, c ∈ S → ∀ e, e ∈ Q → c < e) → S.length < size → t + zy_f Q (zy_mask S) ≤ 500000 → zy_cond size bo S Q →
      (∀ bo' t', t' + 1 ≤ t + zy_f Q (zy_mask S) → zy_spec w size S Q bo bo' → WL S [] bo' t') → WL S Q bo t := by
  intro Q
  induction Q with
  | nil =>
    intro S bo t _ hS _ hl ht _ K
    refine K bo t (Nat.le_refl _) ⟨Or.inl rfl, fun T hT => ?_, fun M hM => ⟨M, hM, Int.le_refl _⟩⟩
    obtain ⟨X, hX, e, hlen, _⟩ := hT
    rw [List.sublist_nil] at hX
    subst hX e
    simp at hlen
    omega
  | cons e Q ih =>
    intro S bo t hP hS hSQ hl ht hc K
    have hP' : ∃ P, L = P ++ Q := by
      obtain ⟨P, hP⟩ := hP
      exact ⟨P ++ [e], by rw [hP]; simp⟩
    have heQ : ∀ c, c ∈ Q → e < c := fun c hc => by
      obtain ⟨P, hP⟩ := hP
      rw [hP] at hLs
      have := (List.pairwise_append.mp hLs).2.1
      exact (List.pairwise_cons.mp this).1 c hc
    have hev : e / 10 < e % 10 := hLv e (by obtain ⟨P, hP⟩ := hP; rw [hP]; simp)
    have hSQ' : ∀ c, c ∈ S → ∀ d, d ∈ Q → c < d := fun c hc d hd => hSQ c hc d (by simp [hd])
    have subext : ∀ T, zy_ext size S Q T → zy_ext size S (e :: Q) T := fun T ⟨X, h1, h2, h3, h4⟩ => ⟨X, h1.cons e, h2, h3, h4⟩
    have ht0 : t < 500000 := by have := zy_f1 (e :: Q) (zy_mask S); omega
    -- later matchings have smaller ranks
    have later : ∀ T, zy_ext size S Q T → zl_sum zy_pr T < zl_sum zy_pr (S ++ [e]) := fun T ⟨X, h1, h2, h3, h4⟩ => by
      subst h2
      rw [zl_sum_app, zl_sum_app]
      have := zy_p2 hev (zy_ok_app h4).1 (fun c hc => heQ c (h1.subset hc))
      have e1 : zl_sum zy_pr [e] = zy_pr e := by show zy_pr e + 0 = _; omega
      omega
    by_cases q : zy_free S e
    · have ff : zy_f (e :: Q) (zy_mask S) = 1 + (zy_f Q (zy_mask (S ++ [e])) + zy_f Q (zy_mask S)) := by
        rw [zy_mask_app]
        exact if_neg (zy_free_iff.mpr q)
      rw [ff] at ht K
      have f1 := zy_f1 Q (zy_mask (S ++ [e]))
      have f2 := zy_f1 Q (zy_mask S)
      have okSe : zy_ok (S ++ [e]) := by
        refine ⟨List.pairwise_append.mpr ⟨hS.1, by simp, fun c hcS d hd => ?_⟩, fun c hc => ?_⟩
        · simp at hd
          rw [hd]
          exact ⟨hSQ c hcS e (by simp), q c hcS⟩
        · rcases List.mem_append.mp hc with w' | w'
          · exact hS.2 c w'
          · simp at w'; rw [w']; exact hev
      obtain ⟨P, hPe⟩ := hP
      by_cases ls : S.length + 1 = size
      · have exSe : zy_ext size S (e :: Q) (S ++ [e]) := ⟨[e], by simp, rfl, by simp; exact ls, okSe⟩
        obtain ⟨u1, ⟨M1, u2, u3⟩, u4⟩ := zy_upd_ok (w := w) okSe (fun M hM => ⟨(hc M hM).1, (hc M hM).2 _ exSe⟩)
        refine hlast S e Q bo t ls ⟨P, hPe⟩ q ht0 ?_
        refine hpop S e Q Q P _ (t + 1) hPe (Or.inl ls) (by omega) (by omega) q ?_
        refine ih S _ (t + 1 + 1) hP' hS hSQ' hl (by omega) ?_ ?_
        · intro M hM
          rcases u1 with u1 | u1
          · rw [u1] at hM
            exact ⟨(hc M hM).1, fun T hT => (hc M hM).2 T (subext T hT)⟩
          · rw [u1] at hM
            obtain rfl := Option.some.inj hM
            exact ⟨okSe, later⟩
        · intro bo' t' ht' hsp
          obtain ⟨s1, s2, s3⟩ := hsp
          refine K bo' t' (by omega) ⟨?_, ?_, ?_⟩
          · rcases s1 with s1 | ⟨T, s1, s1'⟩
            · rw [s1]
              rcases u1 with u1 | u1
              · exact Or.inl u1
              · exact Or.inr ⟨_, u1, exSe⟩
            · exact Or.inr ⟨T, s1, subext T s1'⟩
          · intro T hT
            obtain ⟨X, h1, h2, h3, h4⟩ := hT
            rcases List.sublist_cons_iff.mp h1 with h1 | ⟨X', rfl, h1⟩
            · exact s2 T ⟨X, h1, h2, h3, h4⟩
            · have : X' = [] := by
                subst h2
                simp at h3
                exact List.length_eq_zero_iff.mp (by omega)
              subst this h2
              obtain ⟨M', m1, m2⟩ := s3 M1 u2
              exact ⟨M', m1, Int.le_trans u3 m2⟩
          · intro M hM
            obtain ⟨M2, m1, m2⟩ := u4 M hM
            obtain ⟨M3, m3, m4⟩ := s3 M2 m1
            exact ⟨M3, m3, Int.le_trans m2 m4⟩
      · have exsub : ∀ T, zy_ext size (S ++ [e]) Q T → zy_ext size S (e :: Q) T := fun T ⟨X, h1, h2, h3, h4⟩ => ⟨e :: X, h1.cons_cons e, by rw [h2]; simp, h3, h4⟩
        refine hpush S e Q bo t (by omega) ⟨P, hPe⟩ q ht0 ?_
        refine ih (S ++ [e]) bo (t + 1) hP' okSe (fun c hc d hd => ?_) (by simp; omega) (by omega) (fun M hM => ⟨(hc M hM).1, fun T hT => (hc M hM).2 T (exsub T hT)⟩) ?_
        · rcases List.mem_append.mp hc with w' | w'
          · exact hSQ' c w' d hd
          · simp at w'; rw [w']; exact heQ d hd
        · intro bo1 t1 ht1 hsp1
          obtain ⟨r1, r2, r3⟩ := hsp1
          refine hpop S e [] Q P bo1 t1 hPe (Or.inr rfl) (by omega) (by omega) q ?_
          refine ih S bo1 (t1 + 1) hP' hS hSQ' hl (by omega) ?_ ?_
          · intro M hM
            rcases r1 with r1 | ⟨T1, r1, r1'⟩
            · rw [r1] at hM
              exact ⟨(hc M hM).1, fun T hT => (hc M hM).2 T (subext T hT)⟩
            · rw [r1] at hM
              obtain rfl := Option.some.inj hM
              obtain ⟨X, h1, h2, h3, h4⟩ := r1'
              refine ⟨h4, fun T hT => ?_⟩
              have a := later T hT
              subst h2
              rw [zl_sum_app]
              have b := zy_sum_nn (zy_ok_app h4).1.2
              omega
          · intro bo' t' ht' hsp
            obtain ⟨s1, s2, s3⟩ := hsp
            refine K bo' t' (by omega) ⟨?_, ?_, ?_⟩
            · rcases s1 with s1 | ⟨T, s1, s1'⟩
              · rw [s1]
                rcases r1 with r1 | ⟨T1, r1, r1'⟩
                · exact Or.inl r1
                · exact Or.inr ⟨T1, r1, exsub T1 r1'⟩
              · exact Or.inr ⟨T, s1, subext T s1'⟩
            · intro T hT
              obtain ⟨X, h1, h2, h3, h4⟩ := hT
              rcases List.sublist_cons_iff.mp h1 with h1' | ⟨X', hX', h1'⟩
              · exact s2 T ⟨X, h1', h2, h3, h4⟩
              · obtain ⟨M1, m1, m2⟩ := r2 T ⟨X', h1', by rw [h2, hX']; simp, h3, h4⟩
                obtain ⟨M2, m3, m4⟩ := s3 M1 m1
                exact ⟨M2, m3, Int.le_trans m2 m4⟩
            · intro M hM
              obtain ⟨M2, m1, m2⟩ := r3 M hM
              obtain ⟨M3, m3, m4⟩ := s3 M2 m1
              exact ⟨M3, m3, Int.le_trans m2 m4⟩
    · have ff : zy_f (e :: Q) (zy_mask S) = 1 + zy_f Q (zy_mask S) := by
        refine if_pos ?_
        by_cases z : ((zy_mask S).testBit (e / 10) || (zy_mask S).testBit (e % 10)) = true
        · exact z
        · exact absurd (zy_free_iff.mp z) q
      rw [ff] at ht K
      have exeq : ∀ T, zy_ext size S (e :: Q) T → zy_ext size S Q T := fun T ⟨X, h1, h2, h3, h4⟩ => by
        rcases List.sublist_cons_iff.mp h1 with h1 | ⟨X', rfl, h1⟩
        · exact ⟨X, h1, h2, h3, h4⟩
        · exfalso
          subst h2
          exact q (fun c hc => (zy_ok_app h4).2 c e hc (by simp))
      refine hskip S e Q bo t hl hP q ht0 ?_
      refine ih S bo (t + 1) hP' hS hSQ' hl (by omega) (fun M hM => ⟨(hc M hM).1, fun T hT => (hc M hM).2 T (subext T hT)⟩) ?_
      intro bo' t' ht' hsp
      obtain ⟨s1, s2, s3⟩ := hsp
      refine K bo' t' (by omega) ⟨?_, fun T hT => s2 T (exeq T hT), s3⟩
      rcases s1 with s1 | ⟨T, s1, s1'⟩
      · exact Or.inl s1
      · exact Or.inr ⟨T, s1, subext T s1'⟩
end
section
/-! the walk of the reference's search -/
def zy_best (w : Nat → Nat → Int) (bo : Option (List Nat)) (x : Int32) : Prop :=
  match bo with
  | none => x = -100000
  | some M => x.toInt = zy_wt w M
def zy_Us (nn : Nat) (S : List Nat) (a : Nat → Int32) : Prop := ∀ v, v < nn → a v = if (zy_mask S).testBit v = true then 1 else 0
def zy_St (L S : List Nat) (a : Nat → Int32) : Prop := ∀ j c, S[j]? = some c → ∃ q, a j = nI q ∧ L[q]? = some c
def zy_Ch (bo : Option (List Nat)) (a : Nat → Int32) : Prop := ∀ M, bo = some M → ∀ j c, M[j]? = some c → a j = nI c
theorem zy_StL {L S : List Nat} {a : Nat → Int32} (h : zy_St L S a) {c : Nat} (hc : c ∈ S) : c ∈ L := by
  obtain ⟨j, hj⟩ := List.mem_iff_getElem?.mp hc
  obtain ⟨q, _, hq⟩ := h j c hj
  exact List.mem_iff_getElem?.mpr ⟨q, hq⟩
theorem zy_wtb {w : Nat → Nat → Int} : ∀ S : List Nat, (∀ c, c ∈ S → -500 ≤ w (c / 10) (c % 10) ∧ w (c / 10) (c % 10) ≤ 500) → -500 * (S.length : Int) ≤ zy_wt w S ∧ zy_wt w S ≤ 500 * (S.length : Int) := by
  intro S
  induction S with
  | nil => intro _; exact ⟨Int.le_refl _, Int.le_refl _⟩
  | cons c S ih =>
    intro h
    have h1 := h c (by simp)
    have h2 := ih (fun d hd => h d (by simp [hd]))
    show -500 * ((S.length + 1 : Nat) : Int) ≤ w (c / 10) (c % 10) + zy_wt w S ∧ w (c / 10) (c % 10) + zy_wt w S ≤ 500 * ((S.length + 1 : Nat) : Int)
    omega
theorem zy_wta {w : Nat → Nat → Int} (S : List Nat) (e : Nat) : zy_wt w (S ++ [e]) = zy_wt w S + w (e / 10) (e % 10) := by
  unfold zy_wt
  rw [zl_sum_app]
  show _ + (w (e / 10) (e % 10) + 0) = _
  omega
theorem zy_n10 {c : Nat} (h : c < 100) : nI c / 10 = nI (c / 10) ∧ nI c - nI c / 10 * 10 = nI (c % 10) :=
  ⟨pk_div (a := c) (d := 10) (by omega) (by omega) (by omega), pk_rem (a := c) (d := 10) (by omega) (by omega) (by omega)⟩
theorem zy_b1 : vp_nar .boolean 1 = 1 := rfl
theorem zy_b0 : vp_nar .boolean 0 = 0 := rfl
section
variable {y_n y_k : Int32} {b_present b_weight b_masks b_values b_list b_used b_stack b_chosen : Nat → Int32}
variable {L : List Nat} {nn size : Nat} {w : Nat → Nat → Int}
def zy_WL (post : Int32 → SY → Prop) (y_n y_k : Int32) (b_present b_weight b_masks b_values b_list : Nat → Int32) (L : List Nat) (nn size : Nat) (w : Nat → Nat → Int) (S Q : List Nat) (bo : Option (List Nat)) (t : Nat) : Prop :=
  ∀ (n : Nat) (x4 x7 : Int32) (b_used b_stack b_chosen : Nat → Int32), 500001 ≤ n + t → zy_best w bo x4 → x7.toInt = zy_wt w S → zy_Us nn S b_used → zy_St L S b_stack → zy_Ch bo b_chosen →
    wY_search_128 post (nI size) (nI L.length) y_n y_k n x4 (nI S.length) (nI (L.length - Q.length)) x7 (nI t) b_present b_weight b_masks b_values b_list b_used b_stack b_chosen
theorem zy_copy {post : Int32 → SY → Prop} {J : Int32 → Int32 → Int32 → Int32 → Int32 → (Nat → Int32) → (Nat → Int32) → (Nat → Int32) → (Nat → Int32) → (Nat → Int32) → (Nat → Int32) → (Nat → Int32) → (Nat → Int32) → Prop} {x3 x4 x5 x6 x7 x8 : Int32} {S : List Nat} (hl : L.length ≤ 45) (hL : ∀ i c, L[i]? = some c → b_list i = nI c) (hs : S.length = size) (h5 : size ≤ 5) (hSt : zy_St L S b_stack)
    (K : ∀ b_chosen', (∀ j c, S[j]? = some c → b_chosen' j = nI c) → J x4 x5 (x6 + 1) x7 (x8 + 1) b_present b_weight b_masks b_values b_list b_used b_stack b_chosen') :
    ∀ d i, i + d = size → ∀ b_chosen, (∀ j c, j < i → S[j]? = some c → b_chosen j = nI c) → wY_search_248 post J (nI size) x3 x4 x5 x6 x7 x8 y_n y_k (d + 1) (nI i) b_present b_weight b_masks b_values b_list b_used b_stack b_chosen := by
  intro d
  induction d with
  | zero =>
    intro i hi b_chosen h
    refine pk_le size i (fun _ => nm_e (nm_e (K b_chosen (fun j c hj => h j c ?_ hj)))) (fun z => absurd z (by omega))
    rcases Nat.lt_or_ge j S.length with q | q
    · omega
    · rw [List.getElem?_eq_none q] at hj; exact absurd hj (by simp)
  | succ d ih =>
    intro i hi b_chosen h
    have hii := vp_in_nI (n := i) (N := 5) (by omega) (by omega)
    have hSi : S[i]? = some S[i] := List.getElem?_eq_getElem (by omega)
    obtain ⟨q, q1, q2⟩ := hSt i _ hSi
    have hq : q < L.length := by
      rcases Nat.lt_or_ge q L.length with z | z
      · exact z
      · rw [List.getElem?_eq_none z] at q2; exact absurd q2 (by simp)
    refine pk_le size i (fun z => absurd z (by omega)) (fun _ => ⟨hii, ?_⟩)
    rw [nI_clamp (n := i) (by omega), q1, nI_clamp (n := q) (by omega), hL q _ q2]
    refine ⟨vp_in_nI (by omega) (by omega), hii, nm_e (nm_r (nI_1 i) (ih (i + 1) (by omega) _ (fun j c hj hjc => ?_)))⟩
    by_cases e : j = i
    · subst e
      rw [hSi] at hjc
      rw [pk_us, Option.some.inj hjc]
    · rw [pk_un e]; exact h j c (by omega) hjc
theorem zy_rules {post : Int32 → SY → Prop} (hl : L.length ≤ 45) (hLs : L.Pairwise (fun c d => c < d)) (hL : ∀ i c, L[i]? = some c → b_list i = nI c) (h5 : size ≤ 5) (hnn : nn ≤ 10)
    (hLw : ∀ c, c ∈ L → (b_weight c).toInt = w (c / 10) (c % 10) ∧ (-500 ≤ w (c / 10) (c % 10) ∧ w (c / 10) (c % 10) ≤ 500) ∧ c / 10 < c % 10 ∧ c % 10 < nn) :
    (∀ S e Q bo t, S.length < size → (∃ P, L = P ++ e :: Q) → ¬ zy_free S e → t < 500000 → zy_WL post y_n y_k b_present b_weight b_masks b_values b_list L nn size w S Q bo (t + 1) → zy_WL post y_n y_k b_present b_weight b_masks b_values b_list L nn size w S (e :: Q) bo t) ∧
    (∀ S e Q bo t, S.length + 1 < size → (∃ P, L = P ++ e :: Q) → zy_free S e → t < 500000 → zy_WL post y_n y_k b_present b_weight b_masks b_values b_list L nn size w (S ++ [e]) Q bo (t + 1) → zy_WL post y_n y_k b_present b_weight b_masks b_values b_list L nn size w S (e :: Q) bo t) ∧
    (∀ S e Q bo t, S.length + 1 = size → (∃ P, L = P ++ e :: Q) → zy_free S e → t < 500000 → zy_WL post y_n y_k b_present b_weight b_masks b_values b_list L nn size w (S ++ [e]) Q (zy_upd w bo (S ++ [e])) (t + 1) → zy_WL post y_n y_k b_present b_weight b_masks b_values b_list L nn size w S (e :: Q) bo t) ∧
    (∀ S e Q Q0 P bo t, L = P ++ e :: Q0 → (S.length + 1 = size ∨ Q = []) → S.length + 1 ≤ size → t < 500000 → (∀ c, c ∈ S → zy_dis c e) → zy_WL post y_n y_k b_present b_weight b_masks b_values b_list L nn size w S Q0 bo (t + 1) → zy_WL post y_n y_k b_present b_weight b_masks b_values b_list L nn size w (S ++ [e]) Q bo t) := by
  -- the head of a turn at a code e
  have pos : ∀ (P : List Nat) (e : Nat) (Q : List Nat), L = P ++ e :: Q → L.length - (e :: Q).length = P.length ∧ L.length - Q.length = P.length + 1 ∧ P.length < L.length ∧ L[P.length]? = some e ∧ b_list P.length = nI e ∧ e ∈ L := fun P e Q h => by
    have h1 := congrArg List.length h
    simp at h1
    have h2 : L[P.length]? = some e := by rw [h]; simp
    refine ⟨by simp only [List.length_cons]; omega, by omega, by omega, h2, hL _ _ h2, ?_⟩
    rw [h]; simp
  have c100 : ∀ c, c ∈ L → c < 100 := fun c hc => by have := (hLw c hc).2.2; omega
  -- what pushing does
  have usedp : ∀ S e b_used, zy_Us nn S b_used → e ∈ L → zy_Us nn (S ++ [e]) (upd (upd b_used (e / 10) 1) (e % 10) 1) := fun S e b_used h he v hv => by
    rw [zy_mask_app]
    unfold zy_bits
    rw [Nat.testBit_or, Nat.testBit_or, Nat.one_shiftLeft, Nat.one_shiftLeft, Nat.testBit_two_pow, Nat.testBit_two_pow]
    by_cases e1 : v = e % 10
    · subst e1; rw [pk_us]; simp
    · rw [pk_un e1]
      by_cases e2 : v = e / 10
      · subst e2; rw [pk_us]; simp
      · rw [pk_un e2, h v hv]
        simp [Ne.symm e1, Ne.symm e2]
  have stp : ∀ S e P b_stack, zy_St L S b_stack → L[P]? = some e → zy_St L (S ++ [e]) (upd b_stack S.length (nI P)) := fun S e P b_stack h hP j c hj => by
    rcases Nat.lt_trichotomy j S.length with q | q | q
    · rw [List.getElem?_append_left q] at hj
      rw [pk_un (by omega)]
      exact h j c hj
    · subst q
      simp at hj
      subst hj
      exact ⟨P, pk_us, hP⟩
    · rw [List.getElem?_eq_none (by simp; omega)] at hj
      exact absurd hj (by simp)
  have sumb : ∀ S b_stack, zy_St L S b_stack → -500 * (S.length : Int) ≤ zy_wt w S ∧ zy_wt w S ≤ 500 * (S.length : Int) := fun S b_stack h => zy_wtb S (fun c hc => (hLw c (zy_StL h hc)).2.1)
  refine ⟨?_, ?_, ?_, ?_⟩
  · intro S e Q bo t hS ⟨P, hP⟩ hf ht hW n x4 x7 b_used b_stack b_chosen hn hb hx hU hSt hC
    obtain ⟨p1, p2, p3, p4, p5, p6⟩ := pos P e Q hP
    obtain ⟨w1, w2, w3, w4⟩ := hLw e p6
    obtain ⟨n, rfl⟩ : ∃ k, n = k + 1 := ⟨n - 1, by omega⟩
    have hW' := hW n x4 x7 b_used b_stack b_chosen (by omega) hb hx hU hSt hC
    rw [p2] at hW'
    rw [p1]
    obtain ⟨d1, d2⟩ := zy_n10 (c100 e p6)
    refine pk_le 500000 t (fun z => absurd z (by omega)) (fun _ => pk_le size S.length (fun z => absurd z (by omega)) (fun _ => pk_le L.length P.length (fun z => absurd z (by omega)) (fun _ => ⟨vp_in_nI (by omega) (by omega), ?_⟩)))
    rw [nI_clamp (n := P.length) (by omega), p5]
    refine nm_e ⟨by decide, ?_⟩
    rw [d2, d1, nI_clamp (n := e / 10) (by omega), nI_clamp (n := e % 10) (by omega), hU (e / 10) (by omega), hU (e % 10) w4]
    refine ⟨vp_in_nI (by omega) (by omega), ?_⟩
    by_cases b1 : (zy_mask S).testBit (e / 10) = true
    · rw [if_pos b1]
      exact br_f (by decide) (nm_r (nI_1 _) (nm_r (nI_1 t) hW'))
    · rw [if_neg b1]
      refine br_t rfl ⟨by decide, vp_in_nI (by omega) (by omega), ?_⟩
      have b2 : (zy_mask S).testBit (e % 10) = true := by
        by_cases z : (zy_mask S).testBit (e % 10) = true
        · exact z
        · exact absurd (zy_free_iff.mp (by rw [Bool.or_eq_true]; exact fun y => by rcases y with y | y; exact b1 y; exact z y)) hf
      rw [if_pos b2]
      exact br_f (by decide) (nm_r (nI_1 _) (nm_r (nI_1 t) hW'))
  · intro S e Q bo t hS ⟨P, hP⟩ hf ht hW n x4 x7 b_used b_stack b_chosen hn hb hx hU hSt hC
    obtain ⟨p1, p2, p3, p4, p5, p6⟩ := pos P e Q hP
    obtain ⟨w1, w2, w3, w4⟩ := hLw e p6
    obtain ⟨n, rfl⟩ : ∃ k, n = k + 1 := ⟨n - 1, by omega⟩
    have sb := sumb S b_stack hSt
    have hadd : (x7 + b_weight e).toInt = zy_wt w (S ++ [e]) := by
      rw [zy_wta, Int32.toInt_add, hx, w1]; exact Int.bmod_eq_of_le (by omega) (by omega)
    have hW' := hW n x4 (x7 + b_weight e) _ _ b_chosen (by omega) hb hadd (usedp S e b_used hU p6) (stp S e P.length b_stack hSt p4) hC
    rw [p2, show (S ++ [e]).length = S.length + 1 by simp] at hW'
    rw [p1]
    obtain ⟨d1, d2⟩ := zy_n10 (c100 e p6)
    have hfr := zy_free_iff.mpr hf
    rw [Bool.or_eq_true] at hfr
    refine pk_le 500000 t (fun z => absurd z (by omega)) (fun _ => pk_le size S.length (fun z => absurd z (by omega)) (fun _ => pk_le L.length P.length (fun z => absurd z (by omega)) (fun _ => ⟨vp_in_nI (by omega) (by omega), ?_⟩)))
    rw [nI_clamp (n := P.length) (by omega), p5]
    refine nm_e ⟨by decide, ?_⟩
    rw [d2, d1, nI_clamp (n := e / 10) (by omega), nI_clamp (n := e % 10) (by omega), hU (e / 10) (by omega), hU (e % 10) w4, if_neg (fun z => hfr (Or.inl z)), if_neg (fun z => hfr (Or.inr z)), nI_clamp (n := S.length) (by omega), nI_clamp (n := e) (by have := c100 e p6; omega)]
    have va := vp_in_nI (n := e / 10) (N := 10) (by omega) (by omega)
    have vb := vp_in_nI (n := e % 10) (N := 10) (by omega) (by omega)
    refine ⟨va, br_t rfl ⟨by decide, vb, br_t rfl ⟨by decide, va, nm_e ⟨by decide, vb, nm_e ⟨vp_in_nI (by omega) (by omega), nm_e (nm_r (nI_1 _) ⟨vp_in_nI (c100 e p6) (by omega), nm_e (br_f (fun z => ?_) (nm_r (nI_1 _) (nm_r (nI_1 t) hW')))⟩)⟩⟩⟩⟩⟩
    rw [nI_eq (by omega) (by omega)] at z
    omega
  · intro S e Q bo t hS ⟨P, hP⟩ hf ht hW n x4 x7 b_used b_stack b_chosen hn hb hx hU hSt hC
    obtain ⟨p1, p2, p3, p4, p5, p6⟩ := pos P e Q hP
    obtain ⟨w1, w2, w3, w4⟩ := hLw e p6
    obtain ⟨n, rfl⟩ : ∃ k, n = k + 1 := ⟨n - 1, by omega⟩
    have sb := sumb S b_stack hSt
    have hadd : (x7 + b_weight e).toInt = zy_wt w (S ++ [e]) := by
      rw [zy_wta, Int32.toInt_add, hx, w1]; exact Int.bmod_eq_of_le (by omega) (by omega)
    have hSt' := stp S e P.length b_stack hSt p4
    have sb' := sumb _ _ hSt'
    rw [show (S ++ [e]).length = S.length + 1 by simp] at sb'
    have hW1 := fun x4' b_chosen' hb' hC' => hW n x4' (x7 + b_weight e) _ _ b_chosen' (by omega) hb' hadd (usedp S e b_used hU p6) hSt' hC'
    rw [p2, show (S ++ [e]).length = S.length + 1 by simp] at hW1
    rw [p1]
    obtain ⟨d1, d2⟩ := zy_n10 (c100 e p6)
    have hfr := zy_free_iff.mpr hf
    rw [Bool.or_eq_true] at hfr
    refine pk_le 500000 t (fun z => absurd z (by omega)) (fun _ => pk_le size S.length (fun z => absurd z (by omega)) (fun _ => pk_le L.length P.length (fun z => absurd z (by omega)) (fun _ => ⟨vp_in_nI (by omega) (by omega), ?_⟩)))
    rw [nI_clamp (n := P.length) (by omega), p5]
    refine nm_e ⟨by decide, ?_⟩
    rw [d2, d1, nI_clamp (n := e / 10) (by omega), nI_clamp (n := e % 10) (by omega), hU (e / 10) (by omega), hU (e % 10) w4, if_neg (fun z => hfr (Or.inl z)), if_neg (fun z => hfr (Or.inr z)), nI_clamp (n := S.length) (by omega), nI_clamp (n := e) (by have := c100 e p6; omega)]
    have va := vp_in_nI (n := e / 10) (N := 10) (by omega) (by omega)
    have vb := vp_in_nI (n := e % 10) (N := 10) (by omega) (by omega)
    refine ⟨va, br_t rfl ⟨by decide, vb, br_t rfl ⟨by decide, va, nm_e ⟨by decide, vb, nm_e ⟨vp_in_nI (by omega) (by omega), nm_e (nm_r (nI_1 _) ⟨vp_in_nI (c100 e p6) (by omega), nm_e (br_t (by rw [hS]) (br_c (fun z => ?_) (fun z => ?_)))⟩)⟩⟩⟩⟩⟩
    · rw [Int32.le_iff_toInt_le, hadd] at z
      have hup : zy_upd w bo (S ++ [e]) = bo := by
        cases bo with
        | none =>
          have hb' : x4 = -100000 := hb
          rw [hb', show (-100000 : Int32).toInt = -100000 from by decide] at z
          omega
        | some M =>
          have hb' : x4.toInt = zy_wt w M := hb
          rw [hb'] at z
          exact if_pos z
      rw [hup] at hW1
      exact nm_r (nI_1 _) (nm_r (nI_1 t) (hW1 x4 b_chosen hb hC))
    · rw [Int32.le_iff_toInt_le, hadd] at z
      have hup : zy_upd w bo (S ++ [e]) = some (S ++ [e]) := by
        cases bo with
        | none => rfl
        | some M =>
          have hb' : x4.toInt = zy_wt w M := hb
          rw [hb'] at z
          exact if_neg z
      rw [hup] at hW1
      refine ⟨size + 1, zy_copy (S := S ++ [e]) hl hL (by simp; exact hS) h5 hSt' (fun b_chosen' hC' => ?_) size 0 (by omega) b_chosen (fun j c hj => by omega)⟩
      rw [nI_1, nI_1]
      exact hW1 _ b_chosen' hadd (fun M hM => by obtain rfl := Option.some.inj hM; exact hC')
  · intro S e Q Q0 P bo t hP hsz hle ht hdis hW n x4 x7 b_used b_stack b_chosen hn hb hx hU hSt hC
    obtain ⟨p1, p2, p3, p4, p5, p6⟩ := pos P e Q0 hP
    obtain ⟨w1, w2, w3, w4⟩ := hLw e p6
    obtain ⟨n, rfl⟩ : ∃ k, n = k + 1 := ⟨n - 1, by omega⟩
    have sb := sumb _ b_stack hSt
    have hlen : (S ++ [e]).length = S.length + 1 := by simp
    rw [hlen] at sb
    have hsub : (x7 - b_weight e).toInt = zy_wt w S := by
      rw [zy_wta] at hx sb
      rw [Int32.toInt_sub, hx, w1, show zy_wt w S + w (e / 10) (e % 10) - w (e / 10) (e % 10) = zy_wt w S by omega]
      exact Int.bmod_eq_of_le (by omega) (by omega)
    have hSt0 : zy_St L S b_stack := fun j c hj => hSt j c (by
      rw [List.getElem?_append_left]
      · exact hj
      · rcases Nat.lt_or_ge j S.length with q | q
        · exact q
        · rw [List.getElem?_eq_none q] at hj; exact absurd hj (by simp))
    obtain ⟨q, q1, q2⟩ := hSt S.length e (by simp)
    have hqP : q = P.length := by
      have hnd : L.Nodup := hLs.imp (fun h => by omega)
      have hq : q < L.length := by
        rcases Nat.lt_or_ge q L.length with z | z
        · exact z
        · rw [List.getElem?_eq_none z] at q2; exact absurd q2 (by simp)
      exact (List.getElem?_inj hq hnd).mp (by rw [q2, p4])
    subst hqP
    have hU0 : zy_Us nn S (upd (upd b_used (e / 10) 0) (e % 10) 0) := fun v hv => by
      have hbit := zy_mask_bit S 0 v
      have hno : (v = e / 10 ∨ v = e % 10) → ¬ (zy_mask S).testBit v = true := fun h z => by
        rcases hbit.mp z with y | ⟨c, hc, y⟩
        · simp at y
        · obtain ⟨g1, g2, g3, g4⟩ := hdis c hc
          rcases h with h | h <;> rcases y with y | y
          · exact g1 (y.symm.trans h)
          · exact g3 (y.symm.trans h)
          · exact g2 (y.symm.trans h)
          · exact g4 (y.symm.trans h)
      by_cases e1 : v = e % 10
      · rw [if_neg (hno (Or.inr e1)), e1, pk_us]
      · rw [pk_un e1]
        by_cases e2 : v = e / 10
        · rw [if_neg (hno (Or.inl e2)), e2, pk_us]
        · rw [pk_un e2, hU v hv, zy_mask_app]
          unfold zy_bits
          rw [Nat.testBit_or, Nat.testBit_or, Nat.one_shiftLeft, Nat.one_shiftLeft, Nat.testBit_two_pow, Nat.testBit_two_pow]
          simp [Ne.symm e1, Ne.symm e2]
    have hW' := hW n x4 (x7 - b_weight e) _ b_stack b_chosen (by omega) hb hsub hU0 hSt0 hC
    rw [p2] at hW'
    obtain ⟨d1, d2⟩ := zy_n10 (c100 e p6)
    have body : wY_search_285 post (wY_search_128 post (nI size) (nI L.length) y_n y_k n) (nI size) (nI L.length) x4 (nI (S.length + 1)) x7 (nI t) y_n y_k b_present b_weight b_masks b_values b_list b_used b_stack b_chosen := by
      refine br_f (nI_ne0 (by omega) (by omega)) (nm_r (pk_m1 S.length) ⟨vp_in_nI (by omega) (by omega), ?_⟩)
      rw [nI_clamp (n := S.length) (by omega), q1, nI_clamp (n := P.length) (by omega), p5]
      refine ⟨vp_in_nI (by omega) (by omega), nm_e ⟨by decide, ?_⟩⟩
      rw [d2, d1, nI_clamp (n := e / 10) (by omega), nI_clamp (n := e % 10) (by omega), nI_clamp (n := e) (by have := c100 e p6; omega)]
      exact ⟨vp_in_nI (by omega) (by omega), nm_e ⟨by decide, vp_in_nI (by omega) (by omega), nm_e ⟨vp_in_nI (c100 e p6) (by omega), nm_e ⟨vp_in_nI (by omega) (by omega), nm_r (nI_1 _) (nm_r (nI_1 t) hW')⟩⟩⟩⟩
    rw [hlen]
    refine pk_le 500000 t (fun z => absurd z (by omega)) (fun _ => pk_le size (S.length + 1) (fun _ => body) (fun _ => ?_))
    have hQ : Q = [] := by
      rcases hsz with z | z
      · omega
      · exact z
    subst hQ
    exact pk_le L.length (L.length - [].length) (fun _ => body) (fun z => absurd z (by simp))
end
end
section
/-! the reference's search as a whole -/
def zy_al (nn : Nat) (p : Nat → Nat → Bool) (ex c : Nat) : Bool := decide (c / 10 < c % 10) && decide (c % 10 < nn) && p (c / 10) (c % 10) && decide (c / 10 ≠ ex) && decide (c % 10 ≠ ex)
theorem zy_al_iff {nn : Nat} {p : Nat → Nat → Bool} {ex c : Nat} : zy_al nn p ex c = true ↔ c / 10 < c % 10 ∧ c % 10 < nn ∧ p (c / 10) (c % 10) = true ∧ c / 10 ≠ ex ∧ c % 10 ≠ ex := by
  unfold zy_al
  simp only [Bool.and_eq_true, decide_eq_true_eq, and_assoc]
def zy_Lp (nn : Nat) (p : Nat → Nat → Bool) (ex i : Nat) : List Nat := (List.range i).filter (zy_al nn p ex)
def zk_Y (p : Nat → Nat → Bool) (w : Nat → Nat → Int) (b_present b_weight : Nat → Int32) : Prop :=
  ∀ a b, a < b → b < 10 → (p a b = true → b_present (a * 10 + b) = 1 ∧ (b_weight (a * 10 + b)).toInt = w a b) ∧ (¬ p a b = true → b_present (a * 10 + b) = 0)
section
variable {nn ex : Nat} {p : Nat → Nat → Bool} {w : Nat → Nat → Int}
theorem zy_Lp1 (i : Nat) : zy_Lp nn p ex (i + 1) = zy_Lp nn p ex i ++ if zy_al nn p ex i = true then [i] else [] := by
  unfold zy_Lp
  rw [List.range_succ, List.filter_append]
  congr 1
  rw [List.filter_cons]
  rfl
theorem zy_Lpc {i : Nat} : ∀ d, (∀ c, i ≤ c → c < i + d → ¬ zy_al nn p ex c = true) → zy_Lp nn p ex (i + d) = zy_Lp nn p ex i := by
  intro d
  induction d with
  | zero => intro _; rfl
  | succ d ih =>
    intro h
    rw [← Nat.add_assoc, zy_Lp1, if_neg (h (i + d) (by omega) (by omega)), List.append_nil]
    exact ih (fun c h1 h2 => h c h1 (by omega))
theorem zy_Lfull {i : Nat} (hi : i ≤ 100) : (zy_Lp nn p ex i).Sublist zy_full := by
  have h1 : (zy_Lp nn p ex i).Sublist (zy_Lp nn p ex 100) := (List.range_sublist.mpr hi).filter _
  have h2 : zy_Lp nn p ex 100 = zy_full.filter (zy_al nn p ex) := by
    unfold zy_Lp zy_full
    rw [List.filter_filter]
    apply List.filter_congr
    intro c _
    by_cases q : zy_al nn p ex c = true
    · rw [q]; simp [(zy_al_iff.mp q).1]
    · rw [Bool.eq_false_iff.mpr q]; simp
  rw [h2] at h1
  exact h1.trans List.filter_sublist
theorem zy_L45 {i : Nat} (hi : i ≤ 100) : (zy_Lp nn p ex i).length ≤ 45 := by
  have := (zy_Lfull (nn := nn) (p := p) (ex := ex) hi).length_le
  have e : zy_full.length = 45 := by decide +kernel
  omega
theorem zy_Lsort (i : Nat) : (zy_Lp nn p ex i).Pairwise (fun c d => c < d) := List.Pairwise.filter _ List.pairwise_lt_range
theorem zy_Lmem {i c : Nat} : c ∈ zy_Lp nn p ex i ↔ c < i ∧ zy_al nn p ex c = true := by
  unfold zy_Lp
  rw [List.mem_filter, List.mem_range]
theorem zy_exeq {a : Nat} (ha : a < 10) (hex : ex < 10 ∨ ex = zn_N) : nI a = nI ex ↔ a = ex := by
  rcases hex with q | q
  · exact nI_eq (by omega) (by omega)
  · rw [q, zn_eq]
    constructor
    · intro z
      have := nI_pos' (n := a) (by omega)
      rw [z] at this
      exact absurd this zx_m1ge
    · intro z
      rw [z] at ha
      exact absurd ha (by decide)
/-- a matching's list among all lists -/
theorem zy_tL (hG : zk_G nn p w) {N : Nat → Nat} (hN : zm_M (zk_E p ex) N) : (zy_t N).Sublist (zy_Lp nn p ex 100) := by
  have : zy_t N = (zy_Lp nn p ex 100).filter (fun c => N (c / 10) == c % 10) := by
    unfold zy_t zy_Lp
    rw [List.filter_filter]
    apply List.filter_congr
    intro c hc
    rw [List.mem_range] at hc
    by_cases q : (N (c / 10) == c % 10) = true
    · rw [q]
      simp only [Bool.and_true, Bool.true_and]
      apply Bool.eq_iff_iff.mpr
      rw [decide_eq_true_eq, zy_al_iff]
      constructor
      · intro h
        have q' : N (c / 10) = c % 10 := by simpa using q
        have := (hN (c / 10) (by omega)).2.2 (by omega)
        rw [q'] at this
        obtain ⟨e1, e2, e3⟩ := this
        exact ⟨h, (hG.2.2.1 _ _ e1).2.1, e1, e2, e3⟩
      · exact fun h => h.1
    · rw [Bool.eq_false_iff.mpr q]; simp
  rw [this]
  exact List.filter_sublist
end
section
variable {y_n y_k : Int32} {b_present b_weight b_masks b_values b_list b_used b_stack b_chosen : Nat → Int32}
theorem zy_search {post : Int32 → SY → Prop} {nn ex size : Nat} {p : Nat → Nat → Bool} {w : Nat → Nat → Int} (hG : zk_G nn p w) (hY : zk_Y p w b_present b_weight) (hn : y_n = nI nn) (hex : ex < 10 ∨ ex = zn_N) (h1 : 1 ≤ size) (h5 : size ≤ 5)
    (K : ∀ (r : Int32) (b_list' b_used' b_stack' b_chosen' : Nat → Int32), ((r = -100000 ∧ ∀ N, zm_M (zk_E p ex) N → zm_cov N ≠ 2 * (size : Int)) ∨ (∃ T, zy_ok T ∧ T.length = size ∧ zk_B p w ex (zy_m T) ∧ zm_cov (zy_m T) = 2 * (size : Int) ∧ r.toInt = zm_W w (zy_m T) ∧ ∀ j c, T[j]? = some c → b_chosen' j = nI c)) →
      post r (y_n, y_k, b_present, b_weight, b_masks, b_values, b_list', b_used', b_stack', b_chosen')) : wpY_search post (y_n, y_k, b_present, b_weight, b_masks, b_values, b_list, b_used, b_stack, b_chosen) (nI size) (nI ex) := by
  obtain ⟨g1, g2, g3, g4, g5⟩ := id hG
  subst hn
  -- the walk itself
  have walk : ∀ (b_list b_used : Nat → Int32), (∀ i c, (zy_Lp nn p ex 100)[i]? = some c → b_list i = nI c) → (∀ v, v < nn → b_used v = 0) → ∃ n128, wY_search_128 post (nI size) (nI (zy_Lp nn p ex 100).length) (nI nn) y_k n128 (-100000) 0 0 0 0 b_present b_weight b_masks b_values b_list b_used b_stack b_chosen := by
    intro b_list b_used hL hU
    have hl := zy_L45 (nn := nn) (p := p) (ex := ex) (i := 100) (by omega)
    have hLw : ∀ c, c ∈ zy_Lp nn p ex 100 → (b_weight c).toInt = w (c / 10) (c % 10) ∧ (-500 ≤ w (c / 10) (c % 10) ∧ w (c / 10) (c % 10) ≤ 500) ∧ c / 10 < c % 10 ∧ c % 10 < nn := fun c hc => by
      obtain ⟨_, hc⟩ := zy_Lmem.mp hc
      obtain ⟨a1, a2, a3, _⟩ := zy_al_iff.mp hc
      have := ((hY (c / 10) (c % 10) a1 (by omega)).1 a3).2
      rw [show c / 10 * 10 + c % 10 = c by omega] at this
      exact ⟨this, (g3 _ _ a3).2.2.2, a1, a2⟩
    obtain ⟨r1, r2, r3, r4⟩ := zy_rules (post := post) (y_n := nI nn) (y_k := y_k) (b_present := b_present) (b_weight := b_weight) (b_masks := b_masks) (b_values := b_values) (b_list := b_list) (L := zy_Lp nn p ex 100) (nn := nn) (size := size) (w := w) hl (zy_Lsort 100) hL h5 g2 hLw
    have run := zy_run (zy_Lsort 100) (fun c hc => (hLw c hc).2.2.1) r1 r2 r3 r4 (zy_Lp nn p ex 100) [] none 0 ⟨[], rfl⟩ ⟨by simp, fun c hc => by simp at hc⟩ (fun c hc => by simp at hc) (by simp; omega)
      (by
        have a := zy_fmono (zy_Lfull (nn := nn) (p := p) (ex := ex) (i := 100) (by omega)) 0
        have b := zy_ffull
        show 0 + zy_f (zy_Lp nn p ex 100) 0 ≤ 500000
        omega)
      (fun M hM => by simp at hM)
      (fun bo' t' ht' hsp => by
        intro n x4 x7 b_used b_stack b_chosen hn hb hx hU hSt hC
        have ht : t' < 500000 := by
          have a := zy_fmono (zy_Lfull (nn := nn) (p := p) (ex := ex) (i := 100) (by omega)) 0
          have b := zy_ffull
          have c : t' + 1 ≤ 0 + zy_f (zy_Lp nn p ex 100) 0 := ht'
          omega
        obtain ⟨n, rfl⟩ : ∃ k, n = k + 1 := ⟨n - 1, by omega⟩
        have fin : post x4 (nI nn, y_k, b_present, b_weight, b_masks, b_values, b_list, b_used, b_stack, b_chosen) := by
          refine K x4 _ _ _ _ ?_
          obtain ⟨s1, s2, _⟩ := hsp
          have lists : ∀ N, zm_M (zk_E p ex) N → zm_cov N = 2 * (size : Int) → zy_ext size [] (zy_Lp nn p ex 100) (zy_t N) := fun N hN hc => by
            refine ⟨zy_t N, zy_tL hG hN, rfl, ?_, zy_t_ok hN⟩
            have hM : zm_M (zk_E p ex) (zy_m (zy_t N)) := fun v hv => by
              rw [zy_tm hN v hv, zy_tm hN _ (hN v hv).1]; exact hN v hv
            have c1 := zy_covT (zy_t_ok hN) hM
            rw [zm_covc (zy_tm hN), hc] at c1
            omega
          cases bo' with
          | none =>
            refine Or.inl ⟨hb, fun N hN hc => ?_⟩
            obtain ⟨M, hM, _⟩ := s2 _ (lists N hN hc)
            simp at hM
          | some T =>
            rcases s1 with s1 | ⟨T', s1, X, x1, x2, x3, x4'⟩
            · simp at s1
            · obtain rfl := Option.some.inj s1
              rw [List.nil_append] at x2
              subst x2
              have hE : ∀ c, c ∈ T → zk_E p ex (c / 10) (c % 10) := fun c hc => by
                obtain ⟨_, a1, a2, a3, a4, a5⟩ := (fun q => And.intro (zy_Lmem.mp q).1 (zy_al_iff.mp (zy_Lmem.mp q).2)) (x1.subset hc)
                exact ⟨a3, a4, a5⟩
              have hM := zy_m3 (E := zk_E p ex) (fun u v e => ⟨by rw [g4]; exact e.1, e.2.2, e.2.1⟩) x4' hE
              have hcv := zy_covT x4' hM
              rw [x3] at hcv
              refine Or.inr ⟨T, x4', x3, ⟨hM, fun N hN hc => ?_⟩, hcv, ?_, hC T rfl⟩
              · rw [hcv] at hc
                obtain ⟨M, hM', hk⟩ := s2 _ (lists N hN hc)
                obtain rfl := Option.some.inj hM'
                have hMt : zm_M (zk_E p ex) (zy_m (zy_t N)) := fun v hv => by
                  rw [zy_tm hN v hv, zy_tm hN _ (hN v hv).1]; exact hN v hv
                rw [← zm_Kc (zk_y w) (zy_tm hN), zy_keyK g5 (zy_t_ok hN) hMt, zy_keyK g5 x4' hM]
                omega
              · have : x4.toInt = zy_wt w T := hb
                rw [this, zy_m4 w T x4']
                rfl
        have body : wY_search_285 post (wY_search_128 post (nI size) (nI (zy_Lp nn p ex 100).length) (nI nn) y_k n) (nI size) (nI (zy_Lp nn p ex 100).length) x4 (nI 0) x7 (nI t') (nI nn) y_k b_present b_weight b_masks b_values b_list b_used b_stack b_chosen := br_t rfl fin
        exact pk_le 500000 t' (fun z => absurd z (by omega)) (fun _ => pk_le size 0 (fun z => absurd z (by omega)) (fun _ => pk_le (zy_Lp nn p ex 100).length ((zy_Lp nn p ex 100).length - [].length) (fun _ => body) (fun z => absurd z (by simp)) rfl rfl (by omega) (by simp; omega))))
    have := run 500001 (-100000) 0 b_used b_stack b_chosen (by omega) rfl rfl (fun v hv => by rw [hU v hv]; simp [zy_mask]) (fun j c hj => by simp at hj) (fun M hM => by simp at hM)
    rw [Nat.sub_self] at this
    exact ⟨500001, this⟩
  -- a row of the list
  have row : ∀ (a n : Nat), a < nn → (∀ b_list b_used, (∀ i c, (zy_Lp nn p ex (a * 10 + nn))[i]? = some c → b_list i = nI c) → (∀ v, v < a + 1 → b_used v = 0) → wY_search_23 post (nI size) (nI ex) (nI nn) y_k n (nI (zy_Lp nn p ex (a * 10 + nn)).length) (nI (a + 1)) b_present b_weight b_masks b_values b_list b_used b_stack b_chosen) →
      ∀ d b, b + d = nn → a < b → ∀ b_list b_used, (∀ i c, (zy_Lp nn p ex (a * 10 + b))[i]? = some c → b_list i = nI c) → (∀ v, v < a + 1 → b_used v = 0) → wY_search_46 post (wY_search_23 post (nI size) (nI ex) (nI nn) y_k n) (nI size) (nI ex) (nI a) (nI nn) y_k (d + 1) (nI (zy_Lp nn p ex (a * 10 + b)).length) (nI b) b_present b_weight b_masks b_values b_list b_used b_stack b_chosen := by
    intro a n ha K23 d
    induction d with
    | zero =>
      intro b hb hab b_list b_used hL hU
      obtain rfl : b = nn := by omega
      exact pk_le b b (fun _ => nm_r (nI_1 a) (K23 b_list b_used hL hU)) (fun z => absurd z (by omega))
    | succ d ih =>
      intro b hb hab b_list b_used hL hU
      have hc : nI a * 10 + nI b = nI (a * 10 + b) := by
        rw [show (10 : Int32) = nI 10 from rfl, pk_mul, nI_add]
      have hdv : (a * 10 + b) / 10 = a := by omega
      have hmd : (a * 10 + b) % 10 = b := by omega
      have hl := zy_L45 (nn := nn) (p := p) (ex := ex) (i := a * 10 + b + 1) (by omega)
      have skip : ¬ zy_al nn p ex (a * 10 + b) = true → wY_search_46 post (wY_search_23 post (nI size) (nI ex) (nI nn) y_k n) (nI size) (nI ex) (nI a) (nI nn) y_k (d + 1) (nI (zy_Lp nn p ex (a * 10 + b)).length) (nI (b + 1)) b_present b_weight b_masks b_values b_list b_used b_stack b_chosen := fun hno => by
        have e : zy_Lp nn p ex (a * 10 + (b + 1)) = zy_Lp nn p ex (a * 10 + b) := by
          rw [← Nat.add_assoc, zy_Lp1, if_neg hno, List.append_nil]
        have := ih (b + 1) (by omega) (by omega) b_list b_used (by rw [e]; exact hL) hU
        rw [e] at this
        exact this
      have hp := hY a b hab (by omega)
      refine pk_le nn b (fun z => absurd z (by omega)) (fun _ => ?_)
      rw [hc]
      refine ⟨vp_in_nI (by omega) (by omega), ?_⟩
      rw [nI_clamp (n := a * 10 + b) (by omega)]
      by_cases q : p a b = true
      · rw [(hp.1 q).1]
        refine br_f (by decide) (br_c (fun z => nm_r (nI_1 b) (skip (fun y => ?_))) (fun z1 => br_c (fun z => nm_r (nI_1 b) (skip (fun y => ?_))) (fun z2 => ?_)))
        · have y' := zy_al_iff.mp y
          rw [hdv, hmd] at y'
          exact y'.2.2.2.1 ((zy_exeq (by omega) hex).mp z)
        · have y' := zy_al_iff.mp y
          rw [hdv, hmd] at y'
          exact y'.2.2.2.2 ((zy_exeq (by omega) hex).mp z)
        · have hal : zy_al nn p ex (a * 10 + b) = true := zy_al_iff.mpr (by
            rw [hdv, hmd]
            exact ⟨hab, by omega, q, fun z => z1 ((zy_exeq (by omega) hex).mpr z), fun z => z2 ((zy_exeq (by omega) hex).mpr z)⟩)
          have e : zy_Lp nn p ex (a * 10 + b + 1) = zy_Lp nn p ex (a * 10 + b) ++ [a * 10 + b] := by
            rw [zy_Lp1, if_pos hal]
          have elen : (zy_Lp nn p ex (a * 10 + b + 1)).length = (zy_Lp nn p ex (a * 10 + b)).length + 1 := by rw [e]; simp
          refine ⟨vp_in_nI (by omega) (by omega), ?_⟩
          rw [nI_clamp (n := (zy_Lp nn p ex (a * 10 + b)).length) (by omega)]
          refine nm_e (nm_r (nI_1 _) (nm_r (nI_1 b) ?_))
          have := ih (b + 1) (by omega) (by omega) (upd b_list (zy_Lp nn p ex (a * 10 + b)).length (nI (a * 10 + b))) b_used (fun i c hi => ?_) hU
          · rw [← Nat.add_assoc, elen] at this
            exact this
          · rw [← Nat.add_assoc, e] at hi
            rcases Nat.lt_trichotomy i (zy_Lp nn p ex (a * 10 + b)).length with q' | q' | q'
            · rw [List.getElem?_append_left q'] at hi
              rw [pk_un (by omega)]
              exact hL i c hi
            · subst q'
              simp at hi
              rw [pk_us, hi]
            · rw [List.getElem?_eq_none (by simp; omega)] at hi
              exact absurd hi (by simp)
      · rw [hp.2 q]
        refine br_t rfl (nm_r (nI_1 b) (skip (fun y => ?_)))
        have y' := zy_al_iff.mp y
        rw [hdv, hmd] at y'
        exact q y'.2.2.1
  have gap : ∀ (i d : Nat), (∀ c, i ≤ c → c < i + d → ¬ (c / 10 < c % 10 ∧ c % 10 < nn)) → zy_Lp nn p ex (i + d) = zy_Lp nn p ex i := fun i d h => zy_Lpc d (fun c c1 c2 z => by
    have := zy_al_iff.mp z
    exact h c c1 c2 ⟨this.1, this.2.1⟩)
  have rows : ∀ d a, a + d = nn → ∀ b_list b_used, (∀ i c, (zy_Lp nn p ex (a * 10))[i]? = some c → b_list i = nI c) → (∀ v, v < a → b_used v = 0) → wY_search_23 post (nI size) (nI ex) (nI nn) y_k (d + 1) (nI (zy_Lp nn p ex (a * 10)).length) (nI a) b_present b_weight b_masks b_values b_list b_used b_stack b_chosen := by
    intro d
    induction d with
    | zero =>
      intro a ha b_list b_used hL hU
      obtain rfl : a = nn := by omega
      have e : zy_Lp a p ex 100 = zy_Lp a p ex (a * 10) := by
        have := gap (a * 10) (100 - a * 10) (fun c c1 c2 z => by omega)
        rw [show a * 10 + (100 - a * 10) = 100 by omega] at this
        exact this
      rw [← e] at hL ⊢
      exact pk_le a a (fun _ => walk b_list b_used hL hU) (fun z => absurd z (by omega))
    | succ d ih =>
      intro a ha b_list b_used hL hU
      refine pk_le nn a (fun z => absurd z (by omega)) (fun _ => ⟨vp_in_nI (by omega) (by omega), ?_⟩)
      rw [nI_clamp (n := a) (by omega)]
      have e : zy_Lp nn p ex (a * 10 + (a + 1)) = zy_Lp nn p ex (a * 10) := gap (a * 10) (a + 1) (fun c c1 c2 z => by omega)
      refine nm_e (nm_r (nI_1 a) ⟨nn - (a + 1) + 1, ?_⟩)
      have := row a (d + 1) (by omega) (fun b_list' b_used' hL' hU' => ?_) (nn - (a + 1)) (a + 1) (by omega) (by omega) b_list (upd b_used a 0) (by rw [e]; exact hL) (fun v hv => ?_)
      · rw [e] at this
        exact this
      · have e2 : zy_Lp nn p ex ((a + 1) * 10) = zy_Lp nn p ex (a * 10 + nn) := by
          have := gap (a * 10 + nn) (10 - nn) (fun c c1 c2 z => by omega)
          rw [show a * 10 + nn + (10 - nn) = (a + 1) * 10 by omega] at this
          exact this
        rw [← e2] at hL' ⊢
        exact ih (a + 1) (by omega) b_list' b_used' hL' hU'
      · by_cases e3 : v = a
        · subst e3; exact pk_us
        · rw [pk_un e3]; exact hU v (by omega)
  unfold wpY_search
  dsimp only
  refine br_f (nI_ne0 (by omega) (by omega)) (br_f (nI_pos (by omega)) (pk_le size 5 (fun _ => ⟨nn + 1, ?_⟩) (fun z => absurd z (by omega))))
  exact rows nn 0 (by omega) b_list b_used (fun i c hi => by simp [zy_Lp] at hi) (fun v hv => by omega)
end
end
section
/-! terms: bits, bound, cover -/
theorem zx_bit1 (a : Int32) {v : Nat} (hv : v < 32) : ((a >>> (nI v &&& 31)) &&& 1) = if bt a v = true then 1 else 0 := by
  apply b_ext
  intro i hi
  rw [b_and, b_sshr v hv a hi]
  have h1 : bt 1 i = decide (i = 0) := (by decide +kernel : ∀ i, i < 32 → bt 1 i = decide (i = 0)) i hi
  rw [h1]
  by_cases e : i = 0
  · subst e
    rw [if_pos (by omega)]
    cases q : bt a v
    · simp [q, b_0]
    · simp [q]; decide
  · have h2 : bt (if bt a v = true then 1 else 0) i = false := by
      by_cases q : bt a v = true
      · rw [if_pos q, h1]; simp [e]
      · rw [if_neg q, b_0]
    rw [h2]; simp [e]
theorem zx_bit2 (a : Int32) {v : Nat} (hv : v < 32) : (a &&& ((1 : Int32) <<< (nI v &&& 31))) = 0 ↔ bt a v = false := by
  have key : ∀ i, i < 32 → bt (a &&& ((1 : Int32) <<< (nI v &&& 31))) i = (bt a i && decide (i = v)) := by
    intro i hi
    rw [b_and, b_shl v hv 1 hi]
    by_cases q : v ≤ i
    · have : bt 1 (i - v) = decide (i - v = 0) := (by decide +kernel : ∀ i, i < 32 → bt 1 i = decide (i = 0)) _ (by omega)
      rw [this]
      by_cases e : i = v
      · subst e; simp
      · simp [e]; intro _ _; omega
    · have e : i ≠ v := by omega
      simp [q, e]
  constructor
  · intro h
    have := key v hv
    rw [h, b_0] at this
    simpa using this.symm
  · intro h
    apply b_ext
    intro i hi
    rw [key i hi, b_0]
    by_cases e : i = v
    · subst e; rw [h]; rfl
    · simp [e]
def zt_c (m : Int32) : Nat → Nat
  | 0 => 0
  | i + 1 => zt_c m i + (if bt m i = true then 1 else 0)
theorem zt_cle (m : Int32) : ∀ i, zt_c m i ≤ i := by
  intro i
  induction i with
  | zero => exact Nat.le_refl _
  | succ i ih =>
    show zt_c m i + (if bt m i = true then 1 else 0) ≤ i + 1
    split <;> omega
theorem zt_c1 (m : Int32) {u : Nat} (h : bt m u = true) : ∀ i, u < i → 1 ≤ zt_c m i := by
  intro i
  induction i with
  | zero => intro h; omega
  | succ i ih =>
    intro hu
    show 1 ≤ zt_c m i + (if bt m i = true then 1 else 0)
    by_cases e : u = i
    · subst e; rw [if_pos h]; omega
    · have := ih (by omega); omega
theorem zt_c2 (m : Int32) {u v : Nat} (hu : bt m u = true) (hv : bt m v = true) (huv : u < v) : ∀ i, v < i → 2 ≤ zt_c m i := by
  intro i
  induction i with
  | zero => intro h; omega
  | succ i ih =>
    intro hvi
    show 2 ≤ zt_c m i + (if bt m i = true then 1 else 0)
    by_cases e : v = i
    · subst e; rw [if_pos hv]
      have := zt_c1 m hu v huv
      omega
    · have := ih (by omega); omega
def zt_fac (fk : Int32) (c : Nat) : Int32 := if c = 0 then fk else if c = 1 then 1 else (nI c - 1) / 2
def zt_bd (masks values : Nat → Int32) (fk : Int32) : Nat → Int32
  | 0 => 0
  | i + 1 => zt_bd masks values fk i + values i * zt_fac fk (zt_c (masks i) 10)
def zt_ct (m : Int32) (u v : Nat) : Bool := if zt_c m 10 = 0 then true else if zt_c m 10 = 1 then (bt m u || bt m v) else (bt m u && bt m v)
def zt_cv (masks values : Nat → Int32) (u v : Nat) : Nat → Int32
  | 0 => 0
  | i + 1 => if zt_ct (masks i) u v = true then zt_cv masks values u v i + values i else zt_cv masks values u v i
theorem zt_cts (m : Int32) (u v : Nat) : zt_ct m u v = zt_ct m v u := by
  unfold zt_ct
  rw [Bool.or_comm, Bool.and_comm]
theorem zt_cvs (masks values : Nat → Int32) (u v : Nat) : ∀ i, zt_cv masks values u v i = zt_cv masks values v u i := by
  intro i
  induction i with
  | zero => rfl
  | succ i ih =>
    show (if zt_ct (masks i) u v = true then zt_cv masks values u v i + values i else zt_cv masks values u v i) = (if zt_ct (masks i) v u = true then zt_cv masks values v u i + values i else zt_cv masks values v u i)
    rw [zt_cts, ih]
section
variable {f_outer f_inner f_n f_k f_maxSize f_barred f_stackSize f_eventA f_eventB : Int32} {f_eventDelta : Int64} {a_weight : Nat → Int32} {a_key : Nat → Int64} {a_slotMask a_slotValue a_bestMate a_bestWeight a_partner : Nat → Int32} {a_dual : Nat → Int64} {a_top a_members a_base a_label a_upFrom a_upTo a_head a_next a_nextFrom a_nextTo a_stack : Nat → Int32}
theorem zx_ones {post : Int32 → Prop} {m : Int32} (K : post (nI (zt_c m 10))) : wpX_ones post (f_outer, f_inner, f_n, f_k, f_maxSize, f_barred, f_stackSize, f_eventA, f_eventB, f_eventDelta, a_weight, a_key, a_slotMask, a_slotValue, a_bestMate, a_bestWeight, a_partner, a_dual, a_top, a_members, a_base, a_label, a_upFrom, a_upTo, a_head, a_next, a_nextFrom, a_nextTo, a_stack) m := by
  have loop : ∀ d i, i + d = 10 → wX_ones_4 post m f_outer f_inner f_n f_k f_maxSize f_barred f_stackSize f_eventA f_eventB f_eventDelta a_weight a_key a_slotMask a_slotValue a_bestMate a_bestWeight a_partner a_dual a_top a_members a_base a_label a_upFrom a_upTo a_head a_next a_nextFrom a_nextTo a_stack (d + 1) (nI (zt_c m i)) (nI i) := by
    intro d
    induction d with
    | zero =>
      intro i hi
      obtain rfl : i = 10 := by omega
      exact pk_le 10 10 (fun _ => K) (fun z => absurd z (by omega))
    | succ d ih =>
      intro i hi
      refine pk_le 10 i (fun z => absurd z (by omega)) (fun _ => ?_)
      rw [zx_bit1 m (by omega)]
      refine nm_r (e' := nI (zt_c m (i + 1))) ?_ (nm_r (nI_1 i) (ih (i + 1) (by omega)))
      show _ = nI (zt_c m i + (if bt m i = true then 1 else 0))
      by_cases q : bt m i = true
      · rw [if_pos q, if_pos q, nI_1]
      · rw [if_neg q, if_neg q, Nat.add_zero, Int32.add_zero]
  exact ⟨11, loop 10 0 rfl⟩
theorem zx_bound {post : Int32 → Prop} (K : post (zt_bd a_slotMask a_slotValue f_k 16)) : wpX_bound post (f_outer, f_inner, f_n, f_k, f_maxSize, f_barred, f_stackSize, f_eventA, f_eventB, f_eventDelta, a_weight, a_key, a_slotMask, a_slotValue, a_bestMate, a_bestWeight, a_partner, a_dual, a_top, a_members, a_base, a_label, a_upFrom, a_upTo, a_head, a_next, a_nextFrom, a_nextTo, a_stack) := by
  have loop : ∀ d i, i + d = 16 → wX_bound_4 post f_outer f_inner f_n f_k f_maxSize f_barred f_stackSize f_eventA f_eventB f_eventDelta a_weight a_key a_slotMask a_slotValue a_bestMate a_bestWeight a_partner a_dual a_top a_members a_base a_label a_upFrom a_upTo a_head a_next a_nextFrom a_nextTo a_stack (d + 1) (zt_bd a_slotMask a_slotValue f_k i) (nI i) := by
    intro d
    induction d with
    | zero =>
      intro i hi
      obtain rfl : i = 16 := by omega
      exact pk_le 16 16 (fun _ => K) (fun z => absurd z (by omega))
    | succ d ih =>
      intro i hi
      have hii := vp_in_nI (n := i) (N := 16) (by omega) (by omega)
      have hc := zt_cle (a_slotMask i) 10
      refine pk_le 16 i (fun z => absurd z (by omega)) (fun _ => ⟨hii, ?_⟩)
      rw [nI_clamp (n := i) (by omega)]
      refine zx_ones ?_
      have fin : wX_bound_46 post (wX_bound_4 post f_outer f_inner f_n f_k f_maxSize f_barred f_stackSize f_eventA f_eventB f_eventDelta a_weight a_key a_slotMask a_slotValue a_bestMate a_bestWeight a_partner a_dual a_top a_members a_base a_label a_upFrom a_upTo a_head a_next a_nextFrom a_nextTo a_stack (d + 1)) (zt_bd a_slotMask a_slotValue f_k i) (nI i) (zt_fac f_k (zt_c (a_slotMask i) 10)) f_outer f_inner f_n f_k f_maxSize f_barred f_stackSize f_eventA f_eventB f_eventDelta a_weight a_key a_slotMask a_slotValue a_bestMate a_bestWeight a_partner a_dual a_top a_members a_base a_label a_upFrom a_upTo a_head a_next a_nextFrom a_nextTo a_stack := by
        refine ⟨hii, ?_⟩
        rw [nI_clamp (n := i) (by omega)]
        exact nm_e (nm_r (nI_1 i) (ih (i + 1) (by omega)))
      unfold zt_fac at fin
      refine pk_eq _ 0 (fun z => ?_) (fun z => pk_eq _ 1 (fun z1 => ?_) (fun z1 => ⟨by decide, ?_⟩))
      · rw [if_pos z] at fin; exact fin
      · rw [if_neg z, if_pos z1] at fin; exact fin
      · rw [if_neg z, if_neg z1] at fin; exact fin
  exact ⟨17, loop 16 0 rfl⟩
theorem zx_counts {post : Int32 → Prop} {m : Int32} {u v : Nat} (hu : u < 10) (hv : v < 10) (huv : u ≠ v) (K : post (if zt_ct m u v = true then 1 else 0)) : wpX_counts post (f_outer, f_inner, f_n, f_k, f_maxSize, f_barred, f_stackSize, f_eventA, f_eventB, f_eventDelta, a_weight, a_key, a_slotMask, a_slotValue, a_bestMate, a_bestWeight, a_partner, a_dual, a_top, a_members, a_base, a_label, a_upFrom, a_upTo, a_head, a_next, a_nextFrom, a_nextTo, a_stack) m (nI u) (nI v) := by
  unfold wpX_counts
  dsimp only
  rw [zx_bit1 m (by omega), zx_bit1 m (by omega)]
  refine nm_e (zx_ones ?_)
  have hc := zt_cle m 10
  have h2 : bt m u = true → bt m v = true → 2 ≤ zt_c m 10 := fun a b => by
    rcases Nat.lt_or_gt_of_ne huv with q | q
    · exact zt_c2 m a b q 10 hv
    · exact zt_c2 m b a q 10 hu
  unfold zt_ct at K
  refine pk_eq _ 0 (fun z => ?_) (fun z => pk_eq _ 1 (fun z1 => ?_) (fun z1 => ?_))
  · rw [if_pos z] at K; exact K
  · rw [if_neg z, if_pos z1] at K
    unfold wX_counts_38
    cases a : bt m u <;> cases b : bt m v <;> simp only [a, b, Bool.or_true, Bool.or_false, Bool.false_eq_true, if_true, if_false] at K ⊢
    · exact br_f (by decide) K
    · exact br_t (by decide) K
    · exact br_t (by decide) K
    · have := h2 a b; omega
  · rw [if_neg z, if_neg z1] at K
    unfold wX_counts_38
    cases a : bt m u <;> cases b : bt m v <;> simp only [a, b, Bool.and_true, Bool.and_false, Bool.false_eq_true, if_true, if_false] at K ⊢
    · exact br_f (by decide) K
    · exact br_f (by decide) K
    · exact br_f (by decide) K
    · exact br_t (by decide) K
theorem zx_uncov {post : Int32 → Prop} {u v : Nat} (hu : u < 10) (hv : v < 10) (huv : u ≠ v ∨ a_weight (u * 10 + v) = -100000)
    (K : post (if a_weight (u * 10 + v) = -100000 ∨ 2 * a_weight (u * 10 + v) ≤ zt_cv a_slotMask a_slotValue u v 16 then 0 else 1)) : wpX_uncovered post (f_outer, f_inner, f_n, f_k, f_maxSize, f_barred, f_stackSize, f_eventA, f_eventB, f_eventDelta, a_weight, a_key, a_slotMask, a_slotValue, a_bestMate, a_bestWeight, a_partner, a_dual, a_top, a_members, a_base, a_label, a_upFrom, a_upTo, a_head, a_next, a_nextFrom, a_nextTo, a_stack) (nI u) (nI v) := by
  have hc : nI u * 10 + nI v = nI (u * 10 + v) := by
    rw [show (10 : Int32) = nI 10 from rfl, pk_mul, nI_add]
  unfold wpX_uncovered
  dsimp only
  rw [hc, nI_clamp (n := u * 10 + v) (by omega)]
  refine ⟨vp_in_nI (by omega) (by omega), nm_e (br_c (fun z => ?_) (fun z => ?_))⟩
  · rw [if_pos (Or.inl z)] at K; exact K
  · have hne : u ≠ v := by
      rcases huv with q | q
      · exact q
      · exact absurd q z
    have loop : ∀ d i, i + d = 16 → wX_uncovered_26 post (nI u) (nI v) (a_weight (u * 10 + v)) f_outer f_inner f_n f_k f_maxSize f_barred f_stackSize f_eventA f_eventB f_eventDelta a_weight a_key a_slotMask a_slotValue a_bestMate a_bestWeight a_partner a_dual a_top a_members a_base a_label a_upFrom a_upTo a_head a_next a_nextFrom a_nextTo a_stack (d + 1) (zt_cv a_slotMask a_slotValue u v i) (nI i) := by
      intro d
      induction d with
      | zero =>
        intro i hi
        obtain rfl : i = 16 := by omega
        refine pk_le 16 16 (fun _ => br_c (fun y => ?_) (fun y => ?_)) (fun z => absurd z (by omega))
        · rw [if_pos (Or.inr y)] at K; exact K
        · rw [if_neg (by rintro (q | q); exact z q; exact y q)] at K; exact K
      | succ d ih =>
        intro i hi
        have hii := vp_in_nI (n := i) (N := 16) (by omega) (by omega)
        refine pk_le 16 i (fun z => absurd z (by omega)) (fun _ => ⟨hii, ?_⟩)
        rw [nI_clamp (n := i) (by omega)]
        refine zx_counts hu hv hne ?_
        have hn := ih (i + 1) (by omega)
        have e : zt_cv a_slotMask a_slotValue u v (i + 1) = if zt_ct (a_slotMask i) u v = true then zt_cv a_slotMask a_slotValue u v i + a_slotValue i else zt_cv a_slotMask a_slotValue u v i := rfl
        rw [e] at hn
        by_cases q : zt_ct (a_slotMask i) u v = true
        · rw [if_pos q] at hn ⊢
          exact br_f (by decide) ⟨hii, nm_e (nm_r (nI_1 i) hn)⟩
        · rw [if_neg q] at hn ⊢
          exact br_t rfl (nm_r (nI_1 i) hn)
    exact ⟨17, loop 16 0 rfl⟩
end
section
variable {y_n y_k : Int32} {b_present b_weight b_masks b_values b_list b_used b_stack b_chosen : Nat → Int32}
theorem zy_bits10 {post : Int32 → Prop} {m : Int32} (K : post (nI (zt_c m 10))) : wpY_bits post (y_n, y_k, b_present, b_weight, b_masks, b_values, b_list, b_used, b_stack, b_chosen) m := by
  have loop : ∀ d i, i + d = 10 → wY_bits_4 post m y_n y_k b_present b_weight b_masks b_values b_list b_used b_stack b_chosen (d + 1) (nI (zt_c m i)) (nI i) := by
    intro d
    induction d with
    | zero =>
      intro i hi
      obtain rfl : i = 10 := by omega
      exact pk_le 10 10 (fun _ => K) (fun z => absurd z (by omega))
    | succ d ih =>
      intro i hi
      have hn := ih (i + 1) (by omega)
      have e : zt_c m (i + 1) = zt_c m i + (if bt m i = true then 1 else 0) := rfl
      rw [e] at hn
      refine pk_le 10 i (fun z => absurd z (by omega)) (fun _ => br_c (fun z => nm_r (nI_1 i) ?_) (fun z => nm_r (nI_1 _) (nm_r (nI_1 i) ?_)))
      · rw [zx_bit2 m (by omega)] at z
        rw [z] at hn
        exact hn
      · rw [zx_bit2 m (by omega)] at z
        rw [if_pos (by simpa using z)] at hn
        exact hn
  exact ⟨11, loop 10 0 rfl⟩
theorem zy_bound {post : Int32 → Prop} (K : post (zt_bd b_masks b_values y_k 16)) : wpY_bound post (y_n, y_k, b_present, b_weight, b_masks, b_values, b_list, b_used, b_stack, b_chosen) := by
  have loop : ∀ d i, i + d = 16 → wY_bound_4 post y_n y_k b_present b_weight b_masks b_values b_list b_used b_stack b_chosen (d + 1) (zt_bd b_masks b_values y_k i) (nI i) := by
    intro d
    induction d with
    | zero =>
      intro i hi
      obtain rfl : i = 16 := by omega
      exact pk_le 16 16 (fun _ => K) (fun z => absurd z (by omega))
    | succ d ih =>
      intro i hi
      have hii := vp_in_nI (n := i) (N := 16) (by omega) (by omega)
      have hc := zt_cle (b_masks i) 10
      refine pk_le 16 i (fun z => absurd z (by omega)) (fun _ => ⟨hii, ?_⟩)
      rw [nI_clamp (n := i) (by omega)]
      refine zy_bits10 ⟨by decide, nm_e ?_⟩
      have fin : wY_bound_49 post (wY_bound_4 post y_n y_k b_present b_weight b_masks b_values b_list b_used b_stack b_chosen (d + 1)) (zt_bd b_masks b_values y_k i) (nI i) (zt_fac y_k (zt_c (b_masks i) 10)) y_n y_k b_present b_weight b_masks b_values b_list b_used b_stack b_chosen := by
        refine ⟨hii, ?_⟩
        rw [nI_clamp (n := i) (by omega)]
        exact nm_e (nm_r (nI_1 i) (ih (i + 1) (by omega)))
      unfold zt_fac at fin
      refine pk_eq _ 0 (fun z => ?_) (fun z => pk_eq _ 1 (fun z1 => ?_) (fun z1 => ?_))
      · rw [if_pos z] at fin; exact fin
      · rw [if_neg z, if_pos z1] at fin; exact fin
      · rw [if_neg z, if_neg z1] at fin; exact fin
  exact ⟨17, loop 16 0 rfl⟩
theorem zy_cover {post : Int32 → Prop} {u v : Nat} (hu : u < 10) (hv : v < 10) (K : post (zt_cv b_masks b_values u v 16)) : wpY_cover post (y_n, y_k, b_present, b_weight, b_masks, b_values, b_list, b_used, b_stack, b_chosen) (nI u) (nI v) := by
  have loop : ∀ d i, i + d = 16 → wY_cover_5 post (nI u) (nI v) y_n y_k b_present b_weight b_masks b_values b_list b_used b_stack b_chosen (d + 1) (zt_cv b_masks b_values u v i) (nI i) := by
    intro d
    induction d with
    | zero =>
      intro i hi
      obtain rfl : i = 16 := by omega
      exact pk_le 16 16 (fun _ => K) (fun z => absurd z (by omega))
    | succ d ih =>
      intro i hi
      have hii := vp_in_nI (n := i) (N := 16) (by omega) (by omega)
      have hc := zt_cle (b_masks i) 10
      have hn := ih (i + 1) (by omega)
      have e : zt_cv b_masks b_values u v (i + 1) = if zt_ct (b_masks i) u v = true then zt_cv b_masks b_values u v i + b_values i else zt_cv b_masks b_values u v i := rfl
      rw [e] at hn
      have e0 := zx_bit2 (b_masks i) (v := u) (by omega)
      have e1 := zx_bit2 (b_masks i) (v := v) (by omega)
      have yes : zt_ct (b_masks i) u v = true → ∀ x8 : Int32, ¬ x8 = 0 → wY_cover_118 post (wY_cover_5 post (nI u) (nI v) y_n y_k b_present b_weight b_masks b_values b_list b_used b_stack b_chosen (d + 1)) (nI u) (nI v) (zt_cv b_masks b_values u v i) (nI i) x8 y_n y_k b_present b_weight b_masks b_values b_list b_used b_stack b_chosen := fun q x8 hx => by
        rw [if_pos q] at hn
        refine br_f hx ⟨hii, ?_⟩
        rw [nI_clamp (n := i) (by omega)]
        exact nm_e (nm_r (nI_1 i) hn)
      have no : ¬ zt_ct (b_masks i) u v = true → wY_cover_118 post (wY_cover_5 post (nI u) (nI v) y_n y_k b_present b_weight b_masks b_values b_list b_used b_stack b_chosen (d + 1)) (nI u) (nI v) (zt_cv b_masks b_values u v i) (nI i) 0 y_n y_k b_present b_weight b_masks b_values b_list b_used b_stack b_chosen := fun q => by
        rw [if_neg q] at hn
        exact br_t rfl (nm_r (nI_1 i) hn)
      unfold zt_ct at yes no
      -- the last branch, by the number of bits
      have fin : ∀ x6 x7 z0 : Int32, (x6 = 0 ↔ bt (b_masks i) u = false) → (x7 = 0 ↔ bt (b_masks i) v = false) → (z0 = if (bt (b_masks i) u && bt (b_masks i) v) = true then 1 else 0) →
          wY_cover_82 post (wY_cover_5 post (nI u) (nI v) y_n y_k b_present b_weight b_masks b_values b_list b_used b_stack b_chosen (d + 1)) (nI u) (nI v) (zt_cv b_masks b_values u v i) (nI i) (nI (zt_c (b_masks i) 10)) x6 x7 z0 y_n y_k b_present b_weight b_masks b_values b_list b_used b_stack b_chosen := by
        intro x6 x7 z0 h6 h7 h0
        refine pk_eq _ 0 (fun z => ?_) (fun z => pk_eq _ 1 (fun z1 => ?_) (fun z1 => ?_))
        · rw [if_pos z] at yes
          exact yes rfl 1 (by decide)
        · rw [if_neg z, if_pos z1] at yes no
          refine br_c (fun y6 => br_c (fun y7 => ?_) (fun y7 => ?_)) (fun y6 => ?_)
          · rw [h6.mp y6, h7.mp y7] at no
            exact no (by decide)
          · refine yes ?_ 1 (by decide)
            have : bt (b_masks i) v = true := by
              cases q : bt (b_masks i) v
              · exact absurd (h7.mpr q) y7
              · rfl
            rw [this, Bool.or_true]
          · refine yes ?_ 1 (by decide)
            have : bt (b_masks i) u = true := by
              cases q : bt (b_masks i) u
              · exact absurd (h6.mpr q) y6
              · rfl
            rw [this, Bool.true_or]
        · rw [if_neg z, if_neg z1] at yes no
          by_cases q : (bt (b_masks i) u && bt (b_masks i) v) = true
          · rw [if_pos q] at h0
            rw [h0]; exact yes q 1 (by decide)
          · rw [if_neg q] at h0
            rw [h0]; exact no q
      refine pk_le 16 i (fun z => absurd z (by omega)) (fun _ => ⟨hii, ?_⟩)
      rw [nI_clamp (n := i) (by omega)]
      refine zy_bits10 ⟨hii, ?_⟩
      have mid : ∀ x6 : Int32, (x6 = 0 ↔ bt (b_masks i) u = false) → wY_cover_44 post (wY_cover_5 post (nI u) (nI v) y_n y_k b_present b_weight b_masks b_values b_list b_used b_stack b_chosen (d + 1)) (nI u) (nI v) (zt_cv b_masks b_values u v i) (nI i) (nI (zt_c (b_masks i) 10)) x6 y_n y_k b_present b_weight b_masks b_values b_list b_used b_stack b_chosen := by
        intro x6 h6
        refine ⟨hii, ?_⟩
        rw [nI_clamp (n := i) (by omega)]
        refine br_c (fun y => ?_) (fun y => ?_)
        · have y' := e1.mp y
          unfold wY_cover_65
          have f := fin x6 0 0 h6 ⟨fun _ => y', fun _ => rfl⟩ (by rw [y', Bool.and_false]; rfl)
          exact br_c (fun _ => f) (fun _ => br_t rfl f)
        · have y' : bt (b_masks i) v = true := by
            cases q : bt (b_masks i) v
            · exact absurd (e1.mpr q) y
            · rfl
          unfold wY_cover_65
          refine br_c (fun y6 => ?_) (fun y6 => br_f (by decide) ?_)
          · exact fin x6 1 0 h6 ⟨fun z => absurd z (by decide), fun z => by rw [y'] at z; exact absurd z (by decide)⟩ (by rw [h6.mp y6, Bool.false_and]; rfl)
          · have y6' : bt (b_masks i) u = true := by
              cases q : bt (b_masks i) u
              · exact absurd (h6.mpr q) y6
              · rfl
            exact fin x6 1 1 h6 ⟨fun z => absurd z (by decide), fun z => by rw [y'] at z; exact absurd z (by decide)⟩ (by rw [y', y6']; rfl)
      refine br_c (fun y => mid 0 ⟨fun _ => e0.mp y, fun _ => rfl⟩) (fun y => mid 1 ⟨fun z => absurd z (by decide), fun z => absurd (e0.mpr z) y⟩)
  exact ⟨17, loop 16 0 rfl⟩
end
end
section
/-! the relation -/
def zz_Rel (f_n f_k f_maxSize : Int32) (a_weight : Nat → Int32) (a_key : Nat → Int64) (a_slotMask a_slotValue a_bestMate a_bestWeight : Nat → Int32) (y_n y_k : Int32) (b_present b_weight b_masks b_values : Nat → Int32) : Prop :=
  ∃ (nn k ms : Nat) (p : Nat → Nat → Bool) (w : Nat → Nat → Int), zk_G nn p w ∧ f_n = nI nn ∧ y_n = nI nn ∧ f_k = nI k ∧ y_k = nI k ∧ k ≤ ms ∧ ms ≤ 5 ∧ f_maxSize = nI ms ∧ zk_X p w a_weight a_key ∧ zk_Y p w b_present b_weight ∧
    b_masks = a_slotMask ∧ b_values = a_slotValue ∧ (∀ j, j ≤ ms → zk_row p w j a_bestMate a_bestWeight) ∧ (∀ N, zm_M (zk_E p zn_N) N → zm_cov N ≤ 2 * (ms : Int))
/-- the relation at the head of a turn -/
def i_Rel (k : Nat) (u : SX) (v : SY) : Prop :=
  match u with
  | (f_outer, f_inner, f_n, f_k, f_maxSize, f_barred, f_stackSize, f_eventA, f_eventB, f_eventDelta, a_weight, a_key, a_slotMask, a_slotValue, a_bestMate, a_bestWeight, a_partner, a_dual, a_top, a_members, a_base, a_label, a_upFrom, a_upTo, a_head, a_next, a_nextFrom, a_nextTo, a_stack) => match v with
    | (y_n, y_k, b_present, b_weight, b_masks, b_values, b_list, b_used, b_stack, b_chosen) => zz_Rel f_n f_k f_maxSize a_weight a_key a_slotMask a_slotValue a_bestMate a_bestWeight y_n y_k b_present b_weight b_masks b_values
theorem i_up {k : Nat} {u : SX} {v : SY} (h : i_Rel k u v) : i_Rel (k + 4) u v := h
theorem zz_el {k : Nat} {u : SX} {v : SY} {P : SX → SY → Prop} (h : ∀ (f_outer f_inner f_n f_k f_maxSize f_barred f_stackSize f_eventA f_eventB : Int32) (f_eventDelta : Int64) (a_weight : Nat → Int32) (a_key : Nat → Int64) (a_slotMask a_slotValue a_bestMate a_bestWeight a_partner : Nat → Int32) (a_dual : Nat → Int64) (a_top a_members a_base a_label a_upFrom a_upTo a_head a_next a_nextFrom a_nextTo a_stack : Nat → Int32)
    (y_n y_k : Int32) (b_present b_weight b_masks b_values b_list b_used b_stack b_chosen : Nat → Int32), zz_Rel f_n f_k f_maxSize a_weight a_key a_slotMask a_slotValue a_bestMate a_bestWeight y_n y_k b_present b_weight b_masks b_values → P (f_outer, f_inner, f_n, f_k, f_maxSize, f_barred, f_stackSize, f_eventA, f_eventB, f_eventDelta, a_weight, a_key, a_slotMask, a_slotValue, a_bestMate, a_bestWeight, a_partner, a_dual, a_top, a_members, a_base, a_label, a_upFrom, a_upTo, a_head, a_next, a_nextFrom, a_nextTo, a_stack) (y_n, y_k, b_present, b_weight, b_masks, b_values, b_list, b_used, b_stack, b_chosen)) (I : i_Rel k u v) : P u v := by
  obtain ⟨f_outer, f_inner, f_n, f_k, f_maxSize, f_barred, f_stackSize, f_eventA, f_eventB, f_eventDelta, a_weight, a_key, a_slotMask, a_slotValue, a_bestMate, a_bestWeight, a_partner, a_dual, a_top, a_members, a_base, a_label, a_upFrom, a_upTo, a_head, a_next, a_nextFrom, a_nextTo, a_stack⟩ := u
  obtain ⟨y_n, y_k, b_present, b_weight, b_masks, b_values, b_list, b_used, b_stack, b_chosen⟩ := v
  exact h _ _ _ _ _ _ _ _ _ _ _ _ _ _ _ _ _ _ _ _ _ _ _ _ _ _ _ _ _ _ _ _ _ _ _ _ _ _ _ I
theorem zm_Wb {w : Nat → Nat → Int} {p : Nat → Nat → Bool} {nn ex : Nat} (hG : zk_G nn p w) {m : Nat → Nat} (hM : zm_M (zk_E p ex) m) : -5000 ≤ zm_W w m ∧ zm_W w m ≤ 5000 := by
  have b : ∀ v, v < 10 → -500 ≤ (if v < m v then w v (m v) else 0) ∧ (if v < m v then w v (m v) else 0) ≤ 500 := fun v hv => by
    by_cases q : v < m v
    · rw [if_pos q]
      exact (hG.2.2.1 _ _ ((hM v hv).2.2 (by omega)).1).2.2.2
    · rw [if_neg q]; omega
  have e1 : zs_S (fun _ => (-500 : Int)) 10 = -5000 := by decide +kernel
  have e2 : zs_S (fun _ => (500 : Int)) 10 = 5000 := by decide +kernel
  rw [← e1, ← e2]
  exact ⟨zs_le 10 (fun v hv => (b v hv).1), zs_le 10 (fun v hv => (b v hv).2)⟩
theorem zm_cov0 {m : Nat → Nat} (h : zm_cov m = 0) : ∀ v, v < 10 → m v = v := by
  intro v hv
  by_cases q : m v = v
  · exact q
  · have := zs_term (f := fun v => if m v = v then 0 else 1) (k := v) 10 hv (fun i _ => by split <;> omega)
    have e : zs_S (fun v => if m v = v then 0 else 1) 10 = 0 := h
    simp only [if_neg q] at this
    omega
theorem zm_id (E : Nat → Nat → Prop) : zm_M E (fun v => v) ∧ zm_cov (fun v => v) = 0 := ⟨fun v hv => ⟨hv, rfl, fun z => absurd rfl z⟩, zs_z 10 (fun v _ => if_pos rfl)⟩
section
variable {y_n y_k : Int32} {b_present b_weight b_masks b_values b_list b_used b_stack b_chosen : Nat → Int32}
theorem zz_s {post : Int32 → SY → Prop} {nn ex s : Nat} {p : Nat → Nat → Bool} {w : Nat → Nat → Int} (hG : zk_G nn p w) (hY : zk_Y p w b_present b_weight) (hn : y_n = nI nn) (hex : ex < 10 ∨ ex = zn_N) (h5 : s ≤ 5)
    (K : ∀ (r : Int32) (b_list' b_used' b_stack' b_chosen' : Nat → Int32), (∀ m, zk_B p w ex m → zm_cov m = 2 * (s : Int) → r.toInt = zm_W w m ∧ ∃ T, zy_ok T ∧ T.length = s ∧ (∀ v, v < 10 → zy_m T v = m v) ∧ ∀ j c, T[j]? = some c → b_chosen' j = nI c) →
      ((∀ N, zm_M (zk_E p ex) N → zm_cov N ≠ 2 * (s : Int)) → r = -100000) → post r (y_n, y_k, b_present, b_weight, b_masks, b_values, b_list', b_used', b_stack', b_chosen')) : wpY_search post (y_n, y_k, b_present, b_weight, b_masks, b_values, b_list, b_used, b_stack, b_chosen) (nI s) (nI ex) := by
  by_cases h0 : s = 0
  · subst h0
    refine br_t rfl (K 0 _ _ _ _ (fun m hB hc => ?_) (fun h => absurd ((zm_id (zk_E p ex)).2.trans (by omega)) (h _ (zm_id (zk_E p ex)).1)))
    have hm := zm_cov0 (by rw [hc]; rfl)
    refine ⟨?_, [], ⟨by simp, fun c hc => by simp at hc⟩, rfl, fun v hv => (hm v hv).symm, fun j c hj => by simp at hj⟩
    show (0 : Int) = zm_W w m
    refine (zs_z 10 (fun v hv => if_neg ?_)).symm
    rw [hm v hv]; omega
  · refine zy_search hG hY hn hex (by omega) h5 (fun r b_list' b_used' b_stack' b_chosen' h => K r _ _ _ _ (fun m hB hc => ?_) (fun hno => ?_))
    · rcases h with ⟨_, h2⟩ | ⟨T, t1, t2, t3, t4, t5, t6⟩
      · exact absurd hc (h2 m hB.1)
      · have k1 := t3.2 m hB.1 (by rw [hc, t4])
        have k2 := hB.2 _ t3.1 (by rw [hc, t4])
        have e := zk_uniq hG.2.2.2.2 t3.1 hB.1 (by omega)
        exact ⟨by rw [t5, zm_Wc w e], T, t1, t2, e, t6⟩
    · rcases h with ⟨h1, _⟩ | ⟨T, t1, t2, t3, t4, _⟩
      · exact h1
      · exact absurd t4 (hno _ t3.1)
theorem zy_isV1 {post : Int32 → Prop} {nn a : Nat} (hn : y_n = nI nn) (hnn : nn ≤ 10) (ha : a < nn) (K : post 1) : wpY_isVertex post (y_n, y_k, b_present, b_weight, b_masks, b_values, b_list, b_used, b_stack, b_chosen) (nI a) := by
  subst hn
  exact br_f (nI_pos (by omega)) (br_f (nI_ge ha (by omega)) K)
theorem zy_isV0 {post : Int32 → Prop} {nn : Nat} {x : Int32} (hn : y_n = nI nn) (hnn : nn ≤ 10) (hx : ¬ ∃ a, a < nn ∧ x = nI a) (K : post 0) : wpY_isVertex post (y_n, y_k, b_present, b_weight, b_masks, b_values, b_list, b_used, b_stack, b_chosen) x := by
  subst hn
  refine br_c (fun _ => K) (fun z => ?_)
  obtain ⟨j, hj, rfl⟩ := nI_of z
  exact br_t (nI_le (by rcases Nat.lt_or_ge j nn with q | q; exact absurd ⟨j, q, rfl⟩ hx; exact q) hj) K
theorem zy_isP1 {post : Int32 → Prop} {nn a b : Nat} (hn : y_n = nI nn) (hnn : nn ≤ 10) (ha : a < nn) (hb : b < nn) (hab : a ≠ b) (K : post 1) : wpY_isPair post (y_n, y_k, b_present, b_weight, b_masks, b_values, b_list, b_used, b_stack, b_chosen) (nI a) (nI b) := by
  unfold wpY_isPair
  dsimp only
  refine zy_isV1 hn hnn ha (br_f (by decide) ?_)
  refine zy_isV1 hn hnn hb (br_f (by decide) (br_f (fun z => hab ((nI_eq (by omega) (by omega)).mp z)) K))
theorem zy_isP0 {post : Int32 → Prop} {nn : Nat} {x y : Int32} (hn : y_n = nI nn) (hnn : nn ≤ 10) (hx : ¬ ∃ a b, a < nn ∧ b < nn ∧ a ≠ b ∧ x = nI a ∧ y = nI b) (K : post 0) : wpY_isPair post (y_n, y_k, b_present, b_weight, b_masks, b_values, b_list, b_used, b_stack, b_chosen) x y := by
  unfold wpY_isPair
  dsimp only
  by_cases h1 : ∃ a, a < nn ∧ x = nI a
  · obtain ⟨a, ha, rfl⟩ := h1
    refine zy_isV1 hn hnn ha (br_f (by decide) ?_)
    by_cases h2 : ∃ b, b < nn ∧ y = nI b
    · obtain ⟨b, hb, rfl⟩ := h2
      refine zy_isV1 hn hnn hb (br_f (by decide) (br_t ?_ K))
      by_cases q : a = b
      · rw [q]
      · exact absurd ⟨a, b, ha, hb, q, rfl, rfl⟩ hx
    · exact zy_isV0 hn hnn h2 (br_t rfl K)
  · exact zy_isV0 hn hnn h1 (br_t rfl K)
theorem zy_code {post : Int32 → Prop} {a b : Nat} (ha : a < 10) (hb : b < 10) (hab : a ≠ b) (K : ∀ lo hi, lo < hi → ((lo = a ∧ hi = b) ∨ (lo = b ∧ hi = a)) → post (nI (lo * 10 + hi))) : wpY_code post (y_n, y_k, b_present, b_weight, b_masks, b_values, b_list, b_used, b_stack, b_chosen) (nI a) (nI b) := by
  have hc : ∀ x y : Nat, nI x * 10 + nI y = nI (x * 10 + y) := fun x y => by
    rw [show (10 : Int32) = nI 10 from rfl, pk_mul, nI_add]
  unfold wpY_code
  dsimp only
  rw [hc, hc]
  exact pk_le b a (fun z => K b a (by omega) (Or.inr ⟨rfl, rfl⟩)) (fun z => K a b z (Or.inl ⟨rfl, rfl⟩))
end
section
variable {f_outer f_inner f_n f_k f_maxSize f_barred f_stackSize f_eventA f_eventB : Int32} {f_eventDelta : Int64} {a_weight : Nat → Int32} {a_key : Nat → Int64} {a_slotMask a_slotValue a_bestMate a_bestWeight a_partner : Nat → Int32} {a_dual : Nat → Int64} {a_top a_members a_base a_label a_upFrom a_upTo a_head a_next a_nextFrom a_nextTo a_stack : Nat → Int32}
theorem zx_badV1 {post : Int32 → Prop} {nn a : Nat} (hn : f_n = nI nn) (hnn : nn ≤ 10) (ha : a < nn) (K : post 0) : wpX_badVertex post (f_outer, f_inner, f_n, f_k, f_maxSize, f_barred, f_stackSize, f_eventA, f_eventB, f_eventDelta, a_weight, a_key, a_slotMask, a_slotValue, a_bestMate, a_bestWeight, a_partner, a_dual, a_top, a_members, a_base, a_label, a_upFrom, a_upTo, a_head, a_next, a_nextFrom, a_nextTo, a_stack) (nI a) := by
  subst hn
  exact br_f (nI_pos (by omega)) (br_t (nI_lt ha (by omega)) K)
theorem zx_badV0 {post : Int32 → Prop} {nn : Nat} {x : Int32} (hn : f_n = nI nn) (hnn : nn ≤ 10) (hx : ¬ ∃ a, a < nn ∧ x = nI a) (K : post 1) : wpX_badVertex post (f_outer, f_inner, f_n, f_k, f_maxSize, f_barred, f_stackSize, f_eventA, f_eventB, f_eventDelta, a_weight, a_key, a_slotMask, a_slotValue, a_bestMate, a_bestWeight, a_partner, a_dual, a_top, a_members, a_base, a_label, a_upFrom, a_upTo, a_head, a_next, a_nextFrom, a_nextTo, a_stack) x := by
  subst hn
  refine br_c (fun _ => K) (fun z => ?_)
  obtain ⟨j, hj, rfl⟩ := nI_of z
  exact br_f (nI_nlt (by rcases Nat.lt_or_ge j nn with q | q; exact absurd ⟨j, q, rfl⟩ hx; exact q) hj) K
theorem zx_badP1 {post : Int32 → Prop} {nn a b : Nat} (hn : f_n = nI nn) (hnn : nn ≤ 10) (ha : a < nn) (hb : b < nn) (hab : a ≠ b) (K : post 0) : wpX_badPair post (f_outer, f_inner, f_n, f_k, f_maxSize, f_barred, f_stackSize, f_eventA, f_eventB, f_eventDelta, a_weight, a_key, a_slotMask, a_slotValue, a_bestMate, a_bestWeight, a_partner, a_dual, a_top, a_members, a_base, a_label, a_upFrom, a_upTo, a_head, a_next, a_nextFrom, a_nextTo, a_stack) (nI a) (nI b) := by
  unfold wpX_badPair
  dsimp only
  refine zx_badV1 hn hnn ha (br_t rfl ?_)
  refine zx_badV1 hn hnn hb (br_t rfl (br_f (fun z => hab ((nI_eq (by omega) (by omega)).mp z)) K))
theorem zx_badP0 {post : Int32 → Prop} {nn : Nat} {x y : Int32} (hn : f_n = nI nn) (hnn : nn ≤ 10) (hx : ¬ ∃ a b, a < nn ∧ b < nn ∧ a ≠ b ∧ x = nI a ∧ y = nI b) (K : post 1) : wpX_badPair post (f_outer, f_inner, f_n, f_k, f_maxSize, f_barred, f_stackSize, f_eventA, f_eventB, f_eventDelta, a_weight, a_key, a_slotMask, a_slotValue, a_bestMate, a_bestWeight, a_partner, a_dual, a_top, a_members, a_base, a_label, a_upFrom, a_upTo, a_head, a_next, a_nextFrom, a_nextTo, a_stack) x y := by
  unfold wpX_badPair
  dsimp only
  by_cases h1 : ∃ a, a < nn ∧ x = nI a
  · obtain ⟨a, ha, rfl⟩ := h1
    refine zx_badV1 hn hnn ha (br_t rfl ?_)
    by_cases h2 : ∃ b, b < nn ∧ y = nI b
    · obtain ⟨b, hb, rfl⟩ := h2
      refine zx_badV1 hn hnn hb (br_t rfl (br_t ?_ K))
      by_cases q : a = b
      · rw [q]
      · exact absurd ⟨a, b, ha, hb, q, rfl, rfl⟩ hx
    · exact zx_badV0 hn hnn h2 (br_f (by decide) K)
  · exact zx_badV0 hn hnn h1 (br_f (by decide) K)
end
/-! the small methods -/
theorem i_vc_edge {k : Nat} {u : SX} {v : SY} (I : i_Rel k u v) (hk : k + 4 ≤ 2049) (v1 : Int32) (v2 : Int32) : wpX_edge (fun r => wpY_edge (fun r' => r' = r ∧ i_Rel (k + 4) u v) v v1 v2) u v1 v2 := by
  refine zz_el (P := fun u v => wpX_edge (fun r => wpY_edge (fun r' => r' = r ∧ i_Rel (k + 4) u v) v v1 v2) u v1 v2) ?_ I
  intro f_outer f_inner f_n f_k f_maxSize f_barred f_stackSize f_eventA f_eventB f_eventDelta a_weight a_key a_slotMask a_slotValue a_bestMate a_bestWeight a_partner a_dual a_top a_members a_base a_label a_upFrom a_upTo a_head a_next a_nextFrom a_nextTo a_stack y_n y_k b_present b_weight b_masks b_values b_list b_used b_stack b_chosen hR
  have hR' := hR
  obtain ⟨nn, kk, ms, p, w, hG, hn, hyn, hfk, hyk, hkm, hm5, hms, hX, hY, hma, hva, hrow, hmax⟩ := hR'
  have g2 := hG.2.1
  unfold wpX_edge wpY_edge
  dsimp only
  by_cases q : ∃ a b, a < nn ∧ b < nn ∧ a ≠ b ∧ v1 = nI a ∧ v2 = nI b
  · obtain ⟨a, b, ha, hb, hab, rfl, rfl⟩ := q
    have hc : nI a * 10 + nI b = nI (a * 10 + b) := by
      rw [show (10 : Int32) = nI 10 from rfl, pk_mul, nI_add]
    refine zx_badP1 hn g2 ha hb hab (br_t rfl ?_)
    rw [hc, nI_clamp (n := a * 10 + b) (by omega)]
    refine ⟨vp_in_nI (by omega) (by omega), ?_⟩
    refine zy_isP1 hyn g2 ha hb hab (br_f (by decide) ?_)
    refine zy_code (by omega) (by omega) hab (fun lo hi hlt hlh => ?_)
    have hpl : p lo hi = p a b ∧ w lo hi = w a b := by
      rcases hlh with ⟨e1, e2⟩ | ⟨e1, e2⟩
      · rw [e1, e2]; exact ⟨rfl, rfl⟩
      · rw [e1, e2]; exact ⟨hG.2.2.2.1 b a, hG.2.2.2.2 b a⟩
    have hhi : hi < 10 := by omega
    refine ⟨vp_in_nI (by omega) (by omega), ?_⟩
    rw [nI_clamp (n := lo * 10 + hi) (by omega)]
    have hx := hX a b (by omega) (by omega)
    have hy := hY lo hi hlt hhi
    rw [hpl.1, hpl.2] at hy
    by_cases z : p a b = true
    · rw [(hy.1 z).1]
      refine br_f (by decide) ⟨vp_in_nI (by omega) (by omega), ?_, hR⟩
      exact Int32.toInt_inj.mp ((hy.1 z).2.trans (hx.1 z).1.symm)
    · rw [hy.2 z]
      exact br_t rfl ⟨(hx.2 z).symm, hR⟩
  · exact zx_badP0 hn g2 q (br_f (by decide) (zy_isP0 hyn g2 q (br_t rfl ⟨rfl, hR⟩)))
theorem i_vc_shrink {k : Nat} {u : SX} {v : SY} (I : i_Rel k u v) (hk : k + 4 ≤ 2049) : wpX_shrink (fun r u' => wpY_shrink (fun r' v' => r' = r ∧ i_Rel (k + 4) u' v') v) u := by
  refine zz_el (P := fun u v => wpX_shrink (fun r u' => wpY_shrink (fun r' v' => r' = r ∧ i_Rel (k + 4) u' v') v) u) ?_ I
  intro f_outer f_inner f_n f_k f_maxSize f_barred f_stackSize f_eventA f_eventB f_eventDelta a_weight a_key a_slotMask a_slotValue a_bestMate a_bestWeight a_partner a_dual a_top a_members a_base a_label a_upFrom a_upTo a_head a_next a_nextFrom a_nextTo a_stack y_n y_k b_present b_weight b_masks b_values b_list b_used b_stack b_chosen hR
  have hR' := hR
  obtain ⟨nn, kk, ms, p, w, hG, hn, hyn, hfk, hyk, hkm, hm5, hms, hX, hY, hma, hva, hrow, hmax⟩ := hR'
  unfold wpX_shrink wpY_shrink
  dsimp only
  cases kk with
  | zero =>
    rw [hfk, hyk]
    refine br_f (by decide) (br_f (by decide) ⟨rfl, ?_⟩)
    exact (show zz_Rel _ _ _ _ _ _ _ _ _ _ _ _ _ _ _ from ⟨nn, 0, ms, p, w, hG, hn, hyn, rfl, rfl, hkm, hm5, hms, hX, hY, hma, hva, hrow, hmax⟩)
  | succ kk =>
    rw [hfk, hyk]
    refine br_t (nI_lt (a := 0) (by omega) (by omega)) (nm_r (nI_pred kk) (br_t (nI_lt (a := 0) (by omega) (by omega)) (nm_r (nI_pred kk) ⟨rfl, ?_⟩)))
    exact (show zz_Rel _ _ _ _ _ _ _ _ _ _ _ _ _ _ _ from ⟨nn, kk, ms, p, w, hG, hn, hyn, rfl, rfl, by omega, hm5, hms, hX, hY, hma, hva, hrow, hmax⟩)
theorem i_vc_size {k : Nat} {u : SX} {v : SY} (I : i_Rel k u v) (hk : k + 4 ≤ 2049) : wpX_size (fun r => wpY_size (fun r' => r' = r ∧ i_Rel (k + 4) u v) v) u := by
  refine zz_el (P := fun u v => wpX_size (fun r => wpY_size (fun r' => r' = r ∧ i_Rel (k + 4) u v) v) u) ?_ I
  intro f_outer f_inner f_n f_k f_maxSize f_barred f_stackSize f_eventA f_eventB f_eventDelta a_weight a_key a_slotMask a_slotValue a_bestMate a_bestWeight a_partner a_dual a_top a_members a_base a_label a_upFrom a_upTo a_head a_next a_nextFrom a_nextTo a_stack y_n y_k b_present b_weight b_masks b_values b_list b_used b_stack b_chosen hR
  have hR' := hR
  obtain ⟨nn, kk, ms, p, w, hG, hn, hyn, hfk, hyk, _⟩ := hR'
  exact ⟨hyk.trans hfk.symm, hR⟩
end
section
/-! more small methods -/
theorem i_vc_grow {k : Nat} {u : SX} {v : SY} (I : i_Rel k u v) (hk : k + 4 ≤ 2049) : wpX_grow (fun r u' => wpY_grow (fun r' v' => r' = r ∧ i_Rel (k + 4) u' v') v) u := by
  refine zz_el (P := fun u v => wpX_grow (fun r u' => wpY_grow (fun r' v' => r' = r ∧ i_Rel (k + 4) u' v') v) u) ?_ I
  intro f_outer f_inner f_n f_k f_maxSize f_barred f_stackSize f_eventA f_eventB f_eventDelta a_weight a_key a_slotMask a_slotValue a_bestMate a_bestWeight a_partner a_dual a_top a_members a_base a_label a_upFrom a_upTo a_head a_next a_nextFrom a_nextTo a_stack y_n y_k b_present b_weight b_masks b_values b_list b_used b_stack b_chosen hR
  have hR0 := hR
  obtain ⟨nn, kk, ms, p, w, hG, hn, hyn, hfk, hyk, hkm, hm5, hms, hX, hY, hma, hva, hrow, hmax⟩ := hR0
  have g2 := hG.2.1
  subst hfk hyk hms
  unfold wpX_grow wpY_grow
  dsimp only
  refine pk_lt kk ms (fun h => nm_r (nI_1 kk) ?_) (fun h => ?_)
  · rw [nI_1, ← zn_eq]
    refine zz_s hG hY hyn (Or.inr rfl) (by omega) (fun r b_list' b_used' b_stack' b_chosen' s1 s2 => ?_)
    obtain ⟨m, r1, r2, r3, r4⟩ := hrow (kk + 1) (by omega)
    have hr := (s1 m r1 r2).1
    have hb := zm_Wb hG r1.1
    refine br_f (fun z => ?_) (nm_r (nI_1 kk) ⟨rfl, ?_⟩)
    · rw [z, show (-100000 : Int32).toInt = -100000 from by decide] at hr
      omega
    · exact (show zz_Rel _ _ _ _ _ _ _ _ _ _ _ _ _ _ _ from ⟨nn, kk + 1, ms, p, w, hG, hn, hyn, rfl, rfl, by omega, hm5, rfl, hX, hY, hma, hva, hrow, hmax⟩)
  · rw [nI_1]
    by_cases q : kk = 5
    · subst q
      exact br_f (by decide) (br_f (by decide) (br_f (by decide) (br_t rfl ⟨rfl, hR⟩)))
    · rw [← zn_eq]
      refine zz_s hG hY hyn (Or.inr rfl) (by omega) (fun r b_list' b_used' b_stack' b_chosen' s1 s2 => ?_)
      refine br_t (s2 (fun N hN hc => ?_)) ⟨rfl, hR⟩
      have := hmax N hN
      omega
theorem i_vc_total {k : Nat} {u : SX} {v : SY} (I : i_Rel k u v) (hk : k + 4 ≤ 2049) : wpX_total (fun r => wpY_total (fun r' v' => r' = r ∧ i_Rel (k + 4) u v') v) u := by
  refine zz_el (P := fun u v => wpX_total (fun r => wpY_total (fun r' v' => r' = r ∧ i_Rel (k + 4) u v') v) u) ?_ I
  intro f_outer f_inner f_n f_k f_maxSize f_barred f_stackSize f_eventA f_eventB f_eventDelta a_weight a_key a_slotMask a_slotValue a_bestMate a_bestWeight a_partner a_dual a_top a_members a_base a_label a_upFrom a_upTo a_head a_next a_nextFrom a_nextTo a_stack y_n y_k b_present b_weight b_masks b_values b_list b_used b_stack b_chosen hR
  have hR0 := hR
  obtain ⟨nn, kk, ms, p, w, hG, hn, hyn, hfk, hyk, hkm, hm5, hms, hX, hY, hma, hva, hrow, hmax⟩ := hR0
  have g2 := hG.2.1
  subst hfk hyk hms
  unfold wpX_total wpY_total
  dsimp only
  refine ⟨vp_in_nI (by omega) (by omega), ?_⟩
  rw [nI_clamp (n := kk) (by omega), ← zn_eq]
  refine zz_s hG hY hyn (Or.inr rfl) (by omega) (fun r b_list' b_used' b_stack' b_chosen' s1 s2 => ?_)
  obtain ⟨m, r1, r2, r3, r4⟩ := hrow kk hkm
  exact ⟨Int32.toInt_inj.mp ((s1 m r1 r2).1.trans r4.symm), hR⟩
section
variable {y_n y_k : Int32} {b_present b_weight b_masks b_values b_list b_used b_stack b_chosen : Nat → Int32}
theorem zy_mate23 {post : Int32 → SY → Prop} {kk x : Nat} {T : List Nat} (hT : zy_ok T) (hl : T.length = kk) (h5 : kk ≤ 5) (hx : x < 10) (hc : ∀ j c, T[j]? = some c → b_chosen j = nI c) (hk : y_k = nI kk) (K : post (if zy_m T x = x then -1 else nI (zy_m T x)) (y_n, y_k, b_present, b_weight, b_masks, b_values, b_list, b_used, b_stack, b_chosen)) :
    ∀ d i, i + d = kk → (∀ j c, j < i → T[j]? = some c → x ≠ c / 10 ∧ x ≠ c % 10) → wY_mate_23 post (nI x) y_n y_k b_present b_weight b_masks b_values b_list b_used b_stack b_chosen (d + 1) (nI i) := by
  subst hk
  intro d
  induction d with
  | zero =>
    intro i hi h
    refine pk_le kk i (fun _ => ?_) (fun z => absurd z (by omega))
    rw [if_pos (zy_m1 T x (fun c hcT => ?_))] at K
    · exact K
    · obtain ⟨j, hj⟩ := List.mem_iff_getElem?.mp hcT
      refine h j c ?_ hj
      rcases Nat.lt_or_ge j T.length with q | q
      · omega
      · rw [List.getElem?_eq_none q] at hj; exact absurd hj (by simp)
  | succ d ih =>
    intro i hi h
    have hii := vp_in_nI (n := i) (N := 5) (by omega) (by omega)
    have hTi : T[i]? = some T[i] := List.getElem?_eq_getElem (by omega)
    generalize T[i] = c at hTi
    have hcT : c ∈ T := List.mem_iff_getElem?.mpr ⟨i, hTi⟩
    have hcv := hT.2 c hcT
    obtain ⟨m1, m2⟩ := zy_m2 T hT c hcT
    obtain ⟨d1, d2⟩ := zy_n10 (c := c) (by omega)
    refine pk_le kk i (fun z => absurd z (by omega)) (fun _ => pk_le 5 i (fun z => absurd z (by omega)) (fun _ => ⟨hii, by decide, ?_⟩))
    rw [nI_clamp (n := i) (by omega), hc i c hTi, d2, d1]
    refine nm_e ⟨hii, by decide, nm_e (pk_eq (c / 10) x (fun z => ?_) (fun z => pk_eq (c % 10) x (fun z1 => ?_) (fun z1 => nm_r (nI_1 i) (ih (i + 1) (by omega) (fun j e hj hje => ?_)))))⟩
    · rw [← z, m1, if_neg (by omega)] at K
      exact K
    · rw [← z1, m2, if_neg (by omega)] at K
      exact K
    · by_cases q : j = i
      · subst q
        rw [hTi] at hje
        obtain rfl := Option.some.inj hje
        exact ⟨fun y => z y.symm, fun y => z1 y.symm⟩
      · exact h j e (by omega) hje
end
theorem i_vc_mate {k : Nat} {u : SX} {v : SY} (I : i_Rel k u v) (hk : k + 4 ≤ 2049) (v1 : Int32) : wpX_mate (fun r => wpY_mate (fun r' v' => r' = r ∧ i_Rel (k + 4) u v') v v1) u v1 := by
  refine zz_el (P := fun u v => wpX_mate (fun r => wpY_mate (fun r' v' => r' = r ∧ i_Rel (k + 4) u v') v v1) u v1) ?_ I
  intro f_outer f_inner f_n f_k f_maxSize f_barred f_stackSize f_eventA f_eventB f_eventDelta a_weight a_key a_slotMask a_slotValue a_bestMate a_bestWeight a_partner a_dual a_top a_members a_base a_label a_upFrom a_upTo a_head a_next a_nextFrom a_nextTo a_stack y_n y_k b_present b_weight b_masks b_values b_list b_used b_stack b_chosen hR
  have hR0 := hR
  obtain ⟨nn, kk, ms, p, w, hG, hn, hyn, hfk, hyk, hkm, hm5, hms, hX, hY, hma, hva, hrow, hmax⟩ := hR0
  have g2 := hG.2.1
  subst hfk hyk hms
  unfold wpX_mate wpY_mate
  dsimp only
  by_cases q : ∃ a, a < nn ∧ v1 = nI a
  · obtain ⟨a, ha, rfl⟩ := q
    have hc : nI kk * 10 + nI a = nI (kk * 10 + a) := by
      rw [show (10 : Int32) = nI 10 from rfl, pk_mul, nI_add]
    refine zx_badV1 hn g2 ha (br_t rfl ?_)
    rw [hc, nI_clamp (n := kk * 10 + a) (by omega)]
    refine ⟨vp_in_nI (by omega) (by omega), ?_⟩
    refine zy_isV1 hyn g2 ha (br_f (by decide) ?_)
    rw [← zn_eq]
    refine zz_s hG hY hyn (Or.inr rfl) (by omega) (fun r b_list' b_used' b_stack' b_chosen' s1 s2 => ?_)
    obtain ⟨m, r1, r2, r3, r4⟩ := hrow kk hkm
    obtain ⟨_, T, t1, t2, t3, t4⟩ := s1 m r1 r2
    refine ⟨kk + 1, zy_mate23 t1 t2 (by omega) (by omega) t4 rfl ⟨?_, hR⟩ kk 0 (by omega) (fun j c hj => by omega)⟩
    rw [r3 a (by omega), t3 a (by omega)]
  · exact zx_badV0 hn g2 q (br_f (by decide) (zy_isV0 hyn g2 q (br_t rfl ⟨rfl, hR⟩)))
theorem i_vc_weightAt {k : Nat} {u : SX} {v : SY} (I : i_Rel k u v) (hk : k + 4 ≤ 2049) (v1 : Int32) : wpX_weightAt (fun r => wpY_weightAt (fun r' v' => r' = r ∧ i_Rel (k + 4) u v') v v1) u v1 := by
  refine zz_el (P := fun u v => wpX_weightAt (fun r => wpY_weightAt (fun r' v' => r' = r ∧ i_Rel (k + 4) u v') v v1) u v1) ?_ I
  intro f_outer f_inner f_n f_k f_maxSize f_barred f_stackSize f_eventA f_eventB f_eventDelta a_weight a_key a_slotMask a_slotValue a_bestMate a_bestWeight a_partner a_dual a_top a_members a_base a_label a_upFrom a_upTo a_head a_next a_nextFrom a_nextTo a_stack y_n y_k b_present b_weight b_masks b_values b_list b_used b_stack b_chosen hR
  have hR0 := hR
  obtain ⟨nn, kk, ms, p, w, hG, hn, hyn, hfk, hyk, hkm, hm5, hms, hX, hY, hma, hva, hrow, hmax⟩ := hR0
  have g2 := hG.2.1
  subst hfk hyk hms
  unfold wpX_weightAt wpY_weightAt
  dsimp only
  by_cases q : 0 ≤ v1
  · obtain ⟨j, hj, rfl⟩ := nI_of (x := v1) (Int32.not_lt.mpr q)
    by_cases j5 : j ≤ 5
    · refine br_t q (pk_le j ms (fun h => ⟨vp_in_nI (by omega) (by omega), ?_⟩) (fun h => br_t q ?_))
      · rw [nI_clamp (n := j) (by omega)]
        refine br_t q ?_
        rw [← zn_eq]
        refine zz_s hG hY hyn (Or.inr rfl) j5 (fun r b_list' b_used' b_stack' b_chosen' s1 s2 => ?_)
        obtain ⟨m, r1, r2, r3, r4⟩ := hrow j h
        exact ⟨Int32.toInt_inj.mp ((s1 m r1 r2).1.trans r4.symm), hR⟩
      · rw [← zn_eq]
        refine zz_s hG hY hyn (Or.inr rfl) j5 (fun r b_list' b_used' b_stack' b_chosen' s1 s2 => ?_)
        refine ⟨s2 (fun N hN hc => ?_), hR⟩
        have := hmax N hN
        omega
    · refine br_t q (pk_le j ms (fun h => absurd h (by omega)) (fun h => br_t q ?_))
      unfold wpY_search
      dsimp only
      exact br_f (nI_ne0 (by omega) hj) (br_f (nI_pos hj) (br_f (nI_ge (b := j) (a := 5) (by omega) hj) ⟨rfl, hR⟩))
  · exact br_f q (br_f q ⟨rfl, hR⟩)
theorem i_vc_bound {k : Nat} {u : SX} {v : SY} (I : i_Rel k u v) (hk : k + 4 ≤ 2049) : wpX_bound (fun r => wpY_bound (fun r' => r' = r ∧ i_Rel (k + 4) u v) v) u := by
  refine zz_el (P := fun u v => wpX_bound (fun r => wpY_bound (fun r' => r' = r ∧ i_Rel (k + 4) u v) v) u) ?_ I
  intro f_outer f_inner f_n f_k f_maxSize f_barred f_stackSize f_eventA f_eventB f_eventDelta a_weight a_key a_slotMask a_slotValue a_bestMate a_bestWeight a_partner a_dual a_top a_members a_base a_label a_upFrom a_upTo a_head a_next a_nextFrom a_nextTo a_stack y_n y_k b_present b_weight b_masks b_values b_list b_used b_stack b_chosen hR
  have hR0 := hR
  obtain ⟨nn, kk, ms, p, w, hG, hn, hyn, hfk, hyk, hkm, hm5, hms, hX, hY, hma, hva, hrow, hmax⟩ := hR0
  have g2 := hG.2.1
  refine zx_bound (zy_bound ⟨?_, hR⟩)
  rw [hma, hva, hfk, hyk]
theorem i_vc_termMask {k : Nat} {u : SX} {v : SY} (I : i_Rel k u v) (hk : k + 4 ≤ 2049) (v1 : Int32) : wpX_termMask (fun r => wpY_termMask (fun r' => r' = r ∧ i_Rel (k + 4) u v) v v1) u v1 := by
  refine zz_el (P := fun u v => wpX_termMask (fun r => wpY_termMask (fun r' => r' = r ∧ i_Rel (k + 4) u v) v v1) u v1) ?_ I
  intro f_outer f_inner f_n f_k f_maxSize f_barred f_stackSize f_eventA f_eventB f_eventDelta a_weight a_key a_slotMask a_slotValue a_bestMate a_bestWeight a_partner a_dual a_top a_members a_base a_label a_upFrom a_upTo a_head a_next a_nextFrom a_nextTo a_stack y_n y_k b_present b_weight b_masks b_values b_list b_used b_stack b_chosen hR
  have hR0 := hR
  obtain ⟨nn, kk, ms, p, w, hG, hn, hyn, hfk, hyk, hkm, hm5, hms, hX, hY, hma, hva, hrow, hmax⟩ := hR0
  have g2 := hG.2.1
  unfold wpX_termMask wpY_termMask wpX_badSlot
  dsimp only
  by_cases q0 : v1 < 0
  · exact br_t q0 (br_f (by decide) (br_t q0 ⟨rfl, hR⟩))
  · by_cases q1 : v1 ≤ 15
    · obtain ⟨j, hj, rfl⟩ := nI_of2 (M := 15) (n := 15) (by decide) q0 q1
      have hji := vp_in_nI (n := j) (N := 16) (by omega) (by omega)
      exact br_f q0 (br_t q1 (br_t rfl ⟨hji, br_f q0 (br_t q1 ⟨hji, by rw [hma], hR⟩)⟩))
    · exact br_f q0 (br_f q1 (br_f (by decide) (br_f q0 (br_f q1 ⟨rfl, hR⟩))))
theorem i_vc_termValue {k : Nat} {u : SX} {v : SY} (I : i_Rel k u v) (hk : k + 4 ≤ 2049) (v1 : Int32) : wpX_termValue (fun r => wpY_termValue (fun r' => r' = r ∧ i_Rel (k + 4) u v) v v1) u v1 := by
  refine zz_el (P := fun u v => wpX_termValue (fun r => wpY_termValue (fun r' => r' = r ∧ i_Rel (k + 4) u v) v v1) u v1) ?_ I
  intro f_outer f_inner f_n f_k f_maxSize f_barred f_stackSize f_eventA f_eventB f_eventDelta a_weight a_key a_slotMask a_slotValue a_bestMate a_bestWeight a_partner a_dual a_top a_members a_base a_label a_upFrom a_upTo a_head a_next a_nextFrom a_nextTo a_stack y_n y_k b_present b_weight b_masks b_values b_list b_used b_stack b_chosen hR
  have hR0 := hR
  obtain ⟨nn, kk, ms, p, w, hG, hn, hyn, hfk, hyk, hkm, hm5, hms, hX, hY, hma, hva, hrow, hmax⟩ := hR0
  have g2 := hG.2.1
  unfold wpX_termValue wpY_termValue wpX_badSlot
  dsimp only
  by_cases q0 : v1 < 0
  · exact br_t q0 (br_f (by decide) (br_t q0 ⟨rfl, hR⟩))
  · by_cases q1 : v1 ≤ 15
    · obtain ⟨j, hj, rfl⟩ := nI_of2 (M := 15) (n := 15) (by decide) q0 q1
      have hji := vp_in_nI (n := j) (N := 16) (by omega) (by omega)
      exact br_f q0 (br_t q1 (br_t rfl ⟨hji, br_f q0 (br_t q1 ⟨hji, by rw [hva], hR⟩)⟩))
    · exact br_f q0 (br_f q1 (br_f (by decide) (br_f q0 (br_f q1 ⟨rfl, hR⟩))))
theorem i_vc_setTerm {k : Nat} {u : SX} {v : SY} (I : i_Rel k u v) (hk : k + 4 ≤ 2049) (v1 : Int32) (v2 : Int32) (v3 : Int32) : wpX_setTerm (fun r u' => wpY_setTerm (fun r' v' => r' = r ∧ i_Rel (k + 4) u' v') v v1 v2 v3) u v1 v2 v3 := by
  refine zz_el (P := fun u v => wpX_setTerm (fun r u' => wpY_setTerm (fun r' v' => r' = r ∧ i_Rel (k + 4) u' v') v v1 v2 v3) u v1 v2 v3) ?_ I
  intro f_outer f_inner f_n f_k f_maxSize f_barred f_stackSize f_eventA f_eventB f_eventDelta a_weight a_key a_slotMask a_slotValue a_bestMate a_bestWeight a_partner a_dual a_top a_members a_base a_label a_upFrom a_upTo a_head a_next a_nextFrom a_nextTo a_stack y_n y_k b_present b_weight b_masks b_values b_list b_used b_stack b_chosen hR
  have hR0 := hR
  obtain ⟨nn, kk, ms, p, w, hG, hn, hyn, hfk, hyk, hkm, hm5, hms, hX, hY, hma, hva, hrow, hmax⟩ := hR0
  have g2 := hG.2.1
  unfold wpX_setTerm wpX_badSlot
  dsimp only
  by_cases q0 : v1 < 0
  · exact br_t q0 (br_f (by decide) (br_t q0 ⟨rfl, hR⟩))
  · by_cases q1 : v1 ≤ 15
    · have q1' : ¬ 15 < v1 := Int32.not_lt.mpr q1
      obtain ⟨j, hj, rfl⟩ := nI_of2 (M := 15) (n := 15) (by decide) q0 q1
      have hji := vp_in_nI (n := j) (N := 16) (by omega) (by omega)
      refine br_f q0 (br_t q1 (br_t rfl ?_))
      by_cases q2 : v2 < 0
      · exact br_t q2 (br_f q0 (br_f q1' (br_t q2 ⟨rfl, hR⟩)))
      · refine br_f q2 ?_
        by_cases q3 : v2 < ((1 : Int32) <<< (f_n &&& 31))
        · have q3' : v2 < ((1 : Int32) <<< (y_n &&& 31)) := by rw [hyn, ← hn]; exact q3
          refine br_t q3 ?_
          have hc := zt_cle v2 10
          -- the reference up to the parity test
          have ref : ∀ (P : Int32 → SY → Prop), (v2 = 0 → wY_setTerm_48 P (nI j) v2 v3 y_n y_k b_present b_weight b_masks b_values b_list b_used b_stack b_chosen) → (¬ v2 = 0 → zt_c v2 10 % 2 = 0 → P (-100001) (y_n, y_k, b_present, b_weight, b_masks, b_values, b_list, b_used, b_stack, b_chosen)) → (¬ v2 = 0 → zt_c v2 10 % 2 = 1 → wY_setTerm_48 P (nI j) v2 v3 y_n y_k b_present b_weight b_masks b_values b_list b_used b_stack b_chosen) → wpY_setTerm P (y_n, y_k, b_present, b_weight, b_masks, b_values, b_list, b_used, b_stack, b_chosen) (nI j) v2 v3 := by
            intro P h1 h2 h3
            refine br_f q0 (br_f q1' (br_f q2 (br_t q3' (zy_bits10 (br_c h1 (fun z => ⟨by decide, ?_⟩))))))
            rw [show (2 : Int32) = nI 2 from rfl, pk_rem (a := zt_c v2 10) (d := 2) (by omega) (by omega) (by omega)]
            refine pk_eq (zt_c v2 10 % 2) 0 (fun y => h2 z y) (fun y => h3 z (by omega))
          -- the end of both
          have fin : wX_setTerm_42 (fun r u' => wpY_setTerm (fun r' v' => r' = r ∧ i_Rel (k + 4) u' v') (y_n, y_k, b_present, b_weight, b_masks, b_values, b_list, b_used, b_stack, b_chosen) (nI j) v2 v3) (nI j) v2 v3 f_outer f_inner f_n f_k f_maxSize f_barred f_stackSize f_eventA f_eventB f_eventDelta a_weight a_key a_slotMask a_slotValue a_bestMate a_bestWeight a_partner a_dual a_top a_members a_base a_label a_upFrom a_upTo a_head a_next a_nextFrom a_nextTo a_stack ∨ ¬ (v2 = 0 ∨ zt_c v2 10 % 2 = 1) := by
            by_cases ok : v2 = 0 ∨ zt_c v2 10 % 2 = 1
            · left
              have ref' : ∀ (P : Int32 → SY → Prop), wY_setTerm_48 P (nI j) v2 v3 y_n y_k b_present b_weight b_masks b_values b_list b_used b_stack b_chosen → wpY_setTerm P (y_n, y_k, b_present, b_weight, b_masks, b_values, b_list, b_used, b_stack, b_chosen) (nI j) v2 v3 := fun P h => ref P (fun _ => h) (fun z y => by rcases ok with o | o; exact absurd o z; omega) (fun _ _ => h)
              have gen : ∀ z0 : Int32, (∀ (P : Int32 → SY → Prop), wY_setTerm_59 P (nI j) v2 v3 z0 y_n y_k b_present b_weight b_masks b_values b_list b_used b_stack b_chosen → wpY_setTerm P (y_n, y_k, b_present, b_weight, b_masks, b_values, b_list, b_used, b_stack, b_chosen) (nI j) v2 v3) → wX_setTerm_53 (fun r u' => wpY_setTerm (fun r' v' => r' = r ∧ i_Rel (k + 4) u' v') (y_n, y_k, b_present, b_weight, b_masks, b_values, b_list, b_used, b_stack, b_chosen) (nI j) v2 v3) (nI j) v2 v3 z0 f_outer f_inner f_n f_k f_maxSize f_barred f_stackSize f_eventA f_eventB f_eventDelta a_weight a_key a_slotMask a_slotValue a_bestMate a_bestWeight a_partner a_dual a_top a_members a_base a_label a_upFrom a_upTo a_head a_next a_nextFrom a_nextTo a_stack := by
                intro z0 hz
                unfold wX_setTerm_53
                by_cases q4 : v3 < z0
                · exact br_t q4 (hz _ (br_t q4 ⟨rfl, hR⟩))
                · by_cases q5 : v3 ≤ 20000
                  · refine br_f q4 (br_t q5 ⟨hji, nm_e ⟨hji, nm_e (hz _ ?_)⟩⟩)
                    refine br_f q4 (br_t q5 ⟨hji, nm_e ⟨hji, nm_e ⟨rfl, ?_⟩⟩⟩)
                    exact (show zz_Rel _ _ _ _ _ _ _ _ _ _ _ _ _ _ _ from ⟨nn, kk, ms, p, w, hG, hn, hyn, hfk, hyk, hkm, hm5, hms, hX, hY, by rw [hma], by rw [hva], hrow, hmax⟩)
                  · exact br_f q4 (br_f q5 (hz _ (br_f q4 (br_f q5 ⟨rfl, hR⟩))))
              unfold wX_setTerm_42
              refine br_c (fun z => gen (-20000) (fun P h => ref' P (br_t z h))) (fun z => gen 0 (fun P h => ref' P (br_f z h)))
            · exact Or.inr ok
          refine br_c (fun z => ?_) (fun z => zx_ones ?_)
          · rcases fin with f | f
            · exact f
            · exact absurd (Or.inl z) f
          · rw [pk_andN (n := zt_c v2 10) (by omega) 1 (by decide)]
            refine pk_eq (zt_c v2 10 % 2 ^ 1) 0 (fun y => ?_) (fun y => ?_)
            · exact ref _ (fun z' => absurd z' z) (fun _ _ => ⟨rfl, hR⟩) (fun _ y' => by omega)
            · rcases fin with f | f
              · exact f
              · exact absurd (Or.inr (by omega)) f
        · have q3' : ¬ v2 < ((1 : Int32) <<< (y_n &&& 31)) := by rw [hyn, ← hn]; exact q3
          exact br_f q3 (br_f q0 (br_f q1' (br_f q2 (br_f q3' ⟨rfl, hR⟩))))
    · have q1' : 15 < v1 := Int32.not_le.mp q1
      exact br_f q0 (br_f q1 (br_f (by decide) (br_f q0 (br_t q1' ⟨rfl, hR⟩))))
end
section
/-! audit, solve, avoiding -/
section
variable {f_outer f_inner f_n f_k f_maxSize f_barred f_stackSize f_eventA f_eventB : Int32} {f_eventDelta : Int64} {a_weight : Nat → Int32} {a_key : Nat → Int64} {a_slotMask a_slotValue a_bestMate a_bestWeight a_partner : Nat → Int32} {a_dual : Nat → Int64} {a_top a_members a_base a_label a_upFrom a_upTo a_head a_next a_nextFrom a_nextTo a_stack : Nat → Int32}
theorem zx_audit {post : Int32 → Prop} {p : Nat → Nat → Bool} (hp : ∀ u v, u < 10 → v < 10 → (¬ p u v = true → a_weight (u * 10 + v) = -100000) ∧ (p u v = true → u ≠ v ∧ ¬ a_weight (u * 10 + v) = -100000)) {kk : Nat} (hk : f_k = nI kk) (hk6 : kk < 6)
    (K0 : (∃ u v, u < 10 ∧ v < 10 ∧ p u v = true ∧ ¬ 2 * a_weight (u * 10 + v) ≤ zt_cv a_slotMask a_slotValue u v 16) → post 0)
    (K1 : (∀ u v, u < 10 → v < 10 → p u v = true → 2 * a_weight (u * 10 + v) ≤ zt_cv a_slotMask a_slotValue u v 16) → post (if zt_bd a_slotMask a_slotValue f_k 16 ≤ 2 * a_bestWeight kk then 2 else 1)) : wpX_audit post (f_outer, f_inner, f_n, f_k, f_maxSize, f_barred, f_stackSize, f_eventA, f_eventB, f_eventDelta, a_weight, a_key, a_slotMask, a_slotValue, a_bestMate, a_bestWeight, a_partner, a_dual, a_top, a_members, a_base, a_label, a_upFrom, a_upTo, a_head, a_next, a_nextFrom, a_nextTo, a_stack) := by
  have loop : ∀ d i, i + d = 100 → (∀ u v, u < 10 → v < 10 → u * 10 + v < i → p u v = true → 2 * a_weight (u * 10 + v) ≤ zt_cv a_slotMask a_slotValue u v 16) → wX_audit_2 post f_outer f_inner f_n f_k f_maxSize f_barred f_stackSize f_eventA f_eventB f_eventDelta a_weight a_key a_slotMask a_slotValue a_bestMate a_bestWeight a_partner a_dual a_top a_members a_base a_label a_upFrom a_upTo a_head a_next a_nextFrom a_nextTo a_stack (d + 1) (nI i) := by
    intro d
    induction d with
    | zero =>
      intro i hi h
      obtain rfl : i = 100 := by omega
      refine pk_le 100 100 (fun _ => ?_) (fun z => absurd z (by omega))
      have K := K1 (fun u v hu hv hpv => h u v hu hv (by omega) hpv)
      refine zx_bound ?_
      subst hk
      refine ⟨vp_in_nI hk6 (by omega), ?_⟩
      rw [nI_clamp (n := kk) (by omega)]
      refine br_c (fun z => ?_) (fun z => ?_)
      · rw [if_pos z] at K; exact K
      · rw [if_neg z] at K; exact K
    | succ d ih =>
      intro i hi h
      obtain ⟨d1, d2⟩ := zy_n10 (c := i) (by omega)
      have hu : i / 10 < 10 := by omega
      have hv : i % 10 < 10 := by omega
      have hi2 : i / 10 * 10 + i % 10 = i := by omega
      refine pk_le 100 i (fun z => absurd z (by omega)) (fun _ => ⟨by decide, by decide, ?_⟩)
      rw [d2, d1]
      obtain ⟨p1, p2⟩ := hp (i / 10) (i % 10) hu hv
      refine zx_uncov hu hv ?_ ?_
      · by_cases q : p (i / 10) (i % 10) = true
        · exact Or.inl (p2 q).1
        · exact Or.inr (p1 q)
      · have go : (p (i / 10) (i % 10) = true → 2 * a_weight (i / 10 * 10 + i % 10) ≤ zt_cv a_slotMask a_slotValue (i / 10) (i % 10) 16) → wX_audit_2 post f_outer f_inner f_n f_k f_maxSize f_barred f_stackSize f_eventA f_eventB f_eventDelta a_weight a_key a_slotMask a_slotValue a_bestMate a_bestWeight a_partner a_dual a_top a_members a_base a_label a_upFrom a_upTo a_head a_next a_nextFrom a_nextTo a_stack (d + 1) (nI (i + 1)) := fun hq => ih (i + 1) (by omega) (fun u v hu' hv' hlt hpv => by
          by_cases q : u * 10 + v = i
          · have e1 : u = i / 10 := by omega
            have e2 : v = i % 10 := by omega
            rw [e1, e2] at hpv ⊢
            exact hq hpv
          · exact h u v hu' hv' (by omega) hpv)
        by_cases c : a_weight (i / 10 * 10 + i % 10) = -100000 ∨ 2 * a_weight (i / 10 * 10 + i % 10) ≤ zt_cv a_slotMask a_slotValue (i / 10) (i % 10) 16
        · rw [if_pos c]
          refine br_t rfl (nm_r (nI_1 i) (go (fun hpv => ?_)))
          rcases c with c | c
          · exact absurd c (p2 hpv).2
          · exact c
        · rw [if_neg c]
          refine br_f (by decide) (K0 ⟨i / 10, i % 10, hu, hv, ?_, fun z => c (Or.inr z)⟩)
          by_cases q : p (i / 10) (i % 10) = true
          · exact q
          · exact absurd (Or.inl (p1 q)) c
  exact ⟨101, loop 100 0 rfl (fun u v _ _ h => by omega)⟩
def zz_kk (bw : Nat → Int32) : Nat → Nat
  | 0 => 0
  | j + 1 => if bw (j + 1) ≤ bw (zz_kk bw j) then zz_kk bw j else j + 1
theorem zz_kkle (bw : Nat → Int32) : ∀ j, zz_kk bw j ≤ j := by
  intro j
  induction j with
  | zero => exact Nat.le_refl _
  | succ j ih =>
    show (if bw (j + 1) ≤ bw (zz_kk bw j) then zz_kk bw j else j + 1) ≤ j + 1
    split <;> omega
theorem zx_solve {post : Int32 → SX → Prop} {ms : Nat} (hm : f_maxSize = nI ms) (h5 : ms ≤ 5) (K : post (a_bestWeight (zz_kk a_bestWeight ms)) (f_outer, f_inner, f_n, nI (zz_kk a_bestWeight ms), f_maxSize, f_barred, f_stackSize, f_eventA, f_eventB, f_eventDelta, a_weight, a_key, a_slotMask, a_slotValue, a_bestMate, a_bestWeight, a_partner, a_dual, a_top, a_members, a_base, a_label, a_upFrom, a_upTo, a_head, a_next, a_nextFrom, a_nextTo, a_stack)) : wpX_solve post (f_outer, f_inner, f_n, f_k, f_maxSize, f_barred, f_stackSize, f_eventA, f_eventB, f_eventDelta, a_weight, a_key, a_slotMask, a_slotValue, a_bestMate, a_bestWeight, a_partner, a_dual, a_top, a_members, a_base, a_label, a_upFrom, a_upTo, a_head, a_next, a_nextFrom, a_nextTo, a_stack) := by
  subst hm
  have loop : ∀ d j, j + d = ms → wX_solve_7 post f_outer f_inner f_n (nI ms) f_barred f_stackSize f_eventA f_eventB f_eventDelta a_weight a_key a_slotMask a_slotValue a_bestMate a_bestWeight a_partner a_dual a_top a_members a_base a_label a_upFrom a_upTo a_head a_next a_nextFrom a_nextTo a_stack (d + 1) (nI (j + 1)) (nI (zz_kk a_bestWeight j)) := by
    intro d
    induction d with
    | zero =>
      intro j hj
      obtain rfl : j = ms := by omega
      have hle := zz_kkle a_bestWeight j
      refine pk_lt j (j + 1) (fun _ => ⟨vp_in_nI (by omega) (by omega), ?_⟩) (fun z => absurd z (by omega))
      rw [nI_clamp (n := zz_kk a_bestWeight j) (by omega)]
      exact K
    | succ d ih =>
      intro j hj
      have hle := zz_kkle a_bestWeight j
      have hn := ih (j + 1) (by omega)
      have e : zz_kk a_bestWeight (j + 1) = if a_bestWeight (j + 1) ≤ a_bestWeight (zz_kk a_bestWeight j) then zz_kk a_bestWeight j else j + 1 := rfl
      refine pk_lt ms (j + 1) (fun z => absurd z (by omega)) (fun _ => ⟨vp_in_nI (by omega) (by omega), vp_in_nI (by omega) (by omega), ?_⟩)
      rw [nI_clamp (n := zz_kk a_bestWeight j) (by omega), nI_clamp (n := j + 1) (by omega)]
      refine br_c (fun z => nm_r (nI_1 (j + 1)) ?_) (fun z => nm_r (nI_1 (j + 1)) ?_)
      · rw [e, if_pos z] at hn; exact hn
      · rw [e, if_neg z] at hn; exact hn
  exact ⟨ms + 1, loop ms 0 (by omega)⟩
theorem zx_avoid {post : Int32 → SX → Prop} {p : Nat → Nat → Bool} {w : Nat → Nat → Int} {nn ex kk : Nat} (hG : zk_G nn p w) (hX : zk_X p w a_weight a_key) (hn : f_n = nI nn) (hex : ex < 10) (hk : f_k = nI kk) (hk5 : kk ≤ 5)
    (K0 : ∀ (f_stackSize' f_eventA' f_eventB' : Int32) (f_eventDelta' : Int64) (a_partner' : Nat → Int32) (a_dual' : Nat → Int64) (a_top' a_members' a_base' a_label' a_upFrom' a_upTo' a_head' a_next' a_nextFrom' a_nextTo' a_stack' : Nat → Int32), (∀ N, zm_M (zk_E p ex) N → zm_cov N ≠ 2 * (kk : Int)) →
      post (-100000) (f_outer, f_inner, f_n, f_k, f_maxSize, nI ex, f_stackSize', f_eventA', f_eventB', f_eventDelta', a_weight, a_key, a_slotMask, a_slotValue, a_bestMate, a_bestWeight, a_partner', a_dual', a_top', a_members', a_base', a_label', a_upFrom', a_upTo', a_head', a_next', a_nextFrom', a_nextTo', a_stack'))
    (K1 : ∀ (r : Int32) (m : Nat → Nat) (f_stackSize' f_eventA' f_eventB' : Int32) (f_eventDelta' : Int64) (a_partner' : Nat → Int32) (a_dual' : Nat → Int64) (a_top' a_members' a_base' a_label' a_upFrom' a_upTo' a_head' a_next' a_nextFrom' a_nextTo' a_stack' : Nat → Int32), zk_B p w ex m → zm_cov m = 2 * (kk : Int) → r.toInt = zm_W w m →
      post r (f_outer, f_inner, f_n, f_k, f_maxSize, nI ex, f_stackSize', f_eventA', f_eventB', f_eventDelta', a_weight, a_key, a_slotMask, a_slotValue, a_bestMate, a_bestWeight, a_partner', a_dual', a_top', a_members', a_base', a_label', a_upFrom', a_upTo', a_head', a_next', a_nextFrom', a_nextTo', a_stack')) :
    wpX_begin (fun u => match u with | (f_outer, f_inner, f_n, f_k, f_maxSize, f_barred, f_stackSize, f_eventA, f_eventB, f_eventDelta, a_weight, a_key, a_slotMask, a_slotValue, a_bestMate, a_bestWeight, a_partner, a_dual, a_top, a_members, a_base, a_label, a_upFrom, a_upTo, a_head, a_next, a_nextFrom, a_nextTo, a_stack) => ∃ n46 : Nat, wX_avoiding_46 post n46 0 f_outer f_inner f_n f_k f_maxSize f_barred f_stackSize f_eventA f_eventB f_eventDelta a_weight a_key a_slotMask a_slotValue a_bestMate a_bestWeight a_partner a_dual a_top a_members a_base a_label a_upFrom a_upTo a_head a_next a_nextFrom a_nextTo a_stack) (f_outer, f_inner, f_n, f_k, f_maxSize, f_barred, f_stackSize, f_eventA, f_eventB, f_eventDelta, a_weight, a_key, a_slotMask, a_slotValue, a_bestMate, a_bestWeight, a_partner, a_dual, a_top, a_members, a_base, a_label, a_upFrom, a_upTo, a_head, a_next, a_nextFrom, a_nextTo, a_stack) (nI ex) := by
  have hXG : zx_G (zk_E p ex) (zk_y w) (zk_act nn ex) f_n (nI ex) a_weight a_key := zk_zxG hG hX hn rfl (Or.inl hex)
  have hg := hXG.1
  have loop : ∀ d j, j + d = kk → ∀ (mt tp bs nx nf nt : Nat → Nat) (du : Nat → Int) (ms : Nat → Nat → Bool) (rg : Nat → List Nat) (lam : Int) (f_stackSize f_eventA f_eventB : Int32) (f_eventDelta : Int64) (a_partner : Nat → Int32) (a_dual : Nat → Int64) (a_top a_members a_base a_label a_upFrom a_upTo a_head a_next a_nextFrom a_nextTo a_stack : Nat → Int32),
      zi_S (zk_E p ex) (zk_y w) (zk_act nn ex) mt tp bs nx nf nt du ms rg lam → zx_RS mt tp bs nx nf nt du ms rg a_partner a_dual a_top a_members a_base a_head a_next a_nextFrom a_nextTo → zm_cov mt = 2 * (j : Int) →
      wX_avoiding_46 post (d + 1) (nI j) f_outer f_inner f_n f_k f_maxSize (nI ex) f_stackSize f_eventA f_eventB f_eventDelta a_weight a_key a_slotMask a_slotValue a_bestMate a_bestWeight a_partner a_dual a_top a_members a_base a_label a_upFrom a_upTo a_head a_next a_nextFrom a_nextTo a_stack := by
    subst hk
    intro d
    induction d with
    | zero =>
      intro j hj mt tp bs nx nf nt du ms rg lam f_stackSize f_eventA f_eventB f_eventDelta a_partner a_dual a_top a_members a_base a_label a_upFrom a_upTo a_head a_next a_nextFrom a_nextTo a_stack hS hR hc
      obtain rfl : j = kk := by omega
      refine pk_le j j (fun _ => zx_mweight hG hX hS.2.2.2.1.1 hR.1 (fun r hr => ?_)) (fun z => absurd z (by omega))
      exact K1 r mt _ _ _ _ _ _ _ _ _ _ _ _ _ _ _ _ _ (zi_SB hg hS) hc hr
    | succ d ih =>
      intro j hj mt tp bs nx nf nt du ms rg lam f_stackSize f_eventA f_eventB f_eventDelta a_partner a_dual a_top a_members a_base a_label a_upFrom a_upTo a_head a_next a_nextFrom a_nextTo a_stack hS hR hc
      refine pk_le kk j (fun z => absurd z (by omega)) (fun _ => ?_)
      refine zx_augment hXG hS hR ?_ ?_
      · intro f_s' f_a' f_b' f_d' a1 a2 a3 a4 a5 a6 a7 a8 a9 a10 a11 a12 a13 hno
        refine br_t rfl (K0 _ _ _ _ _ _ _ _ _ _ _ _ _ _ _ _ _ (fun N hN hcN => ?_))
        have := hno N hN
        omega
      · intro mt' tp' bs' nx' nf' nt' du' ms' rg' lam' f_s' f_a' f_b' f_d' a1 a2 a3 a4 a5 a6 a7 a8 a9 a10 a11 a12 a13 hS' hR' hc'
        refine br_f (by decide) (nm_r (nI_1 j) ?_)
        exact ih (j + 1) (by omega) mt' tp' bs' nx' nf' nt' du' ms' rg' lam' f_s' f_a' f_b' f_d' a1 a2 a3 a4 a5 a6 a7 a8 a9 a10 a11 a12 a13 hS' hR' (by rw [hc', hc]; omega)
  refine zx_begin ?_
  intro bs du ms a_dual' a_partner' a_top' a_members' a_base' a_head' r1 r2 r3 r4 r5 r6 r7 r8 r9 r10
  obtain ⟨nx, hN⟩ := zx_Nex 16 a_next
  obtain ⟨nf, hNf⟩ := zx_Nex 16 a_nextFrom
  obtain ⟨nt, hNt⟩ := zx_Nex 16 a_nextTo
  obtain ⟨hS, hc⟩ := zx_beginS (nx := nx) (nf := nf) (nt := nt) hXG r3 r6 r8 r9
  exact ⟨kk + 1, loop kk 0 (by omega) _ _ bs nx nf nt du ms _ _ _ _ _ _ _ _ _ _ _ _ _ _ _ _ _ _ _ hS ⟨r1, r2, r4, r7, r5, r10, hN, hNf, hNt⟩ hc⟩
end
section
variable {y_n y_k : Int32} {b_present b_weight b_masks b_values b_list b_used b_stack b_chosen : Nat → Int32}
theorem zy_audit {post : Int32 → SY → Prop} {p : Nat → Nat → Bool} {nn : Nat} (hn : y_n = nI nn) (hnn : nn ≤ 10) (hp : ∀ a b, a < b → b < 10 → (¬ p a b = true → b_present (a * 10 + b) = 0) ∧ (p a b = true → b_present (a * 10 + b) = 1))
    (K0 : (∃ a b, a < b ∧ b < nn ∧ p a b = true ∧ ¬ 2 * b_weight (a * 10 + b) ≤ zt_cv b_masks b_values a b 16) → post 0 (y_n, y_k, b_present, b_weight, b_masks, b_values, b_list, b_used, b_stack, b_chosen))
    (K1 : (∀ a b, a < b → b < nn → p a b = true → 2 * b_weight (a * 10 + b) ≤ zt_cv b_masks b_values a b 16) → ∀ n, wY_audit_2 post y_n y_k b_present b_weight b_masks b_values b_list b_used b_stack b_chosen (n + 1) (nI nn)) : wpY_audit post (y_n, y_k, b_present, b_weight, b_masks, b_values, b_list, b_used, b_stack, b_chosen) := by
  subst hn
  have row : ∀ (a n : Nat), a < nn → (∀ a' b, a' < a → a' < b → b < nn → p a' b = true → 2 * b_weight (a' * 10 + b) ≤ zt_cv b_masks b_values a' b 16) →
      ((∀ a' b, a' < a + 1 → a' < b → b < nn → p a' b = true → 2 * b_weight (a' * 10 + b) ≤ zt_cv b_masks b_values a' b 16) → wY_audit_2 post (nI nn) y_k b_present b_weight b_masks b_values b_list b_used b_stack b_chosen n (nI (a + 1))) →
      ∀ d b, b + d = nn → a < b → (∀ b', a < b' → b' < b → p a b' = true → 2 * b_weight (a * 10 + b') ≤ zt_cv b_masks b_values a b' 16) → wY_audit_14 post (wY_audit_2 post (nI nn) y_k b_present b_weight b_masks b_values b_list b_used b_stack b_chosen n) (nI a) (nI nn) y_k b_present b_weight b_masks b_values b_list b_used b_stack b_chosen (d + 1) (nI b) := by
    intro a n ha hbef hK d
    induction d with
    | zero =>
      intro b hb hab h
      obtain rfl : b = nn := by omega
      refine pk_le b b (fun _ => nm_r (nI_1 a) (hK (fun a' b' h1 h2 h3 h4 => ?_))) (fun z => absurd z (by omega))
      by_cases q : a' = a
      · subst q; exact h b' h2 h3 h4
      · exact hbef a' b' (by omega) h2 h3 h4
    | succ d ih =>
      intro b hb hab h
      have hc : nI a * 10 + nI b = nI (a * 10 + b) := by
        rw [show (10 : Int32) = nI 10 from rfl, pk_mul, nI_add]
      obtain ⟨p1, p2⟩ := hp a b hab (by omega)
      have go : (p a b = true → 2 * b_weight (a * 10 + b) ≤ zt_cv b_masks b_values a b 16) → wY_audit_14 post (wY_audit_2 post (nI nn) y_k b_present b_weight b_masks b_values b_list b_used b_stack b_chosen n) (nI a) (nI nn) y_k b_present b_weight b_masks b_values b_list b_used b_stack b_chosen (d + 1) (nI (b + 1)) := fun hq => ih (b + 1) (by omega) (by omega) (fun b' h1 h2 h3 => by
        by_cases q : b' = b
        · subst q; exact hq h3
        · exact h b' h1 (by omega) h3)
      refine pk_le nn b (fun z => absurd z (by omega)) (fun _ => zy_cover (by omega) (by omega) ?_)
      rw [hc, nI_clamp (n := a * 10 + b) (by omega)]
      refine ⟨vp_in_nI (by omega) (by omega), ?_⟩
      by_cases q : p a b = true
      · rw [p2 q]
        refine br_f (by decide) ⟨vp_in_nI (by omega) (by omega), br_c (fun z => nm_r (nI_1 b) (go (fun _ => z))) (fun z => K0 ⟨a, b, hab, by omega, q, z⟩)⟩
      · rw [p1 q]
        exact br_t rfl (nm_r (nI_1 b) (go (fun z => absurd z q)))
  have rows : ∀ d a, a + d = nn → (∀ a' b, a' < a → a' < b → b < nn → p a' b = true → 2 * b_weight (a' * 10 + b) ≤ zt_cv b_masks b_values a' b 16) → wY_audit_2 post (nI nn) y_k b_present b_weight b_masks b_values b_list b_used b_stack b_chosen (d + 1) (nI a) := by
    intro d
    induction d with
    | zero =>
      intro a ha h
      obtain rfl : a = nn := by omega
      exact K1 (fun a' b h1 h2 h3 => h a' b (by omega) h1 h2 h3) 0
    | succ d ih =>
      intro a ha h
      refine pk_le nn a (fun z => absurd z (by omega)) (fun _ => nm_r (nI_1 a) ⟨nn - (a + 1) + 1, ?_⟩)
      exact row a (d + 1) (by omega) h (fun h' => ih (a + 1) (by omega) h') (nn - (a + 1)) (a + 1) (by omega) (by omega) (fun b' h1 h2 => by omega)
  exact ⟨nn + 1, rows nn 0 (by omega) (fun a' b h => by omega)⟩
theorem zy_solve {post : Int32 → SY → Prop} {nn ms : Nat} {p : Nat → Nat → Bool} {w : Nat → Nat → Int} {bm bw : Nat → Int32} (hG : zk_G nn p w) (hY : zk_Y p w b_present b_weight) (hn : y_n = nI nn) (h5 : ms ≤ 5) (hrow : ∀ j, j ≤ ms → zk_row p w j bm bw) (hmax : ∀ N, zm_M (zk_E p zn_N) N → zm_cov N ≤ 2 * (ms : Int))
    (K : ∀ (b_list' b_used' b_stack' b_chosen' : Nat → Int32), post (bw (zz_kk bw ms)) (y_n, nI (zz_kk bw ms), b_present, b_weight, b_masks, b_values, b_list', b_used', b_stack', b_chosen')) : wpY_solve post (y_n, y_k, b_present, b_weight, b_masks, b_values, b_list, b_used, b_stack, b_chosen) := by
  have bwb : ∀ j, j ≤ ms → -5000 ≤ (bw j).toInt := fun j hj => by
    obtain ⟨m, r1, r2, r3, r4⟩ := hrow j hj
    rw [r4]; exact (zm_Wb hG r1.1).1
  have loop : ∀ d j, j + d = 5 → ∀ (b_list b_used b_stack b_chosen : Nat → Int32), wY_solve_9 post (d + 1) (bw (zz_kk bw (if j ≤ ms then j else ms))) (nI (j + 1)) y_n (nI (zz_kk bw (if j ≤ ms then j else ms))) b_present b_weight b_masks b_values b_list b_used b_stack b_chosen := by
    intro d
    induction d with
    | zero =>
      intro j hj b_list b_used b_stack b_chosen
      obtain rfl : j = 5 := by omega
      have e : (if 5 ≤ ms then 5 else ms) = ms := by split <;> omega
      rw [e]
      exact pk_lt 5 6 (fun _ => K _ _ _ _) (fun z => absurd z (by omega))
    | succ d ih =>
      intro j hj b_list b_used b_stack b_chosen
      refine pk_lt 5 (j + 1) (fun z => absurd z (by omega)) (fun _ => ?_)
      rw [← zn_eq]
      refine zz_s hG hY hn (Or.inr rfl) (by omega) (fun r b_list' b_used' b_stack' b_chosen' s1 s2 => ?_)
      have hn := ih (j + 1) (by omega) b_list' b_used' b_stack' b_chosen'
      by_cases q : j + 1 ≤ ms
      · obtain ⟨m, r1, r2, r3, r4⟩ := hrow (j + 1) q
        have hr : r = bw (j + 1) := Int32.toInt_inj.mp ((s1 m r1 r2).1.trans r4.symm)
        subst hr
        rw [if_pos (by omega)] at hn ⊢
        have e : zz_kk bw (j + 1) = if bw (j + 1) ≤ bw (zz_kk bw j) then zz_kk bw j else j + 1 := rfl
        rw [e] at hn
        refine br_c (fun z => nm_r (nI_1 (j + 1)) ?_) (fun z => nm_r (nI_1 (j + 1)) ?_)
        · rw [if_pos z] at hn; exact hn
        · rw [if_neg z] at hn; exact hn
      · have hr : r = -100000 := s2 (fun N hN hc => by have := hmax N hN; omega)
        subst hr
        have e : (if j ≤ ms then j else ms) = ms := by split <;> omega
        rw [if_neg q] at hn
        rw [e]
        refine br_t ?_ (nm_r (nI_1 (j + 1)) hn)
        rw [Int32.le_iff_toInt_le, show (-100000 : Int32).toInt = -100000 from by decide]
        have := bwb (zz_kk bw ms) (zz_kkle bw ms)
        omega
  have h0 : bw 0 = 0 := by
    obtain ⟨m, r1, r2, r3, r4⟩ := hrow 0 (by omega)
    have hm := zm_cov0 (by rw [r2]; rfl)
    apply Int32.toInt_inj.mp
    rw [r4]
    refine zs_z 10 (fun v hv => if_neg ?_)
    rw [hm v hv]; omega
  have := loop 5 0 rfl b_list b_used b_stack b_chosen
  rw [if_pos (by omega)] at this
  have e : bw (zz_kk bw 0) = 0 := h0
  rw [e] at this
  exact ⟨6, this⟩
end
theorem i_vc_solve {k : Nat} {u : SX} {v : SY} (I : i_Rel k u v) (hk : k + 4 ≤ 2049) : wpX_solve (fun r u' => wpY_solve (fun r' v' => r' = r ∧ i_Rel (k + 4) u' v') v) u := by
  refine zz_el (P := fun u v => wpX_solve (fun r u' => wpY_solve (fun r' v' => r' = r ∧ i_Rel (k + 4) u' v') v) u) ?_ I
  intro f_outer f_inner f_n f_k f_maxSize f_barred f_stackSize f_eventA f_eventB f_eventDelta a_weight a_key a_slotMask a_slotValue a_bestMate a_bestWeight a_partner a_dual a_top a_members a_base a_label a_upFrom a_upTo a_head a_next a_nextFrom a_nextTo a_stack y_n y_k b_present b_weight b_masks b_values b_list b_used b_stack b_chosen hR
  have hR0 := hR
  obtain ⟨nn, kk, ms, p, w, hG, hn, hyn, hfk, hyk, hkm, hm5, hms, hX, hY, hma, hva, hrow, hmax⟩ := hR0
  have g2 := hG.2.1
  refine zx_solve hms hm5 (zy_solve hG hY hyn hm5 hrow hmax (fun b_list' b_used' b_stack' b_chosen' => ⟨rfl, ?_⟩))
  exact (show zz_Rel _ _ _ _ _ _ _ _ _ _ _ _ _ _ _ from ⟨nn, zz_kk a_bestWeight ms, ms, p, w, hG, hn, hyn, rfl, rfl, zz_kkle _ ms, hm5, hms, hX, hY, hma, hva, hrow, hmax⟩)
theorem i_vc_avoiding {k : Nat} {u : SX} {v : SY} (I : i_Rel k u v) (hk : k + 4 ≤ 2049) (v1 : Int32) : wpX_avoiding (fun r u' => wpY_avoiding (fun r' v' => r' = r ∧ i_Rel (k + 4) u' v') v v1) u v1 := by
  refine zz_el (P := fun u v => wpX_avoiding (fun r u' => wpY_avoiding (fun r' v' => r' = r ∧ i_Rel (k + 4) u' v') v v1) u v1) ?_ I
  intro f_outer f_inner f_n f_k f_maxSize f_barred f_stackSize f_eventA f_eventB f_eventDelta a_weight a_key a_slotMask a_slotValue a_bestMate a_bestWeight a_partner a_dual a_top a_members a_base a_label a_upFrom a_upTo a_head a_next a_nextFrom a_nextTo a_stack y_n y_k b_present b_weight b_masks b_values b_list b_used b_stack b_chosen hR
  have hR0 := hR
  obtain ⟨nn, kk, ms, p, w, hG, hn, hyn, hfk, hyk, hkm, hm5, hms, hX, hY, hma, hva, hrow, hmax⟩ := hR0
  have g2 := hG.2.1
  have g3 := hG.2.2.1
  unfold wpX_avoiding
  dsimp only
  by_cases q : ∃ a, a < nn ∧ v1 = nI a
  · obtain ⟨a, ha, rfl⟩ := q
    have hc : f_k * 10 + nI a = nI (kk * 10 + a) := by
      rw [hfk, show (10 : Int32) = nI 10 from rfl, pk_mul, nI_add]
    -- the reference, once the answer is known
    have ref : ∀ (r : Int32) (Q : SY → Prop), (∀ b_list' b_used' b_stack' b_chosen', Q (y_n, y_k, b_present, b_weight, b_masks, b_values, b_list', b_used', b_stack', b_chosen')) → ((∃ m, zk_B p w a m ∧ zm_cov m = 2 * (kk : Int) ∧ r.toInt = zm_W w m) ∨ (r = -100000 ∧ ∀ N, zm_M (zk_E p a) N → zm_cov N ≠ 2 * (kk : Int))) →
        wpY_avoiding (fun r' v' => r' = r ∧ Q v') (y_n, y_k, b_present, b_weight, b_masks, b_values, b_list, b_used, b_stack, b_chosen) (nI a) := by
      intro r Q hQ hr
      unfold wpY_avoiding
      dsimp only
      refine zy_isV1 hyn g2 ha (br_f (by decide) ?_)
      rw [hyk]
      refine zz_s hG hY hyn (Or.inl (by omega)) (by omega) (fun r' b_list' b_used' b_stack' b_chosen' s1 s2 => ⟨?_, ?_⟩)
      · rcases hr with ⟨m, m1, m2, m3⟩ | ⟨h1, h2⟩
        · exact Int32.toInt_inj.mp ((s1 m m1 m2).1.trans m3.symm)
        · rw [h1]; exact s2 h2
      · have := hQ b_list' b_used' b_stack' b_chosen'
        rw [hyk] at this
        exact this
    refine zx_badV1 hn g2 ha (br_t rfl ?_)
    rw [hc, nI_clamp (n := kk * 10 + a) (by omega)]
    refine ⟨vp_in_nI (by omega) (by omega), ?_⟩
    obtain ⟨m, r1, r2, r3, r4⟩ := hrow kk hkm
    refine br_c (fun z => ?_) (fun z => ?_)
    · rw [r3 a (by omega)] at z
      have hma' : m a = a := by
        by_cases y : m a = a
        · exact y
        · rw [if_neg y] at z
          have := nI_pos' (n := m a) (by have := (r1.1 a (by omega)).1; omega)
          rw [z] at this
          exact absurd this zx_m1ge
      refine ⟨by rw [hfk]; exact vp_in_nI (by omega) (by omega), ?_⟩
      have ek : a_bestWeight f_k.toNatClampNeg = a_bestWeight kk := by rw [hfk, nI_clamp (by omega)]
      rw [ek]
      refine ref _ _ (fun _ _ _ _ => hR) (Or.inl ⟨m, ⟨fun v hv => ?_, fun N hN hcN => ?_⟩, r2, r4⟩)
      · obtain ⟨m1, m2, m3⟩ := r1.1 v hv
        refine ⟨m1, m2, fun hne => ⟨(m3 hne).1, fun e => ?_, fun e => ?_⟩⟩
        · rw [e] at hne; exact hne hma'
        · rw [e, hma'] at m2; rw [e] at hne; exact hne m2
      · exact r1.2 N (fun v hv => ⟨(hN v hv).1, (hN v hv).2.1, fun hne => ⟨((hN v hv).2.2 hne).1, fun e => by rw [e] at hv; exact absurd hv (by decide), fun e => by
          have := (hN v hv).1
          rw [e] at this
          exact absurd this (by decide)⟩⟩) hcN
    · refine zx_avoid hG hX hn (by omega) hfk (by omega) ?_ ?_
      · intro f_s' f_a' f_b' f_d' a1 a2 a3 a4 a5 a6 a7 a8 a9 a10 a11 a12 a13 hno
        exact ref _ _ (fun _ _ _ _ => hR) (Or.inr ⟨rfl, hno⟩)
      · intro r m' f_s' f_a' f_b' f_d' a1 a2 a3 a4 a5 a6 a7 a8 a9 a10 a11 a12 a13 hB hcm hrm
        exact ref _ _ (fun _ _ _ _ => hR) (Or.inl ⟨m', hB, hcm, hrm⟩)
  · refine zx_badV0 hn g2 q (br_f (by decide) ?_)
    unfold wpY_avoiding
    dsimp only
    exact zy_isV0 hyn g2 q (br_t rfl ⟨rfl, hR⟩)
theorem i_vc_audit {k : Nat} {u : SX} {v : SY} (I : i_Rel k u v) (hk : k + 4 ≤ 2049) : wpX_audit (fun r => wpY_audit (fun r' v' => r' = r ∧ i_Rel (k + 4) u v') v) u := by
  refine zz_el (P := fun u v => wpX_audit (fun r => wpY_audit (fun r' v' => r' = r ∧ i_Rel (k + 4) u v') v) u) ?_ I
  intro f_outer f_inner f_n f_k f_maxSize f_barred f_stackSize f_eventA f_eventB f_eventDelta a_weight a_key a_slotMask a_slotValue a_bestMate a_bestWeight a_partner a_dual a_top a_members a_base a_label a_upFrom a_upTo a_head a_next a_nextFrom a_nextTo a_stack y_n y_k b_present b_weight b_masks b_values b_list b_used b_stack b_chosen hR
  have hR0 := hR
  obtain ⟨nn, kk, ms, p, w, hG, hn, hyn, hfk, hyk, hkm, hm5, hms, hX, hY, hma, hva, hrow, hmax⟩ := hR0
  have g2 := hG.2.1
  have g3 := hG.2.2.1
  have hpX : ∀ u v, u < 10 → v < 10 → (¬ p u v = true → a_weight (u * 10 + v) = -100000) ∧ (p u v = true → u ≠ v ∧ ¬ a_weight (u * 10 + v) = -100000) := fun u v hu hv => by
    have h := hX u v hu hv
    refine ⟨h.2, fun q => ⟨(g3 u v q).2.2.1, fun z => ?_⟩⟩
    have h1 := (h.1 q).1
    rw [z, show (-100000 : Int32).toInt = -100000 from by decide] at h1
    have := (g3 u v q).2.2.2
    omega
  have hpY : ∀ a b, a < b → b < 10 → (¬ p a b = true → b_present (a * 10 + b) = 0) ∧ (p a b = true → b_present (a * 10 + b) = 1) := fun a b hab hb => ⟨(hY a b hab hb).2, fun q => ((hY a b hab hb).1 q).1⟩
  have hww : ∀ a b, a < b → b < 10 → p a b = true → a_weight (a * 10 + b) = b_weight (a * 10 + b) ∧ a_weight (b * 10 + a) = b_weight (a * 10 + b) := fun a b hab hb q => by
    have h1 := ((hX a b (by omega) hb).1 q).1
    have h2 := ((hX b a hb (by omega)).1 (by rw [hG.2.2.2.1]; exact q)).1
    have h3 := ((hY a b hab hb).1 q).2
    rw [hG.2.2.2.2 b a] at h2
    exact ⟨Int32.toInt_inj.mp (h1.trans h3.symm), Int32.toInt_inj.mp (h2.trans h3.symm)⟩
  subst hma hva
  refine zx_audit hpX hfk (by omega) (fun hbad => ?_) (fun hgood => ?_)
  · refine zy_audit hyn g2 hpY (fun _ => ⟨rfl, hR⟩) (fun hgood n => ?_)
    exfalso
    obtain ⟨x, y, hx, hy, hpv, hno⟩ := hbad
    obtain ⟨x1, y1, xy, _⟩ := g3 x y hpv
    rcases Nat.lt_or_gt_of_ne xy with z | z
    · have := hgood x y z y1 hpv
      rw [(hww x y z hy hpv).1] at hno
      exact hno this
    · have hpv' : p y x = true := by rw [hG.2.2.2.1]; exact hpv
      have := hgood y x z x1 hpv'
      rw [(hww y x z hx hpv').2, zt_cvs] at hno
      exact hno this
  · refine zy_audit hyn g2 hpY (fun hbad => ?_) (fun _ n => ?_)
    · exfalso
      obtain ⟨x, y, hxy, hy, hpv, hno⟩ := hbad
      have := hgood x y (by omega) (by omega) hpv
      rw [(hww x y hxy (by omega) hpv).1] at this
      exact hno this
    · refine pk_le nn nn (fun _ => ?_) (fun z => absurd z (by omega)) hyn
      refine zy_bound ?_
      unfold wpY_total
      dsimp only
      obtain ⟨m, r1, r2, r3, r4⟩ := hrow kk hkm
      have fin : ∀ (r : Int32) (b_list' b_used' b_stack' b_chosen' : Nat → Int32), r = a_bestWeight kk → ((zt_bd b_masks b_values y_k 16 ≤ 2 * r → (2 : Int32) = (if zt_bd b_masks b_values f_k 16 ≤ 2 * a_bestWeight kk then 2 else 1) ∧ i_Rel (k + 4) (f_outer, f_inner, f_n, f_k, f_maxSize, f_barred, f_stackSize, f_eventA, f_eventB, f_eventDelta, a_weight, a_key, b_masks, b_values, a_bestMate, a_bestWeight, a_partner, a_dual, a_top, a_members, a_base, a_label, a_upFrom, a_upTo, a_head, a_next, a_nextFrom, a_nextTo, a_stack) (y_n, y_k, b_present, b_weight, b_masks, b_values, b_list', b_used', b_stack', b_chosen')) ∧
          (¬ zt_bd b_masks b_values y_k 16 ≤ 2 * r → (1 : Int32) = (if zt_bd b_masks b_values f_k 16 ≤ 2 * a_bestWeight kk then 2 else 1) ∧ i_Rel (k + 4) (f_outer, f_inner, f_n, f_k, f_maxSize, f_barred, f_stackSize, f_eventA, f_eventB, f_eventDelta, a_weight, a_key, b_masks, b_values, a_bestMate, a_bestWeight, a_partner, a_dual, a_top, a_members, a_base, a_label, a_upFrom, a_upTo, a_head, a_next, a_nextFrom, a_nextTo, a_stack) (y_n, y_k, b_present, b_weight, b_masks, b_values, b_list', b_used', b_stack', b_chosen'))) := by
        intro r b_list' b_used' b_stack' b_chosen' hr
        rw [hr, hyk, hfk]
        rw [hfk, hyk] at hR
        exact ⟨fun z => ⟨(if_pos z).symm, hR⟩, fun z => ⟨(if_neg z).symm, hR⟩⟩
      rw [hyk, ← zn_eq]
      rw [hyk] at fin
      refine zz_s hG hY hyn (Or.inr rfl) (by omega) (fun r b_list' b_used' b_stack' b_chosen' s1 s2 => ?_)
      exact fin r b_list' b_used' b_stack' b_chosen' (Int32.toInt_inj.mp ((s1 m r1 r2).1.trans r4.symm))
end
section
/-! edges stored and removed; the constructor -/
def zk_up {α : Type} (f : Nat → Nat → α) (a b : Nat) (t : α) : Nat → Nat → α := fun u v => if (u = a ∧ v = b) ∨ (u = b ∧ v = a) then t else f u v
theorem zk_ups {α : Type} {f : Nat → Nat → α} {a b : Nat} {t : α} (h : ∀ u v, f u v = f v u) (u v : Nat) : zk_up f a b t u v = zk_up f a b t v u := by
  unfold zk_up
  by_cases q : (u = a ∧ v = b) ∨ (u = b ∧ v = a)
  · rw [if_pos q, if_pos (by rcases q with ⟨q1, q2⟩ | ⟨q1, q2⟩; exact Or.inr ⟨q2, q1⟩; exact Or.inl ⟨q2, q1⟩)]
  · rw [if_neg q, if_neg (fun z => q (by rcases z with ⟨z1, z2⟩ | ⟨z1, z2⟩; exact Or.inr ⟨z2, z1⟩; exact Or.inl ⟨z2, z1⟩))]
    exact h u v
theorem zk_upG {nn a b : Nat} {p : Nat → Nat → Bool} {w : Nat → Nat → Int} {tv : Bool} {x : Int} (hG : zk_G nn p w) (ha : a < nn) (hb : b < nn) (hab : a ≠ b) (hx : tv = true → -500 ≤ x ∧ x ≤ 500) : zk_G nn (zk_up p a b tv) (zk_up w a b x) := by
  obtain ⟨g1, g2, g3, g4, g5⟩ := hG
  refine ⟨g1, g2, fun u v h => ?_, zk_ups g4, zk_ups g5⟩
  unfold zk_up at h ⊢
  by_cases q : (u = a ∧ v = b) ∨ (u = b ∧ v = a)
  · rw [if_pos q] at h ⊢
    have := hx h
    rcases q with ⟨rfl, rfl⟩ | ⟨rfl, rfl⟩
    · exact ⟨ha, hb, hab, this⟩
    · exact ⟨hb, ha, fun z => hab z.symm, this⟩
  · rw [if_neg q] at h ⊢
    exact g3 u v h
section
variable {f_outer f_inner f_n f_k f_maxSize f_barred f_stackSize f_eventA f_eventB : Int32} {f_eventDelta : Int64} {a_weight : Nat → Int32} {a_key : Nat → Int64} {a_slotMask a_slotValue a_bestMate a_bestWeight a_partner : Nat → Int32} {a_dual : Nat → Int64} {a_top a_members a_base a_label a_upFrom a_upTo a_head a_next a_nextFrom a_nextTo a_stack : Nat → Int32}
theorem zx_store {post : SX → Prop} {p : Nat → Nat → Bool} {w : Nat → Nat → Int} {nn a b : Nat} {x3 : Int32} {tv : Bool} (hG : zk_G nn p w) (hX : zk_X p w a_weight a_key) (hn : f_n = nI nn) (ha : a < nn) (hb : b < nn) (hab : a ≠ b)
    (h1 : tv = true → -500 ≤ x3.toInt ∧ x3.toInt ≤ 500) (h2 : tv = false → x3 = -100000)
    (K : ∀ (ms : Nat) (f_barred' f_stackSize' f_eventA' f_eventB' : Int32) (f_eventDelta' : Int64) (a_weight' : Nat → Int32) (a_key' : Nat → Int64) (a_bestMate' a_bestWeight' : Nat → Int32) (a_partner' : Nat → Int32) (a_dual' : Nat → Int64) (a_top' a_members' a_base' a_label' a_upFrom' a_upTo' a_head' a_next' a_nextFrom' a_nextTo' a_stack' : Nat → Int32), zk_X (zk_up p a b tv) (zk_up w a b x3.toInt) a_weight' a_key' → ms ≤ 5 →
      (∀ j, j ≤ ms → zk_row (zk_up p a b tv) (zk_up w a b x3.toInt) j a_bestMate' a_bestWeight') → (∀ N, zm_M (zk_E (zk_up p a b tv) zn_N) N → zm_cov N ≤ 2 * (ms : Int)) →
      post (f_outer, f_inner, f_n, f_k, nI ms, f_barred', f_stackSize', f_eventA', f_eventB', f_eventDelta', a_weight', a_key', a_slotMask, a_slotValue, a_bestMate', a_bestWeight', a_partner', a_dual', a_top', a_members', a_base', a_label', a_upFrom', a_upTo', a_head', a_next', a_nextFrom', a_nextTo', a_stack')) :
    wpX_store post (f_outer, f_inner, f_n, f_k, f_maxSize, f_barred, f_stackSize, f_eventA, f_eventB, f_eventDelta, a_weight, a_key, a_slotMask, a_slotValue, a_bestMate, a_bestWeight, a_partner, a_dual, a_top, a_members, a_base, a_label, a_upFrom, a_upTo, a_head, a_next, a_nextFrom, a_nextTo, a_stack) (nI a) (nI b) x3 := by
  have g2 := hG.2.1
  have hG' := zk_upG (x := x3.toInt) (tv := tv) hG ha hb hab h1
  have hx3 : -100000 ≤ x3.toInt ∧ x3.toInt ≤ 500 := by
    cases tv with
    | true => have := h1 rfl; omega
    | false => rw [h2 rfl]; decide
  have c1 : nI a * 10 + nI b = nI (a * 10 + b) := by rw [show (10 : Int32) = nI 10 from rfl, pk_mul, nI_add]
  have c2 : nI b * 10 + nI a = nI (b * 10 + a) := by rw [show (10 : Int32) = nI 10 from rfl, pk_mul, nI_add]
  have i1 := vp_in_nI (n := a * 10 + b) (N := 100) (by omega) (by omega)
  have i2 := vp_in_nI (n := b * 10 + a) (N := 100) (by omega) (by omega)
  have f9 : zk_f 9 = 362880 := by decide +kernel
  have gen : ∀ lo hi : Nat, lo < hi → hi < 10 → (lo = a ∧ hi = b ∨ lo = b ∧ hi = a) → wX_store_10 post (nI a) (nI b) x3 (nI lo) f_outer f_inner f_n f_k f_maxSize f_barred f_stackSize f_eventA f_eventB f_eventDelta a_weight a_key a_slotMask a_slotValue a_bestMate a_bestWeight a_partner a_dual a_top a_members a_base a_label a_upFrom a_upTo a_head a_next a_nextFrom a_nextTo a_stack := by
    intro lo hi hlt hhi hlh
    have hpk : zk_p a b = (10 - (hi : Int)) * zk_f (9 - lo) := by
      rcases hlh with ⟨rfl, rfl⟩ | ⟨rfl, rfl⟩
      · exact if_pos hlt
      · rw [zk_ps]; exact if_pos hlt
    have hpb := zk_pb a (by omega) b (by omega)
    have hfb : ∀ i, i ≤ 9 → 1 ≤ zk_f i ∧ zk_f i ≤ 362880 := fun i hi => ⟨zk_f1 i, by rw [← f9]; exact zk_fm hi⟩
    have hprod : ∀ i, i ≤ 9 → 0 ≤ (10 - (hi : Int)) * zk_f i ∧ (10 - (hi : Int)) * zk_f i ≤ 3628800 := fun i h9 => by
      have hf := hfb i h9
      have m1 := Int.mul_le_mul_of_nonneg_right (show (10 - (hi : Int)) ≤ 10 by omega) (show 0 ≤ zk_f i by omega)
      have m2 := Int.mul_le_mul_of_nonneg_right (show 0 ≤ (10 - (hi : Int)) by omega) (show 0 ≤ zk_f i by omega)
      omega
    have e9 : (9 : Int32) - nI lo = nI (9 - lo) := by rw [show (9 : Int32) = nI 9 from rfl, pk_sub (by omega)]
    have loop : ∀ d i, i + d = 9 - lo → 1 ≤ i → ∀ x5 : Int64, x5.toInt = (10 - (hi : Int)) * zk_f i → wX_store_27 post (nI a) (nI b) x3 (nI lo) f_outer f_inner f_n f_k f_maxSize f_barred f_stackSize f_eventA f_eventB f_eventDelta a_weight a_key a_slotMask a_slotValue a_bestMate a_bestWeight a_partner a_dual a_top a_members a_base a_label a_upFrom a_upTo a_head a_next a_nextFrom a_nextTo a_stack (d + 1) x5 (nI (i + 1)) := by
      intro d
      induction d with
      | zero =>
        intro i hi' h1i x5 h5
        obtain rfl : i = 9 - lo := by omega
        rw [← hpk] at h5
        have hkey : (x3.toInt64 * 3628800 + x5).toInt = x3.toInt * 3628800 + zk_p a b :=
          zx_ladd (zx_lmul (Int32.toInt_toInt64 x3) (show (3628800 : Int64).toInt = 3628800 from by decide) (by omega) (by omega)) h5 (by omega) (by omega)
        refine pk_lt (9 - lo) (9 - lo + 1) (fun _ => ?_) (fun z => absurd z (by omega)) e9
        rw [c1, c2, nI_clamp (n := a * 10 + b) (by omega), nI_clamp (n := b * 10 + a) (by omega)]
        refine ⟨i1, nm_e ⟨i2, nm_e ⟨i1, nm_e ⟨i1, i2, nm_e ?_⟩⟩⟩⟩
        rw [pk_uLs]
        have hX' : zk_X (zk_up p a b tv) (zk_up w a b x3.toInt) (upd (upd a_weight (a * 10 + b) x3) (b * 10 + a) x3) (vp_updL (vp_updL a_key (a * 10 + b) (x3.toInt64 * 3628800 + x5)) (b * 10 + a) (x3.toInt64 * 3628800 + x5)) := by
          intro u v hu hv
          unfold zk_y zk_up
          by_cases q : (u = a ∧ v = b) ∨ (u = b ∧ v = a)
          · simp only [if_pos q]
            have ew : upd (upd a_weight (a * 10 + b) x3) (b * 10 + a) x3 (u * 10 + v) = x3 := by
              rcases q with ⟨rfl, rfl⟩ | ⟨rfl, rfl⟩
              · rw [pk_un (by omega), pk_us]
              · rw [pk_us]
            have ek : vp_updL (vp_updL a_key (a * 10 + b) (x3.toInt64 * 3628800 + x5)) (b * 10 + a) (x3.toInt64 * 3628800 + x5) (u * 10 + v) = x3.toInt64 * 3628800 + x5 := by
              rcases q with ⟨rfl, rfl⟩ | ⟨rfl, rfl⟩
              · rw [pk_uLn (by omega), pk_uLs]
              · rw [pk_uLs]
            have ep : zk_p u v = zk_p a b := by
              rcases q with ⟨rfl, rfl⟩ | ⟨rfl, rfl⟩
              · rfl
              · exact zk_ps _ _
            rw [ew, ek, hkey, ep]
            refine ⟨fun _ => ⟨rfl, rfl⟩, fun z => h2 (by simpa using z)⟩
          · simp only [if_neg q]
            have n1 : u * 10 + v ≠ a * 10 + b := fun z => q (Or.inl ⟨by omega, by omega⟩)
            have n2 : u * 10 + v ≠ b * 10 + a := fun z => q (Or.inr ⟨by omega, by omega⟩)
            rw [pk_un n2, pk_un n1, pk_uLn n2, pk_uLn n1]
            exact hX u v hu hv
        refine zx_refresh hG' hX' hn ?_
        intro ms f_s' f_a' f_b' f_d' bm bw a1 a2 a3 a4 a5 a6 a7 a8 a9 a10 a11 a12 a13 m5 rows mx
        exact K ms _ f_s' f_a' f_b' f_d' _ _ bm bw a1 a2 a3 a4 a5 a6 a7 a8 a9 a10 a11 a12 a13 hX' m5 rows mx
      | succ d ih =>
        intro i hi' h1i x5 h5
        refine pk_lt (9 - lo) (i + 1) (fun z => absurd z (by omega)) (fun _ => nm_e (nm_r (nI_1 (i + 1)) (ih (i + 1) (by omega) (by omega) _ ?_))) e9
        have e1 : (nI (i + 1)).toInt64.toInt = ((i + 1 : Nat) : Int) := by rw [Int32.toInt_toInt64, nI_toInt (by omega)]
        have e2 : (10 - (hi : Int)) * zk_f i * ((i + 1 : Nat) : Int) = (10 - (hi : Int)) * zk_f (i + 1) := by
          show _ = (10 - (hi : Int)) * (((i + 1 : Nat) : Int) * zk_f i)
          rw [Int.mul_assoc, Int.mul_comm (zk_f i)]
        have hb := hprod (i + 1) (by omega)
        rw [← e2] at hb ⊢
        exact zx_lmul h5 e1 (by omega) (by omega)
    unfold wX_store_10
    have e10 : (10 - ((nI a + nI b) - nI lo)).toInt64.toInt = (10 - (hi : Int)) * zk_f 1 := by
      have : nI a + nI b - nI lo = nI hi := by
        rw [nI_add, pk_sub (by rcases hlh with ⟨e1, e2⟩ | ⟨e1, e2⟩ <;> omega)]
        exact congrArg nI (by rcases hlh with ⟨e1, e2⟩ | ⟨e1, e2⟩ <;> omega)
      rw [this, show (10 : Int32) = nI 10 from rfl, pk_sub (by omega), Int32.toInt_toInt64, nI_toInt (by omega)]
      have : zk_f 1 = 1 := by decide
      rw [this]
      omega
    exact nm_e ⟨9 - lo - 1 + 1, loop (9 - lo - 1) 1 (by omega) (by omega) _ e10⟩
  unfold wpX_store
  dsimp only
  exact pk_le b a (fun z => gen b a (by omega) (by omega) (Or.inr ⟨rfl, rfl⟩)) (fun z => gen a b z (by omega) (Or.inl ⟨rfl, rfl⟩))
end
/-- taking one edge out of a matching -/
theorem zm_cut {E : Nat → Nat → Prop} {m : Nat → Nat} (h : zm_M E m) {a : Nat} (ha : a < 10) (hb : m a ≠ a) : zm_M E (zu_U (zu_U m a a) (m a) (m a)) ∧ zm_cov (zu_U (zu_U m a a) (m a) (m a)) = zm_cov m - 2 ∧ (∀ v, v < 10 → zu_U (zu_U m a a) (m a) (m a) v ≠ v → v ≠ a ∧ v ≠ m a ∧ zu_U (zu_U m a a) (m a) (m a) v = m v) := by
  obtain ⟨a1, a2, _⟩ := h a ha
  have off : ∀ v, v ≠ a → v ≠ m a → zu_U (zu_U m a a) (m a) (m a) v = m v := fun v h1 h2 => (zu_n h2).trans (zu_n h1)
  have onb : zu_U (zu_U m a a) (m a) (m a) (m a) = m a := zu_s
  have ona : zu_U (zu_U m a a) (m a) (m a) a = a := (zu_n (fun z => hb z.symm)).trans zu_s
  have third : ∀ v, v < 10 → zu_U (zu_U m a a) (m a) (m a) v ≠ v → v ≠ a ∧ v ≠ m a ∧ zu_U (zu_U m a a) (m a) (m a) v = m v := fun v hv hne => by
    have h1 : v ≠ a := fun z => hne (by rw [z]; exact ona)
    have h2 : v ≠ m a := fun z => hne (by rw [z]; exact onb)
    exact ⟨h1, h2, off v h1 h2⟩
  refine ⟨fun v hv => ?_, ?_, third⟩
  · obtain ⟨v1, v2, v3⟩ := h v hv
    by_cases e1 : v = a
    · rw [e1, ona, ona]; exact ⟨ha, rfl, fun z => absurd rfl z⟩
    · by_cases e2 : v = m a
      · rw [e2, onb, onb]; exact ⟨a1, rfl, fun z => absurd rfl z⟩
      · have e3 : m v ≠ a := fun z => e2 (by rw [← z]; exact v2.symm)
        have e4 : m v ≠ m a := fun z => e1 (by rw [← v2, z, a2])
        rw [off v e1 e2, off _ e3 e4]
        exact ⟨v1, v2, v3⟩
  · unfold zm_cov
    have key : zs_S (fun v => if m v = v then 0 else 1) 10 = zs_S (fun v => (if zu_U (zu_U m a a) (m a) (m a) v = v then 0 else 1) + ((if v = a then 1 else 0) + (if v = m a then 1 else 0))) 10 := by
      apply zs_congr
      intro v hv
      by_cases e1 : v = a
      · rw [e1, ona, if_neg hb, if_pos rfl, if_pos rfl, if_neg (fun z => hb z.symm)]; rfl
      · by_cases e2 : v = m a
        · rw [e2, onb, a2, if_neg (fun z => hb z.symm), if_pos rfl, if_neg hb, if_pos rfl]; rfl
        · rw [off v e1 e2, if_neg e1, if_neg e2]; omega
    rw [key, zs_add, zs_add, zs_one _ 10 ha, zs_one _ 10 a1]
    omega
theorem i_vc_setEdge {k : Nat} {u : SX} {v : SY} (I : i_Rel k u v) (hk : k + 4 ≤ 2049) (v1 : Int32) (v2 : Int32) (v3 : Int32) : wpX_setEdge (fun r u' => wpY_setEdge (fun r' v' => r' = r ∧ i_Rel (k + 4) u' v') v v1 v2 v3) u v1 v2 v3 := by
  refine zz_el (P := fun u v => wpX_setEdge (fun r u' => wpY_setEdge (fun r' v' => r' = r ∧ i_Rel (k + 4) u' v') v v1 v2 v3) u v1 v2 v3) ?_ I
  intro f_outer f_inner f_n f_k f_maxSize f_barred f_stackSize f_eventA f_eventB f_eventDelta a_weight a_key a_slotMask a_slotValue a_bestMate a_bestWeight a_partner a_dual a_top a_members a_base a_label a_upFrom a_upTo a_head a_next a_nextFrom a_nextTo a_stack y_n y_k b_present b_weight b_masks b_values b_list b_used b_stack b_chosen hR
  have hR0 := hR
  obtain ⟨nn, kk, ms, p, w, hG, hn, hyn, hfk, hyk, hkm, hm5, hms, hX, hY, hma, hva, hrow, hmax⟩ := hR0
  have g2 := hG.2.1
  have g3 := hG.2.2.1
  unfold wpX_setEdge
  dsimp only
  by_cases q : ∃ a b, a < nn ∧ b < nn ∧ a ≠ b ∧ v1 = nI a ∧ v2 = nI b
  · obtain ⟨a, b, ha, hb, hab, rfl, rfl⟩ := q
    have hc : nI a * 10 + nI b = nI (a * 10 + b) := by
      rw [show (10 : Int32) = nI 10 from rfl, pk_mul, nI_add]
    refine zx_badP1 hn g2 ha hb hab (br_t rfl ?_)
    by_cases q1 : v3 < -500
    · refine br_t q1 ?_
      unfold wpY_setEdge
      dsimp only
      exact zy_isP1 hyn g2 ha hb hab (br_f (by decide) (br_t q1 ⟨rfl, hR⟩))
    · by_cases q2 : v3 ≤ 500
      · have h500 : -500 ≤ v3.toInt ∧ v3.toInt ≤ 500 := by
          rw [Int32.lt_iff_toInt_lt, show (-500 : Int32).toInt = -500 from by decide] at q1
          rw [Int32.le_iff_toInt_le, show (500 : Int32).toInt = 500 from by decide] at q2
          omega
        have hx := hX a b (by omega) (by omega)
        -- the reference
        have ref : ∀ (Q : SY → Prop), (∀ lo hi, lo < hi → (lo = a ∧ hi = b ∨ lo = b ∧ hi = a) → Q (y_n, y_k, upd b_present (lo * 10 + hi) 1, upd b_weight (lo * 10 + hi) v3, b_masks, b_values, b_list, b_used, b_stack, b_chosen)) → wpY_setEdge (fun r' v' => r' = (if p a b = true then 2 else 1) ∧ Q v') (y_n, y_k, b_present, b_weight, b_masks, b_values, b_list, b_used, b_stack, b_chosen) (nI a) (nI b) v3 := by
          intro Q hQ
          unfold wpY_setEdge
          dsimp only
          refine zy_isP1 hyn g2 ha hb hab (br_f (by decide) (br_f q1 (br_t q2 ?_)))
          refine zy_code (by omega) (by omega) hab (fun lo hi hlt hlh => ?_)
          have hi10 : hi < 10 := by omega
          have hpl : p lo hi = p a b := by
            rcases hlh with ⟨e1, e2⟩ | ⟨e1, e2⟩
            · rw [e1, e2]
            · rw [e1, e2]; exact hG.2.2.2.1 b a
          have hy := hY lo hi hlt hi10
          rw [hpl] at hy
          have hci := vp_in_nI (n := lo * 10 + hi) (N := 100) (by omega) (by omega)
          refine ⟨hci, ?_⟩
          rw [nI_clamp (n := lo * 10 + hi) (by omega)]
          refine nm_e ⟨hci, nm_e ⟨hci, nm_e ?_⟩⟩
          have hq := hQ lo hi hlt hlh
          by_cases z : p a b = true
          · rw [(hy.1 z).1]
            exact br_f (by decide) ⟨(if_pos z).symm, hq⟩
          · rw [hy.2 z]
            exact br_t rfl ⟨(if_neg z).symm, hq⟩
        refine br_f q1 (br_t q2 ?_)
        rw [hc, nI_clamp (n := a * 10 + b) (by omega)]
        refine ⟨vp_in_nI (by omega) (by omega), ?_⟩
        have fin : wX_setEdge_47 (fun r u' => wpY_setEdge (fun r' v' => r' = r ∧ i_Rel (k + 4) u' v') (y_n, y_k, b_present, b_weight, b_masks, b_values, b_list, b_used, b_stack, b_chosen) (nI a) (nI b) v3) (nI a) (nI b) v3 (if p a b = true then 2 else 1) f_outer f_inner f_n f_k f_maxSize f_barred f_stackSize f_eventA f_eventB f_eventDelta a_weight a_key a_slotMask a_slotValue a_bestMate a_bestWeight a_partner a_dual a_top a_members a_base a_label a_upFrom a_upTo a_head a_next a_nextFrom a_nextTo a_stack := by
          unfold wX_setEdge_47
          refine zx_store (tv := true) hG hX hn ha hb hab (fun _ => h500) (fun z => absurd z (by decide)) ?_
          intro ms' f_bar' f_s' f_a' f_b' f_d' aw ak bm bw a1 a2 a3 a4 a5 a6 a7 a8 a9 a10 a11 a12 a13 hX' m5 rows mx
          refine ref _ (fun lo hi hlt hlh => ?_)
          have hG' := zk_upG (x := v3.toInt) (tv := true) hG ha hb hab (fun _ => h500)
          refine (show zz_Rel _ _ _ _ _ _ _ _ _ _ _ _ _ _ _ from ⟨nn, kk, ms', zk_up p a b true, zk_up w a b v3.toInt, hG', hn, hyn, hfk, hyk, ?_, m5, rfl, hX', ?_, hma, hva, rows, mx⟩)
          · obtain ⟨m, r1, r2, _⟩ := hrow kk hkm
            have := mx m (fun x hx => ⟨(r1.1 x hx).1, (r1.1 x hx).2.1, fun hne => by
              obtain ⟨e1, e2, e3⟩ := (r1.1 x hx).2.2 hne
              refine ⟨?_, e2, e3⟩
              unfold zk_up
              split
              · rfl
              · exact e1⟩)
            omega
          · intro x y hxy hy10
            have hold := hY x y hxy hy10
            unfold zk_up
            by_cases z : (x = a ∧ y = b) ∨ (x = b ∧ y = a)
            · rw [if_pos z, if_pos z]
              have e : x * 10 + y = lo * 10 + hi := by
                rcases z with ⟨z1, z2⟩ | ⟨z1, z2⟩ <;> rcases hlh with ⟨e1, e2⟩ | ⟨e1, e2⟩ <;> omega
              rw [e, pk_us, pk_us]
              exact ⟨fun _ => ⟨rfl, rfl⟩, fun y => absurd rfl y⟩
            · rw [if_neg z, if_neg z]
              have n : x * 10 + y ≠ lo * 10 + hi := fun e => z (by
                rcases hlh with ⟨e1, e2⟩ | ⟨e1, e2⟩
                · exact Or.inl ⟨by omega, by omega⟩
                · exact Or.inr ⟨by omega, by omega⟩)
              rw [pk_un n, pk_un n]
              exact hold
        by_cases z : p a b = true
        · rw [if_pos z] at fin
          refine br_f (fun y => ?_) fin
          have h1 := (hx.1 z).1
          rw [y, show (-100000 : Int32).toInt = -100000 from by decide] at h1
          have := (g3 a b z).2.2.2
          omega
        · rw [if_neg z] at fin
          exact br_t (hx.2 z) fin
      · refine br_f q1 (br_f q2 ?_)
        unfold wpY_setEdge
        dsimp only
        exact zy_isP1 hyn g2 ha hb hab (br_f (by decide) (br_f q1 (br_f q2 ⟨rfl, hR⟩)))
  · refine zx_badP0 hn g2 q (br_f (by decide) ?_)
    unfold wpY_setEdge
    dsimp only
    exact zy_isP0 hyn g2 q (br_t rfl ⟨rfl, hR⟩)
theorem i_vc_removeEdge {k : Nat} {u : SX} {v : SY} (I : i_Rel k u v) (hk : k + 4 ≤ 2049) (v1 : Int32) (v2 : Int32) : wpX_removeEdge (fun r u' => wpY_removeEdge (fun r' v' => r' = r ∧ i_Rel (k + 4) u' v') v v1 v2) u v1 v2 := by
  refine zz_el (P := fun u v => wpX_removeEdge (fun r u' => wpY_removeEdge (fun r' v' => r' = r ∧ i_Rel (k + 4) u' v') v v1 v2) u v1 v2) ?_ I
  intro f_outer f_inner f_n f_k f_maxSize f_barred f_stackSize f_eventA f_eventB f_eventDelta a_weight a_key a_slotMask a_slotValue a_bestMate a_bestWeight a_partner a_dual a_top a_members a_base a_label a_upFrom a_upTo a_head a_next a_nextFrom a_nextTo a_stack y_n y_k b_present b_weight b_masks b_values b_list b_used b_stack b_chosen hR
  have hR0 := hR
  obtain ⟨nn, kk, ms, p, w, hG, hn, hyn, hfk, hyk, hkm, hm5, hms, hX, hY, hma, hva, hrow, hmax⟩ := hR0
  have g2 := hG.2.1
  have g3 := hG.2.2.1
  unfold wpX_removeEdge
  dsimp only
  by_cases q : ∃ a b, a < nn ∧ b < nn ∧ a ≠ b ∧ v1 = nI a ∧ v2 = nI b
  · obtain ⟨a, b, ha, hb, hab, rfl, rfl⟩ := q
    have hc : nI a * 10 + nI b = nI (a * 10 + b) := by
      rw [show (10 : Int32) = nI 10 from rfl, pk_mul, nI_add]
    have hx := hX a b (by omega) (by omega)
    have hpl : ∀ lo hi, (lo = a ∧ hi = b ∨ lo = b ∧ hi = a) → p lo hi = p a b := fun lo hi hlh => by
      rcases hlh with ⟨e1, e2⟩ | ⟨e1, e2⟩
      · rw [e1, e2]
      · rw [e1, e2]; exact hG.2.2.2.1 b a
    refine zx_badP1 hn g2 ha hb hab (br_t rfl ?_)
    rw [hc, nI_clamp (n := a * 10 + b) (by omega)]
    refine ⟨vp_in_nI (by omega) (by omega), ?_⟩
    by_cases z : p a b = true
    · have hnw : ¬ a_weight (a * 10 + b) = -100000 := fun y => by
        have h1 := (hx.1 z).1
        rw [y, show (-100000 : Int32).toInt = -100000 from by decide] at h1
        have := (g3 a b z).2.2.2
        omega
      have hG' := zk_upG (x := (-100000 : Int32).toInt) (tv := false) hG ha hb hab (fun y => absurd y (by decide))
      refine br_f hnw (zx_store (tv := false) hG hX hn ha hb hab (fun y => absurd y (by decide)) (fun _ => rfl) ?_)
      intro ms' f_bar' f_s' f_a' f_b' f_d' aw ak bm bw a1 a2 a3 a4 a5 a6 a7 a8 a9 a10 a11 a12 a13 hX' m5 rows mx
      -- the reference, up to its count
      have ref : ∀ (Q : SY → Prop) (k2 : Nat), (∀ lo hi b_list' b_used' b_stack' b_chosen', lo < hi → (lo = a ∧ hi = b ∨ lo = b ∧ hi = a) → zk_Y (zk_up p a b false) (zk_up w a b (-100000 : Int32).toInt) (upd b_present (lo * 10 + hi) 0) b_weight → Q (y_n, nI k2, upd b_present (lo * 10 + hi) 0, b_weight, b_masks, b_values, b_list', b_used', b_stack', b_chosen')) →
          ((kk ≤ ms' ∧ k2 = kk) ∨ (ms' < kk ∧ k2 + 1 = kk)) → wpY_removeEdge (fun r' v' => r' = 1 ∧ Q v') (y_n, y_k, b_present, b_weight, b_masks, b_values, b_list, b_used, b_stack, b_chosen) (nI a) (nI b) := by
        intro Q k2 hQ hk2
        unfold wpY_removeEdge
        dsimp only
        refine zy_isP1 hyn g2 ha hb hab (br_f (by decide) ?_)
        refine zy_code (by omega) (by omega) hab (fun lo hi hlt hlh => ?_)
        have hi10 : hi < 10 := by omega
        have hy := hY lo hi hlt hi10
        rw [hpl lo hi hlh] at hy
        have hci := vp_in_nI (n := lo * 10 + hi) (N := 100) (by omega) (by omega)
        refine ⟨hci, ?_⟩
        rw [nI_clamp (n := lo * 10 + hi) (by omega), (hy.1 z).1]
        refine br_f (by decide) ⟨hci, nm_e ?_⟩
        have hY' : zk_Y (zk_up p a b false) (zk_up w a b (-100000 : Int32).toInt) (upd b_present (lo * 10 + hi) 0) b_weight := by
          intro x y hxy hy10
          have hold := hY x y hxy hy10
          unfold zk_up
          by_cases t : (x = a ∧ y = b) ∨ (x = b ∧ y = a)
          · rw [if_pos t, if_pos t]
            have e : x * 10 + y = lo * 10 + hi := by
              rcases t with ⟨z1, z2⟩ | ⟨z1, z2⟩ <;> rcases hlh with ⟨e1, e2⟩ | ⟨e1, e2⟩ <;> omega
            rw [e, pk_us]
            exact ⟨fun y => absurd y (by decide), fun _ => rfl⟩
          · rw [if_neg t, if_neg t]
            have n : x * 10 + y ≠ lo * 10 + hi := fun e => t (by
              rcases hlh with ⟨e1, e2⟩ | ⟨e1, e2⟩
              · exact Or.inl ⟨by omega, by omega⟩
              · exact Or.inr ⟨by omega, by omega⟩)
            rw [pk_un n]
            exact hold
        rw [hyk, ← zn_eq]
        refine zz_s hG' hY' hyn (Or.inr rfl) (by omega) (fun r b_list' b_used' b_stack' b_chosen' s1 s2 => ?_)
        have hq := hQ lo hi b_list' b_used' b_stack' b_chosen' hlt hlh hY'
        rcases hk2 with ⟨h1, rfl⟩ | ⟨h1, h2⟩
        · obtain ⟨m, r1, r2, _⟩ := rows k2 h1
          have hr := (s1 m r1 r2).1
          have hb' := zm_Wb hG' r1.1
          refine br_f (fun y => ?_) ⟨rfl, hq⟩
          have hy0 : r.toInt = -100000 := by rw [y]; decide
          omega
        · subst h2
          refine br_t (s2 (fun N hN hcN => ?_)) (nm_r (nI_pred k2) ⟨rfl, hq⟩)
          have := mx N hN
          omega
      subst hfk
      refine pk_le kk ms' (fun h => ?_) (fun h => ?_)
      · refine ref _ kk (fun lo hi b_list' b_used' b_stack' b_chosen' hlt hlh hY' => ?_) (Or.inl ⟨h, rfl⟩)
        exact (show zz_Rel _ _ _ _ _ _ _ _ _ _ _ _ _ _ _ from ⟨nn, kk, ms', zk_up p a b false, zk_up w a b (-100000 : Int32).toInt, hG', hn, hyn, rfl, rfl, h, m5, rfl, hX', hY', hma, hva, rows, mx⟩)
      · obtain ⟨k2, rfl⟩ : ∃ k2, kk = k2 + 1 := ⟨kk - 1, by omega⟩
        refine nm_r (nI_pred k2) (ref _ k2 (fun lo hi b_list' b_used' b_stack' b_chosen' hlt hlh hY' => ?_) (Or.inr ⟨h, rfl⟩))
        refine (show zz_Rel _ _ _ _ _ _ _ _ _ _ _ _ _ _ _ from ⟨nn, k2, ms', zk_up p a b false, zk_up w a b (-100000 : Int32).toInt, hG', hn, hyn, rfl, rfl, ?_, m5, rfl, hX', hY', hma, hva, rows, mx⟩)
        -- one edge less at most
        obtain ⟨m, r1, r2, _⟩ := hrow (k2 + 1) hkm
        have same : ∀ (N : Nat → Nat), zm_M (zk_E p zn_N) N → (∀ x, x < 10 → N x ≠ x → ¬ ((x = a ∧ N x = b) ∨ (x = b ∧ N x = a))) → zm_M (zk_E (zk_up p a b false) zn_N) N := fun N hN hno x hx => ⟨(hN x hx).1, (hN x hx).2.1, fun hne => by
          obtain ⟨e1, e2, e3⟩ := (hN x hx).2.2 hne
          refine ⟨?_, e2, e3⟩
          unfold zk_up
          rw [if_neg (hno x hx hne)]
          exact e1⟩
        by_cases t : m a = b
        · obtain ⟨c1, c2, c3⟩ := zm_cut r1.1 (a := a) (by omega) (by rw [t]; exact fun y => hab y.symm)
          have := mx _ (same _ c1 (fun x hx hne y => by
            obtain ⟨d1, d2, d3⟩ := c3 x hx hne
            rcases y with ⟨y1, _⟩ | ⟨y1, _⟩
            · exact d1 y1
            · exact d2 (by rw [t]; exact y1)))
          rw [c2, r2] at this
          omega
        · have := mx m (same m r1.1 (fun x hx hne y => by
            rcases y with ⟨y1, y2⟩ | ⟨y1, y2⟩
            · rw [y1] at y2; exact t y2
            · have := (r1.1 x hx).2.1
              rw [y2] at this
              exact t (by rw [this, y1])))
          omega
    · refine br_t (hx.2 z) ?_
      unfold wpY_removeEdge
      dsimp only
      refine zy_isP1 hyn g2 ha hb hab (br_f (by decide) ?_)
      refine zy_code (by omega) (by omega) hab (fun lo hi hlt hlh => ?_)
      have hy := hY lo hi hlt (by omega)
      rw [hpl lo hi hlh] at hy
      refine ⟨vp_in_nI (by omega) (by omega), ?_⟩
      rw [nI_clamp (n := lo * 10 + hi) (by omega), hy.2 z]
      exact br_t rfl ⟨rfl, hR⟩
  · refine zx_badP0 hn g2 q (br_f (by decide) ?_)
    unfold wpY_removeEdge
    dsimp only
    exact zy_isP0 hyn g2 q (br_t rfl ⟨rfl, hR⟩)
section
variable {f_outer f_inner f_n f_k f_maxSize f_barred f_stackSize f_eventA f_eventB : Int32} {f_eventDelta : Int64} {a_weight : Nat → Int32} {a_key : Nat → Int64} {a_slotMask a_slotValue a_bestMate a_bestWeight a_partner : Nat → Int32} {a_dual : Nat → Int64} {a_top a_members a_base a_label a_upFrom a_upTo a_head a_next a_nextFrom a_nextTo a_stack : Nat → Int32}
theorem zx_init193 {post : SX → Prop} {nn : Nat} (hnn : 2 ≤ nn ∧ nn ≤ 10) (hn : f_n = nI nn)
    (K : ∀ (ms : Nat) (f_barred' f_stackSize' f_eventA' f_eventB' : Int32) (f_eventDelta' : Int64) (a_weight' : Nat → Int32) (a_bestMate' a_bestWeight' : Nat → Int32) (a_partner' : Nat → Int32) (a_dual' : Nat → Int64) (a_top' a_members' a_base' a_label' a_upFrom' a_upTo' a_head' a_next' a_nextFrom' a_nextTo' a_stack' : Nat → Int32), zk_G nn (fun _ _ => false) (fun _ _ => 0) → zk_X (fun _ _ => false) (fun _ _ => 0) a_weight' a_key → ms ≤ 5 →
      (∀ j, j ≤ ms → zk_row (fun _ _ => false) (fun _ _ => 0) j a_bestMate' a_bestWeight') → (∀ N, zm_M (zk_E (fun _ _ => false) zn_N) N → zm_cov N ≤ 2 * (ms : Int)) →
      post (f_outer, f_inner, f_n, f_k, nI ms, f_barred', f_stackSize', f_eventA', f_eventB', f_eventDelta', a_weight', a_key, a_slotMask, a_slotValue, a_bestMate', a_bestWeight', a_partner', a_dual', a_top', a_members', a_base', a_label', a_upFrom', a_upTo', a_head', a_next', a_nextFrom', a_nextTo', a_stack')) :
    ∀ d i, i + d = 100 → ∀ a_weight, (∀ c, c < i → a_weight c = -100000) → wX_init_193 post f_outer f_inner f_n f_k f_maxSize f_barred f_stackSize f_eventA f_eventB f_eventDelta (d + 1) (nI i) a_weight a_key a_slotMask a_slotValue a_bestMate a_bestWeight a_partner a_dual a_top a_members a_base a_label a_upFrom a_upTo a_head a_next a_nextFrom a_nextTo a_stack := by
  intro d
  induction d with
  | zero =>
    intro i hi a_weight h
    obtain rfl : i = 100 := by omega
    refine pk_le 100 100 (fun _ => ?_) (fun z => absurd z (by omega))
    have hG : zk_G nn (fun _ _ => false) (fun _ _ => 0) := ⟨hnn.1, hnn.2, fun u v z => (Bool.false_ne_true z).elim, fun _ _ => rfl, fun _ _ => rfl⟩
    have hX : zk_X (fun _ _ => false) (fun _ _ => 0) a_weight a_key := fun u v hu hv => ⟨fun z => (Bool.false_ne_true z).elim, fun _ => h _ (by omega)⟩
    refine zx_refresh hG hX hn ?_
    intro ms f_s' f_a' f_b' f_d' bm bw a1 a2 a3 a4 a5 a6 a7 a8 a9 a10 a11 a12 a13 m5 rows mx
    exact K ms _ f_s' f_a' f_b' f_d' _ bm bw a1 a2 a3 a4 a5 a6 a7 a8 a9 a10 a11 a12 a13 hG hX m5 rows mx
  | succ d ih =>
    intro i hi a_weight h
    refine pk_le 100 i (fun z => absurd z (by omega)) (fun _ => ⟨vp_in_nI (by omega) (by omega), ?_⟩)
    rw [nI_clamp (n := i) (by omega)]
    refine nm_e (nm_r (nI_1 i) (ih (i + 1) (by omega) _ (fun c hc => ?_)))
    by_cases e : c = i
    · subst e; exact pk_us
    · rw [pk_un e]; exact h c (by omega)
end
theorem i_vc0 (k0 : Int32) : wpX_init (fun u => wpY_init (fun v => i_Rel 1 u v) k0) k0 := by
  have fin : ∀ (nn : Nat), 2 ≤ nn → nn ≤ 10 → ∀ (P : SX → Prop), (∀ (f_outer f_inner f_maxSize f_barred f_stackSize f_eventA f_eventB : Int32) (f_eventDelta : Int64) (a_weight : Nat → Int32) (a_bestMate a_bestWeight a_partner : Nat → Int32) (a_dual : Nat → Int64) (a_top a_members a_base a_label a_upFrom a_upTo a_head a_next a_nextFrom a_nextTo a_stack : Nat → Int32),
      zz_Rel (nI nn) 0 f_maxSize a_weight (fun _ => 0) (fun _ => 0) (fun _ => 0) a_bestMate a_bestWeight (nI nn) 0 (fun _ => 0) (fun _ => 0) (fun _ => 0) (fun _ => 0) → P (f_outer, f_inner, nI nn, 0, f_maxSize, f_barred, f_stackSize, f_eventA, f_eventB, f_eventDelta, a_weight, (fun _ => 0), (fun _ => 0), (fun _ => 0), a_bestMate, a_bestWeight, a_partner, a_dual, a_top, a_members, a_base, a_label, a_upFrom, a_upTo, a_head, a_next, a_nextFrom, a_nextTo, a_stack)) →
      ∃ n193 : Nat, wX_init_193 P 1 (-1) (nI nn) 0 0 0 0 0 0 0 n193 0 (fun _ => 0) (fun _ => 0) (fun _ => 0) (fun _ => 0) (fun _ => 0) (fun _ => 0) (fun _ => 0) (fun _ => 0) (fun _ => 0) (fun _ => 0) (fun _ => 0) (fun _ => 0) (fun _ => 0) (fun _ => 0) (fun _ => 0) (fun _ => 0) (fun _ => 0) (fun _ => 0) (fun _ => 0) := by
    intro nn h2 h10 P hP
    refine ⟨101, zx_init193 ⟨h2, h10⟩ rfl ?_ 100 0 rfl _ (fun c hc => by omega)⟩
    intro ms f_bar' f_s' f_a' f_b' f_d' aw bm bw a1 a2 a3 a4 a5 a6 a7 a8 a9 a10 a11 a12 a13 hG hX m5 rows mx
    exact hP _ _ _ _ _ _ _ _ aw bm bw a1 a2 a3 a4 a5 a6 a7 a8 a9 a10 a11 a12 a13 ⟨nn, 0, ms, _, _, hG, rfl, rfl, rfl, rfl, by omega, m5, rfl, hX, fun x y _ _ => ⟨fun z => (Bool.false_ne_true z).elim, fun _ => rfl⟩, rfl, rfl, rows, mx⟩
  unfold wpX_init
  by_cases q1 : 2 ≤ k0
  · by_cases q2 : k0 ≤ 10
    · obtain ⟨j, hj, rfl⟩ := nI_of2 (x := k0) (M := 10) (n := 10) (by decide) (fun z => by
        rw [Int32.lt_iff_toInt_lt, show (0 : Int32).toInt = 0 from by decide] at z
        rw [Int32.le_iff_toInt_le, show (2 : Int32).toInt = 2 from by decide] at q1
        omega) q2
      have j2 : 2 ≤ j := by
        rw [show (2 : Int32) = nI 2 from rfl, nI_leI (by omega) (by omega)] at q1
        exact q1
      refine br_t q1 (br_t q2 (fin j j2 hj _ ?_))
      intros
      exact br_t q1 (br_t q2 (by assumption))
    · refine br_t q1 (br_f q2 (fin 10 (by omega) (by omega) _ ?_))
      intros
      exact br_t q1 (br_f q2 (by assumption))
  · refine br_f q1 (fin 2 (by omega) (by omega) _ ?_)
    intros
    exact br_f q1 (br_t (by decide) (by assumption))
end
