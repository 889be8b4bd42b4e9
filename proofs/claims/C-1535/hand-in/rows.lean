section
/-! pure rows to paste: stores, nI and lN arithmetic, masks, shifts, narrowing, branches by naturals (pk_le, pk_lt, pk_eq), loops (lp1 .. lp16: the measure of the state; rp1 ..: recursion), negatives. Take what you need -/
theorem pk_us {f : Nat → Int32} {k : Nat} {x : Int32} : upd f k x k = x := if_pos rfl
theorem pk_un {f : Nat → Int32} {k j : Nat} {x : Int32} (h : j ≠ k) : upd f k x j = f j := if_neg h
theorem pk_uLs {f : Nat → Int64} {k : Nat} {x : Int64} : vp_updL f k x k = x := if_pos rfl
theorem pk_uLn {f : Nat → Int64} {k j : Nat} {x : Int64} (h : j ≠ k) : vp_updL f k x j = f j := if_neg h
theorem pk_sub {a b : Nat} (h : b ≤ a) : nI a - nI b = nI (a - b) := by
  obtain ⟨c, rfl⟩ : ∃ c, a = c + b := ⟨a - b, by omega⟩
  rw [← nI_add, Int32.add_sub_cancel, Nat.add_sub_cancel]
theorem pk_m1 (n : Nat) : nI (n + 1) + (-1) = nI n := by
  rw [← nI_1, Int32.add_assoc, show (1 : Int32) + (-1) = 0 from rfl, Int32.add_zero]
theorem pk_mul (a b : Nat) : nI a * nI b = nI (a * b) := (Int32.ofNat_mul a b).symm
theorem pk_div {a d : Nat} (ha : a < 2 ^ 31) (h0 : 0 < d) (hd : d < 2 ^ 31) : nI a / nI d = nI (a / d) := by
  apply Int32.toInt_inj.mp
  rw [lg_idiv_nonneg (by rw [nI_toInt ha]; omega) (by rw [nI_toInt hd]; omega), nI_toInt ha, nI_toInt hd, nI_toInt (Nat.lt_of_le_of_lt (Nat.div_le_self a d) ha)]
  first | rfl | exact (Int.natCast_ediv _ _).symm
theorem pk_rem {a d : Nat} (ha : a < 2 ^ 31) (h0 : 0 < d) (hd : d < 2 ^ 31) : nI a - nI a / nI d * nI d = nI (a % d) := by
  rw [pk_div ha h0 hd, pk_mul, pk_sub (Nat.div_mul_le_self a d)]
  exact congrArg nI (by have := Nat.div_add_mod' a d; omega)
theorem pk_sub_toInt {a b : Nat} (ha : a < 2 ^ 30) (hb : b < 2 ^ 30) : (nI a - nI b).toInt = (a : Int) - b := by
  rw [Int32.toInt_sub, nI_toInt (by omega), nI_toInt (by omega)]
  exact Int.bmod_eq_of_le (by omega) (by omega)
theorem pk_sneg {a b : Nat} (hb : b < 2 ^ 30) (h : a < b) : nI a - nI b < 0 := by
  rw [Int32.lt_iff_toInt_lt, pk_sub_toInt (by omega) hb, show (0 : Int32).toInt = 0 from by decide]
  omega
theorem pk_ix (x : Int32) {n : Nat} (hn : n < 2 ^ 31) : x < 0 ∨ nI n ≤ x ∨ ∃ j : Nat, j < n ∧ x = nI j := by
  by_cases h : x < 0
  · exact Or.inl h
  · obtain ⟨j, hj, rfl⟩ := nI_of h
    by_cases h2 : j < n
    · exact Or.inr (Or.inr ⟨j, h2, rfl⟩)
    · exact Or.inr (Or.inl (nI_le (by omega) hj))
theorem pk_le {x y : Int32} {A B : Prop} (a b : Nat) (f : a ≤ b → A) (g : b < a → B) (hx : x = nI a := by rfl) (hy : y = nI b := by rfl) (ha : a < 2 ^ 31 := by omega) (hb : b < 2 ^ 31 := by omega) : (x ≤ y → A) ∧ (¬ x ≤ y → B) := by
  subst hx hy
  rw [nI_leI ha hb]
  exact ⟨f, fun z => g (by omega)⟩
theorem pk_lt {x y : Int32} {A B : Prop} (a b : Nat) (f : a < b → A) (g : b ≤ a → B) (hx : x = nI a := by rfl) (hy : y = nI b := by rfl) (ha : a < 2 ^ 31 := by omega) (hb : b < 2 ^ 31 := by omega) : (x < y → A) ∧ (¬ x < y → B) := by
  subst hx hy
  rw [nI_ltI ha hb]
  exact ⟨f, fun z => g (by omega)⟩
theorem pk_eq {x y : Int32} {A B : Prop} (a b : Nat) (f : a = b → A) (g : a ≠ b → B) (hx : x = nI a := by rfl) (hy : y = nI b := by rfl) (ha : a < 2 ^ 31 := by omega) (hb : b < 2 ^ 31 := by omega) : (x = y → A) ∧ (¬ x = y → B) := by
  subst hx hy
  rw [nI_eq ha hb]
  exact ⟨f, g⟩
theorem pk_in {x : Int32} (n N : Nat) (h : n < N) (hx : x = nI n := by rfl) (hN : N < 2 ^ 31 := by omega) : vp_in x N := by
  subst hx
  exact vp_in_nI h hN
theorem pk_cl {x : Int32} (n : Nat) (hx : x = nI n := by rfl) (h : n < 2 ^ 31 := by omega) : x.toNatClampNeg = n := by
  subst hx
  exact nI_clamp h
theorem pk_tn {n : Nat} (h : n < 2 ^ 32) : (nI n).toBitVec.toNat = n := Nat.mod_eq_of_lt h
theorem pk_and (x : Int32) {m : Int32} (k : Nat) (hm : m.toBitVec.toNat = 2 ^ k - 1) : x &&& m = nI (x.toBitVec.toNat % 2 ^ k) := by
  apply Int32.toBitVec_inj.mp
  apply BitVec.eq_of_toNat_eq
  rw [Int32.toBitVec_and, BitVec.toNat_and, hm, Nat.and_two_pow_sub_one_eq_mod]
  show _ = (BitVec.ofNat 32 _).toNat
  rw [BitVec.toNat_ofNat]
  exact (Nat.mod_eq_of_lt (Nat.lt_of_le_of_lt (Nat.mod_le _ _) x.toBitVec.isLt)).symm
theorem pk_andN {n : Nat} (h : n < 2 ^ 32) {m : Int32} (k : Nat) (hm : m.toBitVec.toNat = 2 ^ k - 1) : nI n &&& m = nI (n % 2 ^ k) := by
  rw [pk_and _ k hm, pk_tn h]
theorem pk_andE (x : Int32) {m : Int32} (k : Nat) (hm : m.toBitVec.toNat = 2 ^ k - 1) : ∃ j : Nat, j < 2 ^ k ∧ x &&& m = nI j := ⟨_, Nat.mod_lt _ (Nat.two_pow_pos k), pk_and x k hm⟩
theorem pk_andIn (x : Int32) {m : Int32} (k : Nat) (hm : m.toBitVec.toNat = 2 ^ k - 1) (hk : k ≤ 30) : vp_in (x &&& m) (2 ^ k) := by
  obtain ⟨j, hj, e⟩ := pk_andE x k hm
  rw [e]
  exact vp_in_nI hj (Nat.lt_of_le_of_lt (Nat.pow_le_pow_right (by decide) hk) (by decide))
theorem pk_shl (a s : Int32) (k : Nat) (hs : (s.toBitVec.smod 32).toNat = k) : (a <<< s).toBitVec.toNat = a.toBitVec.toNat * 2 ^ k % 2 ^ 32 := by
  show (a.toBitVec <<< (s.toBitVec.smod 32).toNat).toNat = _
  rw [hs, BitVec.toNat_shiftLeft, Nat.shiftLeft_eq]
theorem pk_shlN {n : Nat} (s : Int32) (k : Nat) (hs : (s.toBitVec.smod 32).toNat = k) (h : n * 2 ^ k < 2 ^ 32) : nI n <<< s = nI (n * 2 ^ k) := by
  apply Int32.toBitVec_inj.mp
  apply BitVec.eq_of_toNat_eq
  have hn : n < 2 ^ 32 := Nat.lt_of_le_of_lt (Nat.le_mul_of_pos_right n (Nat.two_pow_pos k)) h
  rw [pk_shl _ _ k hs, pk_tn hn, pk_tn h, Nat.mod_eq_of_lt h]
theorem pk_shr (a s : Int32) (k : Nat) (hs : (s.toBitVec.smod 32).toNat = k) : (a >>> s).toInt = a.toInt >>> k := by
  show (a.toBitVec.sshiftRight (s.toBitVec.smod 32).toNat).toInt = _
  rw [hs, BitVec.toInt_sshiftRight]
  rfl
theorem pk_shrN {n : Nat} (h : n < 2 ^ 31) (s : Int32) (k : Nat) (hs : (s.toBitVec.smod 32).toNat = k) : nI n >>> s = nI (n / 2 ^ k) := by
  apply Int32.toInt_inj.mp
  have h2 : n / 2 ^ k ≤ n := Nat.div_le_self _ _
  rw [pk_shr _ _ k hs, nI_toInt h, nI_toInt (by omega), Int.shiftRight_eq_div_pow]
  rfl
theorem pk_ushr (x s : Int32) (k : Nat) (hs : ((s.toUInt32 &&& Int32.toUInt32 31).toBitVec % 32).toNat = k) : (x.toUInt32 >>> (s.toUInt32 &&& Int32.toUInt32 31)).toInt32.toBitVec.toNat = x.toBitVec.toNat / 2 ^ k := by
  have e : (x.toUInt32 >>> (s.toUInt32 &&& Int32.toUInt32 31)).toInt32.toBitVec = x.toBitVec >>> k := by
    rw [← hs]
    exact UInt32.toBitVec_shiftRight _ _
  rw [e, BitVec.toNat_ushiftRight, Nat.shiftRight_eq_div_pow]
theorem pk_ushrN {n : Nat} (hn : n < 2 ^ 32) (s : Int32) (k : Nat) (hs : ((s.toUInt32 &&& Int32.toUInt32 31).toBitVec % 32).toNat = k) : ((nI n).toUInt32 >>> (s.toUInt32 &&& Int32.toUInt32 31)).toInt32 = nI (n / 2 ^ k) := by
  apply Int32.toBitVec_inj.mp
  apply BitVec.eq_of_toNat_eq
  rw [pk_ushr _ s k hs, pk_tn hn, pk_tn (Nat.lt_of_le_of_lt (Nat.div_le_self _ _) hn)]
theorem pk_nb (z : Int32) : narrow .byte (.int z.toInt8.toInt32) = .int z.toInt8.toInt32 := congrArg Value.int (by simp)
theorem pk_ns (z : Int32) : narrow .short (.int z.toInt16.toInt32) = .int z.toInt16.toInt32 := congrArg Value.int (by simp)
theorem pk_fb (r : Int32) : fits .byte (.int r.toInt8.toInt32) = true := by
  have ⟨a, b⟩ := lg_i2b_range r
  have h1 : (-128 : Int32).toInt = -128 := by decide
  have h2 : (127 : Int32).toInt = 127 := by decide
  simp only [fits, Bool.and_eq_true, decide_eq_true_eq, Int32.le_iff_toInt_le, h1, h2]
  omega
theorem pk_fs (r : Int32) : fits .short (.int r.toInt16.toInt32) = true := by
  have ⟨a, b⟩ := lg_i2s_range r
  have h1 : (-32768 : Int32).toInt = -32768 := by decide
  have h2 : (32767 : Int32).toInt = 32767 := by decide
  simp only [fits, Bool.and_eq_true, decide_eq_true_eq, Int32.le_iff_toInt_le, h1, h2]
  omega
theorem pk_charN {q : Nat} (hq : q < 65536) : narrow .char (.int (nI q)) = .int (nI q) ∧ fits .char (.int (nI q)) = true := by
  constructor
  · have e : (nI q).toUInt32.toUInt16.toUInt32.toInt32 = nI q := by
      apply Int32.toBitVec_inj.mp
      apply BitVec.eq_of_toNat_eq
      show (nI q).toUInt32.toUInt16.toUInt32.toNat = q % 2 ^ 32
      rw [UInt16.toNat_toUInt32, UInt32.toNat_toUInt16, show (nI q).toUInt32.toNat = q % 2 ^ 32 from rfl]
      omega
    exact congrArg Value.int e
  · have a : (0 : Int32) ≤ nI q := nI_pos' (by omega)
    have b : nI q ≤ 65535 := nI_le (b := 65535) (by omega) (by decide)
    show (decide ((0 : Int32) ≤ nI q) && decide (nI q ≤ 65535)) = true
    rw [decide_eq_true a, decide_eq_true b]
    rfl
theorem pk_char (x : Int32) : (x.toUInt32 % 65536).toInt32 = nI (x.toBitVec.toNat % 65536) := by
  apply Int32.toBitVec_inj.mp
  apply BitVec.eq_of_toNat_eq
  rw [pk_tn (by omega)]
  show (x.toUInt32 % 65536).toNat = _
  rw [UInt32.toNat_mod]
  rfl
theorem pk_nc (x : Int32) : narrow .char (.int (x.toUInt32 % 65536).toInt32) = .int (x.toUInt32 % 65536).toInt32 := by
  rw [pk_char]
  exact (pk_charN (Nat.mod_lt _ (by decide))).1
theorem pk_fc (x : Int32) : fits .char (.int (x.toUInt32 % 65536).toInt32) = true := by
  rw [pk_char]
  exact (pk_charN (Nat.mod_lt _ (by decide))).2
theorem pk_vb (z : Int32) : vp_nar .byte z.toInt8.toInt32 = z.toInt8.toInt32 := by rw [vp_nar_byte]; simp
theorem pk_vs (z : Int32) : vp_nar .short z.toInt16.toInt32 = z.toInt16.toInt32 := by rw [vp_nar_short]; simp
theorem pk_vc (z : Int32) : vp_nar .char (z.toUInt32 % 65536).toInt32 = (z.toUInt32 % 65536).toInt32 := Value.int.inj (pk_nc z)
theorem pk_lT {n : Nat} (h : n < 2 ^ 63) : (lN n).toInt = (n : Int) := lg_ofNat_toInt h
theorem pk_lLT {a b : Nat} (ha : a < 2 ^ 63) (hb : b < 2 ^ 63) : lN a < lN b ↔ a < b := by
  rw [Int64.lt_iff_toInt_lt, pk_lT ha, pk_lT hb]; omega
theorem pk_lLE {a b : Nat} (ha : a < 2 ^ 63) (hb : b < 2 ^ 63) : lN a ≤ lN b ↔ a ≤ b := by
  rw [Int64.le_iff_toInt_le, pk_lT ha, pk_lT hb]; omega
theorem pk_lEQ {a b : Nat} (ha : a < 2 ^ 63) (hb : b < 2 ^ 63) : lN a = lN b ↔ a = b := by
  rw [← Int64.toInt_inj, pk_lT ha, pk_lT hb]; omega
theorem pk_lOf {x : Int64} (h : ¬ x < 0) : ∃ k : Nat, k < 2 ^ 63 ∧ x = lN k := by
  rw [Int64.lt_iff_toInt_lt] at h
  have h0 : (0 : Int64).toInt = 0 := by decide
  have hx := Int64.toInt_lt x
  refine ⟨x.toInt.toNat, by omega, Int64.toInt_inj.mp ?_⟩
  rw [pk_lT (by omega)]
  omega
theorem pk_lDiv {a b : Nat} (ha : a < 2 ^ 63) (h0 : 0 < b) (hb : b < 2 ^ 63) : lN a / lN b = lN (a / b) := by
  apply Int64.toInt_inj.mp
  rw [lg_ldiv_nonneg (by rw [pk_lT ha]; omega) (by rw [pk_lT hb]; omega), pk_lT ha, pk_lT hb, pk_lT (Nat.lt_of_le_of_lt (Nat.div_le_self a b) ha)]
  rfl
theorem pk_lRem {a b : Nat} (ha : a < 2 ^ 63) (h0 : 0 < b) (hb : b < 2 ^ 63) : lN a - lN a / lN b * lN b = lN (a % b) := by
  rw [pk_lDiv ha h0 hb, lN_mul, lN_sub (Nat.div_mul_le_self a b)]
  exact congrArg lN (by have := Nat.div_add_mod' a b; omega)
theorem pk_loop {σ : Type} (W : Nat → Nat → σ → Prop) (I : Nat → σ → Prop) (e i0 : Nat) (s : σ) (hi : i0 ≤ e) (h0 : I i0 s) (hx : ∀ n s, I e s → W (n + 1) e s)
    (hs : ∀ n i s, i < e → I i s → (∀ s', I (i + 1) s' → W n (i + 1) s') → W (n + 1) i s) : ∃ n, W n i0 s :=
  ⟨e + 1, loop_i W I e hx hs (e + 1) i0 s hi (by omega) h0⟩
theorem pk_loopD {σ : Type} (W : Nat → Nat → σ → Prop) (I : Nat → σ → Prop) (hx : ∀ n s, I 0 s → W (n + 1) 0 s)
    (hs : ∀ n i s, I (i + 1) s → (∀ s', I i s' → W n i s') → W (n + 1) (i + 1) s) : ∀ (e : Nat) (s : σ), I e s → W (e + 1) e s := by
  intro e
  induction e with
  | zero => exact fun s h => hx 0 s h
  | succ e ih => exact fun s h => hs (e + 1) e s h (fun s' h' => ih s' h')
/-! ===== Int32 by its bits: bt x i ===== -/
def bt (x : Int32) (i : Nat) : Bool := x.toBitVec.getLsbD i
theorem b_ext {x y : Int32} (h : ∀ i, i < 32 → bt x i = bt y i) : x = y := Int32.toBitVec_inj.mp (BitVec.eq_of_getLsbD_eq (fun i hi => h i hi))
theorem b_or (x y : Int32) (i : Nat) : bt (x ||| y) i = (bt x i || bt y i) := by unfold bt; rw [Int32.toBitVec_or, BitVec.getLsbD_or]
theorem b_and (x y : Int32) (i : Nat) : bt (x &&& y) i = (bt x i && bt y i) := by unfold bt; rw [Int32.toBitVec_and, BitVec.getLsbD_and]
theorem b_xor (x y : Int32) (i : Nat) : bt (x ^^^ y) i = (bt x i ^^ bt y i) := by unfold bt; rw [Int32.toBitVec_xor, BitVec.getLsbD_xor]
theorem b_big {x : Int32} {i : Nat} (h : 32 ≤ i) : bt x i = false := BitVec.getLsbD_of_ge _ _ h
theorem b_255 (i : Nat) : bt 255 i = decide (i < 8) := by
  rcases Nat.lt_or_ge i 32 with h | h
  · exact (by decide +kernel : ∀ i, i < 32 → bt 255 i = decide (i < 8)) i h
  · rw [b_big h, decide_eq_false (by omega)]
theorem b_65535 (i : Nat) : bt 65535 i = decide (i < 16) := by
  rcases Nat.lt_or_ge i 32 with h | h
  · exact (by decide +kernel : ∀ i, i < 32 → bt 65535 i = decide (i < 16)) i h
  · rw [b_big h, decide_eq_false (by omega)]
theorem b_m1 : ∀ i, i < 32 → bt (-1) i = true := by decide +kernel
theorem b_0 (i : Nat) : bt 0 i = false := BitVec.getLsbD_zero
theorem s_l : ∀ n, n < 32 → ((nI n &&& 31).toBitVec.smod 32).toNat = n := by decide +kernel
theorem s_u : ∀ n, n < 32 → (((nI n).toUInt32 &&& Int32.toUInt32 31).toBitVec % 32).toNat = n := by decide +kernel
theorem b_shl (n : Nat) (hn : n < 32) (x : Int32) {i : Nat} (hi : i < 32) : bt (x <<< (nI n &&& 31)) i = (decide (n ≤ i) && bt x (i - n)) := by
  unfold bt
  rw [Int32.toBitVec_shiftLeft]
  show (x.toBitVec <<< ((nI n &&& 31).toBitVec.smod 32).toNat).getLsbD i = _
  rw [s_l n hn, BitVec.getLsbD_shiftLeft]
  rcases Nat.lt_or_ge i n with h | h
  · simp [h, Nat.not_le.mpr h]
  · simp [hi, h, Nat.not_lt.mpr h]
theorem b_ushr (n : Nat) (hn : n < 32) (x : Int32) (i : Nat) : bt ((x.toUInt32 >>> ((nI n).toUInt32 &&& Int32.toUInt32 31)).toInt32) i = bt x (n + i) := by
  show (x.toUInt32 >>> ((nI n).toUInt32 &&& Int32.toUInt32 31)).toBitVec.getLsbD i = x.toUInt32.toBitVec.getLsbD (n + i)
  rw [UInt32.toBitVec_shiftRight]
  show (x.toUInt32.toBitVec >>> (((nI n).toUInt32 &&& Int32.toUInt32 31).toBitVec % 32).toNat).getLsbD i = _
  rw [s_u n hn, BitVec.getLsbD_ushiftRight]
theorem b_sshr (n : Nat) (hn : n < 32) (x : Int32) {i : Nat} (hi : i < 32) : bt (x >>> (nI n &&& 31)) i = if n + i < 32 then bt x (n + i) else bt x 31 := by
  unfold bt
  rw [Int32.toBitVec_shiftRight]
  show (x.toBitVec.sshiftRight ((nI n &&& 31).toBitVec.smod 32).toNat).getLsbD i = _
  rw [s_l n hn, BitVec.getLsbD_sshiftRight, BitVec.msb_eq_getLsbD_last]
  simp [hi]
end
section
/-! ===== enumerations: g 0 .. g (n-1) are, each once, the numbers below N that p takes ===== -/
def en_E (n N : Nat) (g : Nat → Nat) (p : Nat → Bool) : Prop :=
  (∀ i, i < n → g i < N ∧ p (g i) = true) ∧ (∀ i j, i < n → j < n → g i = g j → i = j) ∧ (∀ m, m < N → p m = true → ∃ i, i < n ∧ g i = m)
def en_C (N : Nat) (p : Nat → Bool) : Nat := (List.range N).countP p
def en_S (n : Nat) (g : Nat → Nat) (lt : Nat → Nat → Prop) : Prop := ∀ i j, i < j → j < n → lt (g i) (g j)
theorem en_perm {n N : Nat} {g : Nat → Nat} {p : Nat → Bool} (h : en_E n N g p) : ((List.range n).map g).Perm ((List.range N).filter p) := by
  obtain ⟨h1, h2, h3⟩ := h
  refine (List.perm_ext_iff_of_nodup ?_ ?_).mpr ?_
  · refine List.pairwise_map.mpr (List.Pairwise.imp_of_mem ?_ List.nodup_range)
    intro a b ha hb hab e
    exact hab (h2 a b (List.mem_range.mp ha) (List.mem_range.mp hb) e)
  · exact List.Pairwise.filter p List.nodup_range
  · intro a
    rw [List.mem_map, List.mem_filter, List.mem_range]
    constructor
    · intro ⟨i, hi, e⟩
      rw [← e]
      exact h1 i (List.mem_range.mp hi)
    · intro ⟨ha, hp⟩
      obtain ⟨i, hi, e⟩ := h3 a ha hp
      exact ⟨i, List.mem_range.mpr hi, e⟩
theorem en_len {n N : Nat} {g : Nat → Nat} {p : Nat → Bool} (h : en_E n N g p) : n = en_C N p := by
  have := (en_perm h).length_eq
  rw [List.length_map, List.length_range, ← List.countP_eq_length_filter] at this
  exact this
theorem en_cnt {n N : Nat} {g : Nat → Nat} {p : Nat → Bool} (h : en_E n N g p) (q : Nat → Bool) : (List.range n).countP (fun i => q (g i)) = en_C N (fun m => q m && p m) := by
  have := (en_perm h).countP_eq q
  rw [List.countP_map, List.countP_filter] at this
  exact this
theorem en_Cle (N : Nat) (p : Nat → Bool) : en_C N p ≤ N := by
  have := List.countP_le_length (p := p) (l := List.range N)
  rw [List.length_range] at this
  exact this
theorem en_Ccg {N : Nat} {p q : Nat → Bool} (h : ∀ m, m < N → p m = q m) : en_C N p = en_C N q :=
  List.countP_congr (fun x hx => by rw [h x (List.mem_range.mp hx)])
theorem en_C0 {N : Nat} {p : Nat → Bool} (h : ∀ m, m < N → p m = false) : en_C N p = 0 :=
  List.countP_eq_zero.mpr (fun x hx => by rw [h x (List.mem_range.mp hx)]; decide)
theorem en_Cs (N : Nat) (p : Nat → Bool) : en_C (N + 1) p = en_C N p + if p N then 1 else 0 := by
  unfold en_C
  rw [List.range_succ, List.countP_append, List.countP_singleton]
theorem en_Cpos {N : Nat} {p : Nat → Bool} : 0 < en_C N p ↔ ∃ m, m < N ∧ p m = true := by
  unfold en_C
  rw [List.countP_pos_iff]
  constructor
  · intro ⟨a, ha, hp⟩; exact ⟨a, List.mem_range.mp ha, hp⟩
  · intro ⟨a, ha, hp⟩; exact ⟨a, List.mem_range.mpr ha, hp⟩
/-- one number more, or one less -/
theorem en_Cadd {N m : Nat} {p p' : Nat → Bool} (hm : m < N) (h0 : p m = false) (h1 : p' m = true) (h : ∀ j, j < N → j ≠ m → p' j = p j) : en_C N p' = en_C N p + 1 := by
  induction N with
  | zero => omega
  | succ N ih =>
    rw [en_Cs, en_Cs]
    rcases Nat.lt_or_ge m N with z | z
    · rw [ih z (fun j hj => h j (by omega)), h N (by omega) (by omega)]; omega
    · have e : m = N := by omega
      subst e
      rw [en_Ccg (fun j hj => h j (by omega) (by omega)), h0, h1]
      simp
theorem en_split {n : Nat} (q : Nat → Bool) : ∀ c, c ≤ n → (∀ i, i < c → q i = true) → (∀ i, c ≤ i → i < n → q i = false) → (List.range n).countP q = c := by
  induction n with
  | zero => intro c hc _ _; simp; omega
  | succ n ih =>
    intro c hc h1 h2
    rw [List.range_succ, List.countP_append, List.countP_singleton]
    rcases Nat.lt_or_ge n c with z | z
    · have e : c = n + 1 := by omega
      subst e
      rw [ih n (by omega) (fun i hi => h1 i (by omega)) (fun i h3 h4 => by omega), h1 n (by omega)]
      simp
    · rw [ih c z h1 (fun i h3 h4 => h2 i h3 (by omega)), h2 n z (by omega)]
      simp
theorem en_del {n N c : Nat} {g : Nat → Nat} {p : Nat → Bool} (h : en_E (n + 1) N g p) (hc : c ≤ n) (g' : Nat → Nat) (p' : Nat → Bool) (hg : ∀ i, i < n → g' i = if i < c then g i else g (i + 1)) (hp : ∀ m, m < N → p' m = (p m && decide (m ≠ g c))) : en_E n N g' p' := by
  obtain ⟨h1, h2, h3⟩ := h
  refine ⟨fun i hi => ?_, fun i j hi hj e => ?_, fun m hm hpm => ?_⟩
  · rw [hg i hi]
    have key : ∀ x, x < n + 1 → x ≠ c → g x < N ∧ p' (g x) = true := fun x hx hxc => by
      have := h1 x hx
      refine ⟨this.1, ?_⟩
      have hne : g x ≠ g c := fun e => hxc (h2 x c hx (by omega) e)
      rw [hp _ this.1, this.2, decide_eq_true hne]; rfl
    by_cases z : i < c
    · rw [if_pos z]; exact key i (by omega) (by omega)
    · rw [if_neg z]; exact key (i + 1) (by omega) (by omega)
  · rw [hg i hi, hg j hj] at e
    by_cases z : i < c <;> by_cases w : j < c
    · rw [if_pos z, if_pos w] at e; exact h2 i j (by omega) (by omega) e
    · rw [if_pos z, if_neg w] at e; have := h2 i (j + 1) (by omega) (by omega) e; omega
    · rw [if_neg z, if_pos w] at e; have := h2 (i + 1) j (by omega) (by omega) e; omega
    · rw [if_neg z, if_neg w] at e; have := h2 (i + 1) (j + 1) (by omega) (by omega) e; omega
  · rw [hp m hm, Bool.and_eq_true, decide_eq_true_iff] at hpm
    obtain ⟨i, hi, e⟩ := h3 m hm hpm.1
    have hic : i ≠ c := fun z => hpm.2 (by rw [← e, z])
    by_cases z : i < c
    · exact ⟨i, by omega, by rw [hg i (by omega), if_pos z]; exact e⟩
    · refine ⟨i - 1, by omega, ?_⟩
      rw [hg (i - 1) (by omega), if_neg (by omega), Nat.sub_add_cancel (by omega)]; exact e
theorem en_delS {n c : Nat} {g : Nat → Nat} {lt : Nat → Nat → Prop} (h : en_S (n + 1) g lt) (g' : Nat → Nat) (hg : ∀ i, i < n → g' i = if i < c then g i else g (i + 1)) : en_S n g' lt := by
  intro i j hij hj
  rw [hg i (by omega), hg j hj]
  by_cases z : i < c <;> by_cases w : j < c
  · rw [if_pos z, if_pos w]; exact h i j hij (by omega)
  · rw [if_pos z, if_neg w]; exact h i (j + 1) (by omega) (by omega)
  · omega
  · rw [if_neg z, if_neg w]; exact h (i + 1) (j + 1) (by omega) (by omega)
theorem en_ins {n N c m : Nat} {g : Nat → Nat} {p : Nat → Bool} (h : en_E n N g p) (hc : c ≤ n) (hm : m < N) (hpm : p m = false) (g' : Nat → Nat) (p' : Nat → Bool) (hg : ∀ i, i < n + 1 → g' i = if i < c then g i else if i = c then m else g (i - 1)) (hp : ∀ j, j < N → p' j = (p j || decide (j = m))) : en_E (n + 1) N g' p' := by
  obtain ⟨h1, h2, h3⟩ := h
  have ne : ∀ i, i < n → g i ≠ m := fun i hi e => by
    have := (h1 i hi).2
    rw [e, hpm] at this
    exact absurd this (by decide)
  refine ⟨fun i hi => ?_, fun i j hi hj e => ?_, fun x hx hpx => ?_⟩
  · rw [hg i hi]
    have key : ∀ x, x < n → g x < N ∧ p' (g x) = true := fun x hx => by
      have := h1 x hx
      refine ⟨this.1, ?_⟩
      rw [hp _ this.1, this.2]; rfl
    by_cases z : i < c
    · rw [if_pos z]; exact key i (by omega)
    · rw [if_neg z]
      by_cases w : i = c
      · rw [if_pos w]; exact ⟨hm, by rw [hp m hm, decide_eq_true rfl, Bool.or_true]⟩
      · rw [if_neg w]; exact key (i - 1) (by omega)
  · rw [hg i hi, hg j hj] at e
    by_cases z : i < c
    · rw [if_pos z] at e
      by_cases w : j < c
      · rw [if_pos w] at e; exact h2 i j (by omega) (by omega) e
      · rw [if_neg w] at e
        by_cases y : j = c
        · rw [if_pos y] at e; exact absurd e (ne i (by omega))
        · rw [if_neg y] at e; have := h2 i (j - 1) (by omega) (by omega) e; omega
    · rw [if_neg z] at e
      by_cases x : i = c
      · rw [if_pos x] at e
        by_cases w : j < c
        · rw [if_pos w] at e; exact absurd e.symm (ne j (by omega))
        · rw [if_neg w] at e
          by_cases y : j = c
          · omega
          · rw [if_neg y] at e; exact absurd e.symm (ne (j - 1) (by omega))
      · rw [if_neg x] at e
        by_cases w : j < c
        · rw [if_pos w] at e; have := h2 (i - 1) j (by omega) (by omega) e; omega
        · rw [if_neg w] at e
          by_cases y : j = c
          · rw [if_pos y] at e; exact absurd e (ne (i - 1) (by omega))
          · rw [if_neg y] at e; have := h2 (i - 1) (j - 1) (by omega) (by omega) e; omega
  · rw [hp x hx, Bool.or_eq_true, decide_eq_true_iff] at hpx
    by_cases w : x = m
    · exact ⟨c, by omega, by rw [hg c (by omega), if_neg (by omega), if_pos rfl]; exact w.symm⟩
    · obtain ⟨i, hi, e⟩ := h3 x hx (hpx.resolve_right w)
      by_cases z : i < c
      · exact ⟨i, by omega, by rw [hg i (by omega), if_pos z]; exact e⟩
      · exact ⟨i + 1, by omega, by rw [hg (i + 1) (by omega), if_neg (by omega), if_neg (by omega)]; exact e⟩
theorem en_insS {n c m : Nat} {g : Nat → Nat} {lt : Nat → Nat → Prop} (h : en_S n g lt) (hc : c ≤ n) (h1 : ∀ i, i < c → lt (g i) m) (h2 : ∀ i, c ≤ i → i < n → lt m (g i)) (g' : Nat → Nat) (hg : ∀ i, i < n + 1 → g' i = if i < c then g i else if i = c then m else g (i - 1)) : en_S (n + 1) g' lt := by
  intro i j hij hj
  rw [hg i (by omega), hg j hj]
  by_cases z : i < c
  · rw [if_pos z]
    by_cases w : j < c
    · rw [if_pos w]; exact h i j hij (by omega)
    · rw [if_neg w]
      by_cases y : j = c
      · rw [if_pos y]; exact h1 i z
      · rw [if_neg y]; exact h i (j - 1) (by omega) (by omega)
  · rw [if_neg z, if_neg (by omega : ¬ j < c), if_neg (by omega : ¬ j = c)]
    by_cases x : i = c
    · rw [if_pos x]; exact h2 (j - 1) (by omega) (by omega)
    · rw [if_neg x]; exact h (i - 1) (j - 1) (by omega) (by omega)
/-- the same members, other names -/
theorem en_cg {n N : Nat} {g g' : Nat → Nat} {p p' : Nat → Bool} (h : en_E n N g p) (hg : ∀ i, i < n → g' i = g i) (hp : ∀ m, m < N → p' m = p m) : en_E n N g' p' := by
  obtain ⟨h1, h2, h3⟩ := h
  refine ⟨fun i hi => ?_, fun i j hi hj e => h2 i j hi hj (by rw [← hg i hi, ← hg j hj]; exact e), fun m hm hpm => ?_⟩
  · rw [hg i hi, hp _ (h1 i hi).1]; exact h1 i hi
  · obtain ⟨i, hi, e⟩ := h3 m hm (by rw [← hp m hm]; exact hpm)
    exact ⟨i, hi, by rw [hg i hi]; exact e⟩
theorem en_0 {N : Nat} {g : Nat → Nat} {p : Nat → Bool} (h : ∀ m, m < N → p m = false) : en_E 0 N g p :=
  ⟨fun i hi => by omega, fun i j hi => by omega, fun m hm hpm => by rw [h m hm] at hpm; exact absurd hpm (by decide)⟩
end
section
/-! ===== the abstract key: kind, number, elements, scores by member, deadline (-1: none) ===== -/
abbrev ak_T : Type := Int32 × Int32 × List Int32 × (Nat → Option Int32) × Int32
def ak_0 : Nat → Option Int32 := fun _ => none
def ak_E : ak_T := (0, 0, [], ak_0, -1)
abbrev ak_ls (x : ak_T) : List Int32 := x.2.2.1
abbrev ak_rk (x : ak_T) : Nat → Option Int32 := x.2.2.2.1
abbrev ak_dl (x : ak_T) : Int32 := x.2.2.2.2
def ak_n (r : Nat → Option Int32) : Nat := en_C 16 (fun m => (r m).isSome)
def ak_sz (x : ak_T) : Nat := (ak_ls x).length + ak_n (ak_rk x)
def ak_nm (x : ak_T) : ak_T := if ak_sz x = 0 then ak_E else x
def ak_up (A : Nat → ak_T) (k : Nat) (x : ak_T) : Nat → ak_T := fun j => if j = k then x else A j
def ak_ur (r : Nat → Option Int32) (m : Nat) (s : Option Int32) : Nat → Option Int32 := fun j => if j = m then s else r j
def ak_g (r : Nat → Option Int32) (m : Nat) : Int32 := (r m).getD 0
theorem ak_upS (A : Nat → ak_T) (k : Nat) (x : ak_T) : ak_up A k x k = x := if_pos rfl
theorem ak_upN {A : Nat → ak_T} {k j : Nat} {x : ak_T} (h : j ≠ k) : ak_up A k x j = A j := if_neg h
theorem ak_urS (r : Nat → Option Int32) (k : Nat) (x : Option Int32) : ak_ur r k x k = x := if_pos rfl
theorem ak_urN {r : Nat → Option Int32} {k j : Nat} {x : Option Int32} (h : j ≠ k) : ak_ur r k x j = r j := if_neg h
theorem ak_urI (r : Nat → Option Int32) (k : Nat) : ak_ur r k (r k) = r := by
  funext j
  by_cases h : j = k
  · rw [h, ak_urS]
  · rw [ak_urN h]
theorem ak_upI (A : Nat → ak_T) (k : Nat) : ak_up A k (A k) = A := by
  funext j
  by_cases h : j = k
  · rw [h, ak_upS]
  · rw [ak_upN h]
theorem ak_n0 : ak_n ak_0 = 0 := en_C0 (fun _ _ => rfl)
theorem ak_nle (r : Nat → Option Int32) : ak_n r ≤ 16 := en_Cle 16 _
theorem ak_n_add {r : Nat → Option Int32} {m : Nat} {s : Int32} (hm : m < 16) (h : r m = none) : ak_n (ak_ur r m (some s)) = ak_n r + 1 := by
  refine en_Cadd hm (by rw [h]; rfl) (by rw [ak_urS]; rfl) (fun j _ hj => by rw [ak_urN hj])
theorem ak_n_set {r : Nat → Option Int32} {m : Nat} {s t : Int32} (h : r m = some t) : ak_n (ak_ur r m (some s)) = ak_n r := by
  refine en_Ccg (fun j _ => ?_)
  by_cases z : j = m
  · rw [z, ak_urS, h]; rfl
  · rw [ak_urN z]
theorem ak_n_del {r : Nat → Option Int32} {m : Nat} {t : Int32} (hm : m < 16) (h : r m = some t) : ak_n r = ak_n (ak_ur r m none) + 1 := by
  refine en_Cadd hm (by rw [ak_urS]; rfl) (by rw [h]; rfl) (fun j _ hj => by rw [ak_urN hj])
theorem ak_n_none {r : Nat → Option Int32} (h : ak_n r = 0) (h16 : ∀ m, 16 ≤ m → r m = none) : r = ak_0 := by
  funext m
  rcases Nat.lt_or_ge m 16 with z | z
  · cases e : r m with
    | none => rfl
    | some t =>
      have hp : 0 < ak_n r := en_Cpos.mpr ⟨m, z, by rw [e]; rfl⟩
      omega
  · exact h16 m z
/-! ===== the order of a ranking: by score, then by member ===== -/
abbrev ak_bf (t i s m : Int32) : Prop := t < s ∨ (t = s ∧ i < m)
theorem ak_bfI {t i s m : Int32} : ak_bf t i s m ↔ t.toInt < s.toInt ∨ (t.toInt = s.toInt ∧ i.toInt < m.toInt) := by
  unfold ak_bf
  rw [Int32.lt_iff_toInt_lt, Int32.lt_iff_toInt_lt, Int32.toInt_inj]
theorem ak_bfN {t i s m : Int32} : ¬ ak_bf t i s m ↔ s.toInt < t.toInt ∨ (t.toInt = s.toInt ∧ m.toInt ≤ i.toInt) := by
  rw [ak_bfI]; omega
theorem ak_bfT {a i b j c k : Int32} (h1 : ak_bf a i b j) (h2 : ak_bf b j c k) : ak_bf a i c k := by
  rw [ak_bfI] at *; omega
theorem ak_bfR {a i : Int32} : ¬ ak_bf a i a i := by
  rw [ak_bfI]; omega
theorem ak_bfC {a b : Int32} {i j : Nat} (hi : i < 16) (hj : j < 16) (h : i ≠ j) (hn : ¬ ak_bf a (nI i) b (nI j)) : ak_bf b (nI j) a (nI i) := by
  rw [ak_bfN, nI_toInt (by omega), nI_toInt (by omega)] at hn
  rw [ak_bfI, nI_toInt (by omega), nI_toInt (by omega)]; omega
/-- how many members stand before (s, m) -/
def ak_nb (r : Nat → Option Int32) (s m : Int32) : Nat := en_C 16 (fun j => decide (ak_bf (ak_g r j) (nI j) s m) && (r j).isSome)
abbrev ak_lt (r : Nat → Option Int32) (i j : Nat) : Prop := ak_bf (ak_g r i) (nI i) (ak_g r j) (nI j)
theorem ak_nbX {r : Nat → Option Int32} {n c : Nat} {g : Nat → Nat} {s m : Int32} (h : en_E n 16 g (fun m => (r m).isSome)) (hc : c ≤ n) (h1 : ∀ i, i < c → ak_bf (ak_g r (g i)) (nI (g i)) s m) (h2 : ∀ i, c ≤ i → i < n → ¬ ak_bf (ak_g r (g i)) (nI (g i)) s m) : ak_nb r s m = c := by
  have := en_cnt h (fun j => decide (ak_bf (ak_g r j) (nI j) s m))
  unfold ak_nb
  rw [← this]
  exact en_split _ c hc (fun i hi => decide_eq_true (h1 i hi)) (fun i hi hn => decide_eq_false (h2 i hi hn))
theorem ak_nbG {r : Nat → Option Int32} {n i : Nat} {g : Nat → Nat} (h : en_E n 16 g (fun m => (r m).isSome)) (hs : en_S n g (ak_lt r)) (hi : i < n) : ak_nb r (ak_g r (g i)) (nI (g i)) = i := by
  refine ak_nbX h (by omega) (fun j hj => hs j i hj hi) (fun j hj hn => ?_)
  rcases Nat.lt_or_ge i j with z | z
  · intro q; exact ak_bfR (ak_bfT q (hs i j z hn))
  · have e : j = i := by omega
    rw [e]; exact ak_bfR
theorem ak_nblt {r : Nat → Option Int32} {m m' : Nat} (hm : m < 16) (h : (r m).isSome = true) (hb : ak_lt r m m') : ak_nb r (ak_g r m) (nI m) < ak_nb r (ak_g r m') (nI m') := by
  have e : en_C 16 (fun j => (decide (ak_bf (ak_g r j) (nI j) (ak_g r m) (nI m)) && (r j).isSome) || decide (j = m)) = ak_nb r (ak_g r m) (nI m) + 1 := by
    refine en_Cadd hm ?_ ?_ (fun j _ hj => ?_)
    · show (decide (ak_bf (ak_g r m) (nI m) (ak_g r m) (nI m)) && (r m).isSome) = false
      rw [decide_eq_false ak_bfR]; rfl
    · show ((decide (ak_bf (ak_g r m) (nI m) (ak_g r m) (nI m)) && (r m).isSome) || decide (m = m)) = true
      rw [decide_eq_true (rfl : m = m), Bool.or_true]
    · show ((decide (ak_bf (ak_g r j) (nI j) (ak_g r m) (nI m)) && (r j).isSome) || decide (j = m)) = (decide (ak_bf (ak_g r j) (nI j) (ak_g r m) (nI m)) && (r j).isSome)
      rw [decide_eq_false hj, Bool.or_false]
  have l : en_C 16 (fun j => (decide (ak_bf (ak_g r j) (nI j) (ak_g r m) (nI m)) && (r j).isSome) || decide (j = m)) ≤ ak_nb r (ak_g r m') (nI m') := by
    unfold ak_nb en_C
    refine List.countP_mono_left (fun j _ hj => ?_)
    rw [Bool.or_eq_true, Bool.and_eq_true, decide_eq_true_iff, decide_eq_true_iff] at hj
    rw [Bool.and_eq_true, decide_eq_true_iff]
    rcases hj with ⟨z, w⟩ | z
    · exact ⟨ak_bfT z hb, w⟩
    · rw [z]; exact ⟨hb, h⟩
  omega
def ak_at (r : Nat → Option Int32) (k m : Nat) : Prop := m < 16 ∧ (r m).isSome = true ∧ ak_nb r (ak_g r m) (nI m) = k
theorem ak_atU {r : Nat → Option Int32} {k m m' : Nat} (h : ak_at r k m) (h' : ak_at r k m') : m = m' := by
  obtain ⟨h1, h2, h3⟩ := h
  obtain ⟨h1', h2', h3'⟩ := h'
  refine Classical.byContradiction (fun ne => ?_)
  by_cases z : ak_lt r m m'
  · have := ak_nblt h1 h2 z; omega
  · have := ak_nblt h1' h2' (ak_bfC h1 h1' ne z); omega
/-- the member that stands first -/
def ak_le (r : Nat → Option Int32) : Nat := ((List.range 16).find? (fun m => (r m).isSome && (ak_nb r (ak_g r m) (nI m) == 0))).getD 0
theorem ak_leE {r : Nat → Option Int32} {m : Nat} (h : ak_at r 0 m) : ak_le r = m := by
  have hs : ((List.range 16).find? (fun m => (r m).isSome && (ak_nb r (ak_g r m) (nI m) == 0))).isSome = true := by
    rw [List.find?_isSome]
    refine ⟨m, List.mem_range.mpr h.1, ?_⟩
    rw [h.2.1, h.2.2]; rfl
  obtain ⟨a, ha⟩ := Option.isSome_iff_exists.mp hs
  have h1 := List.find?_some ha
  have h2 := List.mem_range.mp (List.mem_of_find?_eq_some ha)
  rw [Bool.and_eq_true, beq_iff_eq] at h1
  unfold ak_le
  rw [ha]
  exact ak_atU (r := r) (k := 0) ⟨h2, h1.1, h1.2⟩ h
/-! ===== a command on the abstract keys ===== -/
def ak_c1 (a : Int32) (x : ak_T) : Int64 × Option ak_T :=
  if x.1 = 0 ∨ x.1 = 1 then ((x.2.1 + a).toInt64, some (1, x.2.1 + a, [], ak_0, ak_dl x)) else (10000000001, none)
def ak_c2 (x : ak_T) : Int64 × Option ak_T := if x.1 = 0 then (0, none) else (1, some ak_E)
def ak_c3 (a : Int32) (x : ak_T) : Int64 × Option ak_T := if x.1 = 0 then (0, none) else (1, some (x.1, x.2.1, ak_ls x, ak_rk x, a))
def ak_c4 (a : Int32) (x : ak_T) : Int64 × Option ak_T :=
  if x.1 = 0 ∨ x.1 = 2 then (if (ak_ls x).length = 12 then (10000000003, none) else ((nI ((ak_ls x).length + 1)).toInt64, some (2, 0, a :: ak_ls x, ak_0, ak_dl x))) else (10000000001, none)
def ak_c5 (a : Int32) (x : ak_T) : Int64 × Option ak_T :=
  if x.1 = 0 ∨ x.1 = 2 then (if (ak_ls x).length = 12 then (10000000003, none) else ((nI ((ak_ls x).length + 1)).toInt64, some (2, 0, ak_ls x ++ [a], ak_0, ak_dl x))) else (10000000001, none)
def ak_c6 (a : Int32) (x : ak_T) : Int64 × Option ak_T :=
  if x.1 = 0 then (10000000002, none) else if x.1 = 2 then (if a = 0 then (((ak_ls x).getD 0 0).toInt64, some (ak_nm (2, 0, (ak_ls x).tail, ak_0, ak_dl x))) else (((ak_ls x).getD ((ak_ls x).length - 1) 0).toInt64, some (ak_nm (2, 0, (ak_ls x).dropLast, ak_0, ak_dl x)))) else (10000000001, none)
def ak_c7 (m : Nat) (b : Int32) (x : ak_T) : Int64 × Option ak_T :=
  if x.1 = 0 ∨ x.1 = 3 then (if ak_rk x m = none then (if ak_n (ak_rk x) = 12 then (10000000003, none) else (1, some (3, 0, [], ak_ur (ak_rk x) m (some b), ak_dl x))) else (0, if ak_g (ak_rk x) m = b then none else some (3, 0, [], ak_ur (ak_rk x) m (some b), ak_dl x))) else (10000000001, none)
def ak_c8 (m : Nat) (b : Int32) (x : ak_T) : Int64 × Option ak_T :=
  if x.1 = 0 ∨ x.1 = 3 then (if ak_rk x m = none then (if ak_n (ak_rk x) = 12 then (10000000003, none) else (b.toInt64, some (3, 0, [], ak_ur (ak_rk x) m (some b), ak_dl x))) else ((ak_g (ak_rk x) m + b).toInt64, some (3, 0, [], ak_ur (ak_rk x) m (some (ak_g (ak_rk x) m + b)), ak_dl x))) else (10000000001, none)
def ak_c9 (m : Nat) (x : ak_T) : Int64 × Option ak_T :=
  if x.1 = 0 ∨ x.1 = 3 then (if ak_rk x m = none then (0, none) else (1, some (ak_nm (3, 0, [], ak_ur (ak_rk x) m none, ak_dl x)))) else (10000000001, none)
def ak_c10 (x : ak_T) : Int64 × Option ak_T :=
  if x.1 = 0 then (10000000002, none) else if x.1 = 3 then ((nI (ak_le (ak_rk x))).toInt64, some (ak_nm (3, 0, [], ak_ur (ak_rk x) (ak_le (ak_rk x)) none, ak_dl x))) else (10000000001, none)
def ak_one (o a b : Int32) (x : ak_T) : Int64 × Option ak_T :=
  if o = 0 then (0, some (1, a, [], ak_0, -1)) else if o = 1 then ak_c1 a x else if o = 2 then ak_c2 x else if o = 3 then ak_c3 a x else if o = 4 then ak_c4 a x else if o = 5 then ak_c5 a x
  else if o = 6 then ak_c6 a x else if o = 7 then ak_c7 a.toNatClampNeg b x else if o = 8 then ak_c8 a.toNatClampNeg b x else if o = 9 then ak_c9 a.toNatClampNeg x else ak_c10 x
/-- its answer, the keys behind it, the keys that it changed -/
def ak_an (o : Int32) (k : Nat) (a b : Int32) (A : Nat → ak_T) : Int64 := if o = 11 then (if (A k).1 = 0 then 0 else 1) else (ak_one o a b (A k)).1
def ak_st (o : Int32) (k : Nat) (a b : Int32) (A : Nat → ak_T) : Nat → ak_T :=
  if o = 11 then (if (A k).1 = 0 then A else ak_up (ak_up A a.toNatClampNeg (A k)) k ak_E) else (ak_one o a b (A k)).2.elim A (fun x => ak_up A k x)
def ak_ch (o : Int32) (k : Nat) (a b : Int32) (A : Nat → ak_T) (j : Nat) : Bool :=
  if o = 11 then (if (A k).1 = 0 then false else decide (j = k ∨ j = a.toNatClampNeg)) else (ak_one o a b (A k)).2.elim false (fun _ => decide (j = k))
/-- a command that a client may give, or that the log may hold -/
def ak_ok (o : Int32) (k : Nat) (a : Int32) : Prop :=
  (∃ n : Nat, n < 12 ∧ o = nI n) ∧ k < 8 ∧ (o = 3 → a = -1 ∨ 0 < a) ∧ ((o = 7 ∨ o = 8 ∨ o = 9) → vp_in a 16) ∧ (o = 11 → vp_in a 8 ∧ a.toNatClampNeg ≠ k)
/-! ===== what holds of every abstract key ===== -/
def ak_G (x : ak_T) : Prop :=
  x = ak_E ∨ ((ak_dl x = -1 ∨ 0 < ak_dl x) ∧ ((x.1 = 1 ∧ ak_ls x = [] ∧ ak_rk x = ak_0) ∨ (x.1 = 2 ∧ x.2.1 = 0 ∧ 0 < (ak_ls x).length ∧ (ak_ls x).length ≤ 12 ∧ ak_rk x = ak_0)
    ∨ (x.1 = 3 ∧ x.2.1 = 0 ∧ ak_ls x = [] ∧ 0 < ak_n (ak_rk x) ∧ ak_n (ak_rk x) ≤ 12 ∧ ∀ m, 16 ≤ m → ak_rk x m = none)))
theorem ak_GE : ak_G ak_E := Or.inl rfl
theorem ak_Gk {x : ak_T} (h : ak_G x) : x.1 = 0 ∨ x.1 = 1 ∨ x.1 = 2 ∨ x.1 = 3 := by
  rcases h with h | ⟨_, h | h | h⟩
  · rw [h]; exact Or.inl rfl
  · exact Or.inr (Or.inl h.1)
  · exact Or.inr (Or.inr (Or.inl h.1))
  · exact Or.inr (Or.inr (Or.inr h.1))
theorem ak_G0 {x : ak_T} (h : ak_G x) (h0 : x.1 = 0) : x = ak_E := by
  rcases h with h | ⟨_, h | h | h⟩
  · exact h
  · rw [h0] at h; exact absurd h.1 (by decide)
  · rw [h0] at h; exact absurd h.1 (by decide)
  · rw [h0] at h; exact absurd h.1 (by decide)
theorem ak_Gd {x : ak_T} (h : ak_G x) : ak_dl x = -1 ∨ 0 < ak_dl x := by
  rcases h with h | h
  · rw [h]; exact Or.inl rfl
  · exact h.1
theorem ak_G1 {x : ak_T} (h : ak_G x) (h0 : x.1 = 1) : ak_ls x = [] ∧ ak_rk x = ak_0 := by
  rcases h with h | ⟨_, h | h | h⟩
  · rw [h] at h0; exact absurd h0 (by decide)
  · exact h.2
  · rw [h0] at h; exact absurd h.1 (by decide)
  · rw [h0] at h; exact absurd h.1 (by decide)
theorem ak_G2 {x : ak_T} (h : ak_G x) (h0 : x.1 = 2) : x.2.1 = 0 ∧ 0 < (ak_ls x).length ∧ (ak_ls x).length ≤ 12 ∧ ak_rk x = ak_0 := by
  rcases h with h | ⟨_, h | h | h⟩
  · rw [h] at h0; exact absurd h0 (by decide)
  · rw [h0] at h; exact absurd h.1 (by decide)
  · exact h.2
  · rw [h0] at h; exact absurd h.1 (by decide)
theorem ak_G3 {x : ak_T} (h : ak_G x) (h0 : x.1 = 3) : x.2.1 = 0 ∧ ak_ls x = [] ∧ 0 < ak_n (ak_rk x) ∧ ak_n (ak_rk x) ≤ 12 ∧ ∀ m, 16 ≤ m → ak_rk x m = none := by
  rcases h with h | ⟨_, h | h | h⟩
  · rw [h] at h0; exact absurd h0 (by decide)
  · rw [h0] at h; exact absurd h.1 (by decide)
  · rw [h0] at h; exact absurd h.1 (by decide)
  · exact h.2
theorem ak_Gdl {x : ak_T} (h : ak_G x) (h0 : ak_dl x ≠ -1) : x.1 ≠ 0 := fun z => h0 (by rw [ak_G0 h z]; rfl)
theorem ak_Gls {x : ak_T} (h : ak_G x) : (ak_ls x).length ≤ 12 := by
  rcases h with h | ⟨_, h | h | h⟩
  · rw [h]; decide
  · rw [h.2.1]; decide
  · exact h.2.2.2.1
  · rw [h.2.2.1]; decide
theorem ak_Gn {x : ak_T} (h : ak_G x) : ak_n (ak_rk x) ≤ 12 := by
  rcases h with h | ⟨_, h | h | h⟩
  · rw [h]; show ak_n ak_0 ≤ 12; rw [ak_n0]; omega
  · rw [h.2.2, ak_n0]; omega
  · rw [h.2.2.2.2, ak_n0]; omega
  · exact h.2.2.2.2.1
theorem ak_Gsz {x : ak_T} (h : ak_G x) : ak_sz x ≤ 12 := by
  unfold ak_sz
  rcases h with h | ⟨_, h | h | h⟩
  · rw [h]; show ([] : List Int32).length + ak_n ak_0 ≤ 12; rw [ak_n0]; decide
  · rw [h.2.1, h.2.2, ak_n0]; decide
  · rw [h.2.2.2.2, ak_n0]; exact h.2.2.2.1
  · rw [h.2.2.1]; have := h.2.2.2.2.1; simp; omega
theorem ak_szE : ak_sz ak_E = 0 := by
  show ([] : List Int32).length + ak_n ak_0 = 0
  rw [ak_n0]; rfl
end
section
/-! ===== numbers, indices, shifts within an array ===== -/
theorem nu_i8 : ∀ n, n < 128 → (nI n).toInt8.toInt32 = nI n := by decide +kernel
theorem nu_nb {n : Nat} (h : n < 128) : vp_nar .byte (nI n) = nI n := by rw [vp_nar_byte, nu_i8 n h]
theorem nu_vb {n : Nat} (h : n < 128) : vp_nar .byte (nI n).toInt8.toInt32 = nI n := by rw [pk_vb, nu_i8 n h]
theorem nu_b0 : vp_nar .byte 0 = 0 := nu_nb (n := 0) (by omega)
theorem nu_b1 : vp_nar .byte 1 = 1 := nu_nb (n := 1) (by omega)
theorem nu_b2 : vp_nar .byte 2 = 2 := nu_nb (n := 2) (by omega)
theorem nu_b3 : vp_nar .byte 3 = 3 := nu_nb (n := 3) (by omega)
theorem nu_key {p : Int32} {N : Nat} (hp : vp_in p N) (hN : N < 2 ^ 31) : p = nI p.toNatClampNeg ∧ p.toNatClampNeg < N := by
  obtain ⟨j, hj, e⟩ := vp_in_of hp hN
  subst e
  rw [nI_clamp (by omega)]
  exact ⟨rfl, hj⟩
theorem nu_pb {p : Int32} (hp : vp_in p 16) : vp_nar .byte p.toInt8.toInt32 = p := by
  obtain ⟨j, hj, e⟩ := vp_in_of hp (by omega)
  subst e
  exact nu_vb (by omega)
theorem nu_pn {p : Int32} (hp : vp_in p 16) : vp_nar .byte p = p := by
  obtain ⟨j, hj, e⟩ := vp_in_of hp (by omega)
  subst e
  exact nu_nb (by omega)
theorem nu_up {p : Int32} {N M : Nat} (hp : vp_in p N) (h : N ≤ M) (hN : N < 2 ^ 31) : vp_in p M := by
  rw [vp_in_iff] at hp ⊢; omega
theorem nu_12 {p : Int32} (hp : vp_in p 16) (i : Nat) : 12 * p + nI i = nI (12 * p.toNatClampNeg + i) := by
  obtain ⟨j, hj, e⟩ := vp_in_of hp (by omega)
  subst e
  rw [nI_clamp (by omega), ← nI_add, ← pk_mul]; rfl
theorem nu_12z {p : Int32} (hp : vp_in p 16) : 12 * p = nI (12 * p.toNatClampNeg) := by
  obtain ⟨j, hj, e⟩ := vp_in_of hp (by omega)
  subst e
  rw [nI_clamp (by omega), ← pk_mul]; rfl
theorem nu_12c {p : Int32} (hp : vp_in p 16) {i : Nat} (hi : i < 100) : (12 * p + nI i).toNatClampNeg = 12 * p.toNatClampNeg + i := by
  have := (nu_key hp (by omega)).2
  rw [nu_12 hp, nI_clamp (by omega)]
theorem nu_12x {p : Int32} (hp : vp_in p 8) {i : Nat} (hi : i < 12) : vp_in (12 * p + nI i) 96 := by
  have := (nu_key hp (by omega)).2
  rw [nu_12 (nu_up hp (by omega) (by omega))]; exact vp_in_nI (by omega) (by omega)
theorem nu_12y {p : Int32} (hp : vp_in p 16) {i : Nat} (hi : i < 12) : vp_in (12 * p + nI i) 192 := by
  have := (nu_key hp (by omega)).2
  rw [nu_12 hp]; exact vp_in_nI (by omega) (by omega)
theorem nu_16 {p : Int32} (hp : vp_in p 8) (i : Nat) : 16 * p + nI i = nI (16 * p.toNatClampNeg + i) := by
  obtain ⟨j, hj, e⟩ := vp_in_of hp (by omega)
  subst e
  rw [nI_clamp (by omega), ← nI_add, ← pk_mul]; rfl
theorem nu_16c {p : Int32} (hp : vp_in p 8) {i : Nat} (hi : i < 16) : (16 * p + nI i).toNatClampNeg = 16 * p.toNatClampNeg + i := by
  have := (nu_key hp (by omega)).2
  rw [nu_16 hp, nI_clamp (by omega)]
theorem nu_16x {p : Int32} (hp : vp_in p 8) {i : Nat} (hi : i < 16) : vp_in (16 * p + nI i) 128 := by
  have := (nu_key hp (by omega)).2
  rw [nu_16 hp]; exact vp_in_nI (by omega) (by omega)
theorem nu_8 {p : Int32} (hp : vp_in p 4) (i : Nat) : 8 * p + nI i = nI (8 * p.toNatClampNeg + i) := by
  obtain ⟨j, hj, e⟩ := vp_in_of hp (by omega)
  subst e
  rw [nI_clamp (by omega), ← nI_add, ← pk_mul]; rfl
theorem nu_8z {p : Int32} (hp : vp_in p 4) : 8 * p = nI (8 * p.toNatClampNeg) := by
  obtain ⟨j, hj, e⟩ := vp_in_of hp (by omega)
  subst e
  rw [nI_clamp (by omega), ← pk_mul]; rfl
theorem nu_8c {p : Int32} (hp : vp_in p 4) {i : Nat} (hi : i < 9) : (8 * p + nI i).toNatClampNeg = 8 * p.toNatClampNeg + i := by
  have := (nu_key hp (by omega)).2
  rw [nu_8 hp, nI_clamp (by omega)]
theorem nu_8x {p : Int32} (hp : vp_in p 4) {i : Nat} (hi : i < 8) : vp_in (8 * p + nI i) 32 := by
  have := (nu_key hp (by omega)).2
  rw [nu_8 hp]; exact vp_in_nI (by omega) (by omega)
theorem nu_r12 {a : Nat} (h : a < 2 ^ 31) : nI a - nI a / 12 * 12 = nI (a % 12) := pk_rem (d := 12) h (by omega) (by omega)
theorem nu_n12 : ¬ (12 : Int32) = 0 := by decide
theorem nu_suc {n k : Nat} (h : k < n) : ∃ n', n = n' + 1 := ⟨n - 1, by omega⟩
/-! the cells c .. e - 1 take those behind them; the cells e .. c + 1 take those before them -/
def sh_l (q : Nat → Int32) (c e : Nat) : Nat → Int32 := fun j => if c ≤ j ∧ j < e then q (j + 1) else q j
def sh_r (q : Nat → Int32) (c e : Nat) : Nat → Int32 := fun j => if c < j ∧ j ≤ e then q (j - 1) else q j
theorem sh_l0 (q : Nat → Int32) (c : Nat) : sh_l q c c = q := by
  funext j; unfold sh_l; rw [if_neg (by omega)]
theorem sh_lr {q : Nat → Int32} {c x : Nat} : sh_l q c x (x + 1) = q (x + 1) := by
  unfold sh_l; rw [if_neg (by omega)]
theorem sh_ls {q : Nat → Int32} {c x : Nat} (h : c ≤ x) : upd (sh_l q c x) x (q (x + 1)) = sh_l q c (x + 1) := by
  funext j
  by_cases z : j = x
  · rw [z, pk_us]; unfold sh_l; rw [if_pos (by omega)]
  · rw [pk_un z]; unfold sh_l
    by_cases w : c ≤ j ∧ j < x
    · rw [if_pos w, if_pos (by omega)]
    · rw [if_neg w, if_neg (by omega)]
theorem sh_r0 (q : Nat → Int32) (c : Nat) : sh_r q c c = q := by
  funext j; unfold sh_r; rw [if_neg (by omega)]
theorem sh_rr {q : Nat → Int32} {x e : Nat} : sh_r q (x + 1) e x = q x := by
  unfold sh_r; rw [if_neg (by omega)]
theorem sh_rs {q : Nat → Int32} {x e : Nat} (h : x < e) : upd (sh_r q (x + 1) e) (x + 1) (q x) = sh_r q x e := by
  funext j
  by_cases z : j = x + 1
  · rw [z, pk_us]; unfold sh_r; rw [if_pos (by omega)]; rfl
  · rw [pk_un z]; unfold sh_r
    by_cases w : x < j ∧ j ≤ e
    · rw [if_pos w, if_pos (by omega)]
    · rw [if_neg w, if_neg (by omega)]
/-- n cells from d on are f of those from s on -/
def sh_c (f : Int32 → Int32) (q : Nat → Int32) (s d n : Nat) : Nat → Int32 := fun j => if d ≤ j ∧ j < d + n then f (q (s + (j - d))) else q j
theorem sh_c0 (f : Int32 → Int32) (q : Nat → Int32) (s d : Nat) : sh_c f q s d 0 = q := by
  funext j; unfold sh_c; rw [if_neg (by omega)]
theorem sh_cr {f : Int32 → Int32} {q : Nat → Int32} {s d x n : Nat} (h : s + n ≤ d ∨ d + n ≤ s) (hx : x < n) : sh_c f q s d x (s + x) = q (s + x) := by
  unfold sh_c; rw [if_neg (by omega)]
theorem sh_cs {f : Int32 → Int32} {q : Nat → Int32} {s d x : Nat} : upd (sh_c f q s d x) (d + x) (f (q (s + x))) = sh_c f q s d (x + 1) := by
  funext j
  by_cases z : j = d + x
  · rw [z, pk_us]; unfold sh_c; rw [if_pos (by omega), Nat.add_sub_cancel_left]
  · rw [pk_un z]; unfold sh_c
    by_cases w : d ≤ j ∧ j < d + x
    · rw [if_pos w, if_pos (by omega)]
    · rw [if_neg w, if_neg (by omega)]
theorem sh_ci {f : Int32 → Int32} {q : Nat → Int32} {s d n i : Nat} (h : i < n) : sh_c f q s d n (d + i) = f (q (s + i)) := by
  unfold sh_c; rw [if_pos (by omega), Nat.add_sub_cancel_left]
theorem sh_co {f : Int32 → Int32} {q : Nat → Int32} {s d n j : Nat} (h : j < d ∨ d + n ≤ j) : sh_c f q s d n j = q j := by
  unfold sh_c; rw [if_neg (by omega)]
/-- where a property that holds of all before ends -/
theorem en_cut (n : Nat) (Q : Nat → Prop) (h : ∀ i j, i < j → j < n → Q j → Q i) : ∃ c, c ≤ n ∧ (∀ i, i < c → Q i) ∧ ∀ i, c ≤ i → i < n → ¬ Q i := by
  induction n with
  | zero => exact ⟨0, by omega, fun i hi => by omega, fun i _ hi => by omega⟩
  | succ n ih =>
    by_cases z : Q n
    · refine ⟨n + 1, by omega, fun i hi => ?_, fun i h1 h2 => by omega⟩
      rcases Nat.lt_or_ge i n with w | w
      · exact h i n w (by omega) z
      · have e : i = n := by omega
        rw [e]; exact z
    · obtain ⟨c, hc, h1, h2⟩ := ih (fun i j hij hj => h i j hij (by omega))
      refine ⟨c, by omega, h1, fun i hi hn => ?_⟩
      rcases Nat.lt_or_ge i n with w | w
      · exact h2 i hi w
      · have e : i = n := by omega
        rw [e]; exact z
theorem en_least (P : Nat → Prop) (h : ∃ k, P k) : ∃ k, P k ∧ ∀ j, j < k → ¬ P j := by
  obtain ⟨k, hk⟩ := h
  induction k using Nat.strongRecOn with
  | ind k ih =>
    by_cases z : ∃ j, j < k ∧ P j
    · obtain ⟨j, hj, pj⟩ := z
      exact ih j hj pj
    · exact ⟨k, hk, fun j hj pj => z ⟨j, hj, pj⟩⟩
theorem nu_21 : ¬ (2 : Int32) = 1 := by decide
theorem nu_31 : ¬ (3 : Int32) = 1 := by decide
theorem nu_01 : ¬ (0 : Int32) = 1 := by decide
end
section
/-! ===== X: the keys that have deadlines, the earliest first ===== -/
def xd_R (D : Nat → Int32) (du : Int32) (dl q : Nat → Int32) : Prop := ∃ (n : Nat) (g : Nat → Nat), du = nI n ∧ en_E n 8 g (fun k => decide (D k ≠ -1)) ∧ en_S n g (fun i j => D i ≤ D j) ∧ (∀ i, i < n → q i = nI (g i)) ∧ (∀ k, k < 8 → dl k = D k)
theorem xd_41 {p : Int32} (hp : vp_in p 8) {post : SX → Prop} {e c : Nat} (he : e < 8) {q : Nat → Int32} (hq : ∀ i, i ≤ e → ∃ b, b < 8 ∧ q i = nI b) {f_time f_logged f_safe f_broken f_silent : Int32} {f_turns : Int64} {a_kind a_first a_size a_number a_ring a_score a_version a_ranked a_deadline a_logOp a_logKey a_logA a_logB a_state a_gathered a_answered a_watching a_seen a_cOp a_cKey a_cA a_cB : Nat → Int32} {a_results a_taken : Nat → Int64} {a_waitsFor a_until : Nat → Int32} {a_turn : Nat → Int64} {a_source : Nat → Int32} : ∀ k x, x + k = e → c ≤ x → post (nI e, f_time, f_logged, f_safe, f_broken, f_silent, f_turns, a_kind, a_first, a_size, a_number, a_ring, a_score, a_version, a_ranked, upd a_deadline p.toNatClampNeg (-1), sh_l q c e, a_logOp, a_logKey, a_logA, a_logB, a_state, a_gathered, a_answered, a_watching, a_seen, a_cOp, a_cKey, a_cA, a_cB, a_results, a_taken, a_waitsFor, a_until, a_turn, a_source) → ∀ n, k < n → wX_endDeadline_41 post p (nI e) f_time f_logged f_safe f_broken f_silent f_turns n (nI x) a_kind a_first a_size a_number a_ring a_score a_version a_ranked a_deadline (sh_l q c x) a_logOp a_logKey a_logA a_logB a_state a_gathered a_answered a_watching a_seen a_cOp a_cKey a_cA a_cB a_results a_taken a_waitsFor a_until a_turn a_source := by
  intro k
  induction k with
  | zero =>
    intro x hx hc hpost n hn
    obtain ⟨n, rfl⟩ := nu_suc hn
    have ex : x = e := by omega
    subst ex
    exact br_t (nI_le (by omega) (by omega)) ⟨hp, nm_e hpost⟩
  | succ k ih =>
    intro x hx hc hpost n hn
    obtain ⟨n, rfl⟩ := nu_suc hn
    have c1 : ¬ nI e ≤ nI x := nI_ge (by omega) (by omega)
    have e1 : nI x + 1 = nI (x + 1) := nI_1 x
    obtain ⟨b, hb, eb⟩ := hq (x + 1) (by omega)
    have eu : upd (sh_l q c x) (nI x).toNatClampNeg (vp_nar .byte (sh_l q c x (nI x + 1).toNatClampNeg)) = sh_l q c (x + 1) := by
      rw [e1, nI_clamp (by omega), nI_clamp (by omega), sh_lr, eb, nu_nb (by omega), ← eb]; exact sh_ls hc
    exact br_f c1 ⟨by rw [e1]; exact vp_in_nI (by omega) (by omega), vp_in_nI (by omega) (by omega), nm_r eu (nm_r e1 (ih (x + 1) (by omega) (by omega) hpost n (by omega)))⟩
theorem xd_13 {p : Int32} (hp : vp_in p 8) {post : SX → Prop} {e c : Nat} (he : e < 8) (hc : c ≤ e) {g : Nat → Nat} {a_due : Nat → Int32} (hq : ∀ i, i ≤ e → g i < 8 ∧ a_due i = nI (g i)) (hgc : g c = p.toNatClampNeg) (hgn : ∀ i, i < c → g i ≠ p.toNatClampNeg) {f_time f_logged f_safe f_broken f_silent : Int32} {f_turns : Int64} {a_kind a_first a_size a_number a_ring a_score a_version a_ranked a_deadline a_logOp a_logKey a_logA a_logB a_state a_gathered a_answered a_watching a_seen a_cOp a_cKey a_cA a_cB : Nat → Int32} {a_results a_taken : Nat → Int64} {a_waitsFor a_until : Nat → Int32} {a_turn : Nat → Int64} {a_source : Nat → Int32} (hpost : post (nI e, f_time, f_logged, f_safe, f_broken, f_silent, f_turns, a_kind, a_first, a_size, a_number, a_ring, a_score, a_version, a_ranked, upd a_deadline p.toNatClampNeg (-1), sh_l a_due c e, a_logOp, a_logKey, a_logA, a_logB, a_state, a_gathered, a_answered, a_watching, a_seen, a_cOp, a_cKey, a_cA, a_cB, a_results, a_taken, a_waitsFor, a_until, a_turn, a_source)) : ∀ k x, x + k = c → ∀ n, k < n → wX_endDeadline_13 post p (nI (e + 1)) f_time f_logged f_safe f_broken f_silent f_turns a_kind a_first a_size a_number a_ring a_score a_version a_ranked a_deadline a_due a_logOp a_logKey a_logA a_logB a_state a_gathered a_answered a_watching a_seen a_cOp a_cKey a_cA a_cB a_results a_taken a_waitsFor a_until a_turn a_source n (nI x) := by
  intro k
  have ep := (nu_key hp (by omega)).1
  have kp := (nu_key hp (by omega)).2
  induction k with
  | zero =>
    intro x hx n hn
    obtain ⟨n, rfl⟩ := nu_suc hn
    have ex : x = c := by omega
    subst ex
    have c1 : a_due (nI x).toNatClampNeg = p := by rw [nI_clamp (by omega), (hq x hc).2, hgc, ← ep]
    have hw := xd_41 hp (c := x) he (q := a_due) (fun i hi => ⟨g i, hq i hi⟩) (e - x) x (by omega) (by omega) hpost (e - x + 1) (by omega)
    rw [sh_l0] at hw
    exact ⟨vp_in_nI (by omega) (by omega), br_t c1 (nm_r (nI_pred e) ⟨_, hw⟩)⟩
  | succ k ih =>
    intro x hx n hn
    obtain ⟨n, rfl⟩ := nu_suc hn
    have c1 : ¬ a_due (nI x).toNatClampNeg = p := by
      rw [nI_clamp (by omega), (hq x (by omega)).2, ep, nI_eq (by have := (hq x (by omega)).1; omega) (by omega)]
      exact hgn x (by omega)
    exact ⟨vp_in_nI (by omega) (by omega), br_f c1 (nm_r (nI_1 x) (ih (x + 1) (by omega) n (by omega)))⟩
theorem xd_upI {D : Nat → Int32} {k : Nat} {v : Int32} (h : D k = v) : upd D k v = D := by
  funext j
  by_cases z : j = k
  · rw [z, pk_us, h]
  · rw [pk_un z]
theorem xd_end {D : Nat → Int32} {f_dues : Int32} {a_deadline a_due : Nat → Int32} {p : Int32} (hp : vp_in p 8) (hD : xd_R D f_dues a_deadline a_due) : ∃ (d : Int32) (l q : Nat → Int32), xd_R (upd D p.toNatClampNeg (-1)) d l q ∧ ∀ {f_time f_logged f_safe f_broken f_silent : Int32} {f_turns : Int64} {a_kind a_first a_size a_number a_ring a_score a_version a_ranked a_logOp a_logKey a_logA a_logB a_state a_gathered a_answered a_watching a_seen a_cOp a_cKey a_cA a_cB : Nat → Int32} {a_results a_taken : Nat → Int64} {a_waitsFor a_until : Nat → Int32} {a_turn : Nat → Int64} {a_source : Nat → Int32} (post : SX → Prop), post (d, f_time, f_logged, f_safe, f_broken, f_silent, f_turns, a_kind, a_first, a_size, a_number, a_ring, a_score, a_version, a_ranked, l, q, a_logOp, a_logKey, a_logA, a_logB, a_state, a_gathered, a_answered, a_watching, a_seen, a_cOp, a_cKey, a_cA, a_cB, a_results, a_taken, a_waitsFor, a_until, a_turn, a_source) → wpX_endDeadline post (f_dues, f_time, f_logged, f_safe, f_broken, f_silent, f_turns, a_kind, a_first, a_size, a_number, a_ring, a_score, a_version, a_ranked, a_deadline, a_due, a_logOp, a_logKey, a_logA, a_logB, a_state, a_gathered, a_answered, a_watching, a_seen, a_cOp, a_cKey, a_cA, a_cB, a_results, a_taken, a_waitsFor, a_until, a_turn, a_source) p := by
  obtain ⟨n, g, rfl, hE, hS, hq, hl⟩ := hD
  have ep := (nu_key hp (by omega)).1
  have kp := (nu_key hp (by omega)).2
  by_cases z : D p.toNatClampNeg = -1
  · refine ⟨nI n, a_deadline, a_due, ?_, ?_⟩
    · rw [xd_upI z]; exact ⟨n, g, rfl, hE, hS, hq, hl⟩
    · intro f_time f_logged f_safe f_broken f_silent f_turns a_kind a_first a_size a_number a_ring a_score a_version a_ranked a_logOp a_logKey a_logA a_logB a_state a_gathered a_answered a_watching a_seen a_cOp a_cKey a_cA a_cB a_results a_taken a_waitsFor a_until a_turn a_source post hpost
      exact And.intro hp (br_t (by rw [hl _ kp]; exact z) hpost)
  · obtain ⟨c, hc, ec⟩ := hE.2.2 p.toNatClampNeg kp (decide_eq_true z)
    obtain ⟨e, rfl⟩ := nu_suc hc
    have he : e < 8 := by have := en_len hE; have := en_Cle 8 (fun k => decide (D k ≠ -1)); omega
    have hne : ∀ i, i < e → (if i < c then g i else g (i + 1)) ≠ p.toNatClampNeg := fun i hi w => by
      by_cases y : i < c
      · rw [if_pos y, ← ec] at w; have := hE.2.1 i c (by omega) hc w; omega
      · rw [if_neg y, ← ec] at w; have := hE.2.1 (i + 1) c (by omega) hc w; omega
    refine ⟨nI e, upd a_deadline p.toNatClampNeg (-1), sh_l a_due c e, ⟨e, fun i => if i < c then g i else g (i + 1), rfl, ?_, ?_, fun i hi => ?_, fun k hk => ?_⟩, ?_⟩
    · refine en_del hE (c := c) (by omega) _ _ (fun i _ => rfl) (fun m hm => ?_)
      rw [ec]
      by_cases y : m = p.toNatClampNeg
      · rw [y, pk_us]; simp
      · rw [pk_un y]; simp [y]
    · have := en_delS (c := c) hS (fun i => if i < c then g i else g (i + 1)) (fun i _ => rfl)
      intro i j hij hj
      have h1 := hne i (by omega)
      have h2 := hne j hj
      have h3 := this i j hij hj
      dsimp only at h3 ⊢
      rw [pk_un h1, pk_un h2]; exact h3
    · unfold sh_l
      dsimp only
      by_cases y : i < c
      · rw [if_neg (by omega), if_pos y]; exact hq i (by omega)
      · rw [if_pos (by omega), if_neg y]; exact hq (i + 1) (by omega)
    · by_cases y : k = p.toNatClampNeg
      · rw [y, pk_us, pk_us]
      · rw [pk_un y, pk_un y]; exact hl k hk
    · intro f_time f_logged f_safe f_broken f_silent f_turns a_kind a_first a_size a_number a_ring a_score a_version a_ranked a_logOp a_logKey a_logA a_logB a_state a_gathered a_answered a_watching a_seen a_cOp a_cKey a_cA a_cB a_results a_taken a_waitsFor a_until a_turn a_source post hpost
      have hw := xd_13 hp (e := e) (c := c) he (by omega) (g := g) (a_due := a_due) (fun i hi => ⟨(hE.1 i (by omega)).1, hq i (by omega)⟩) ec (fun i hi w => by have := hE.2.1 i c (by omega) hc (w.trans ec.symm); omega) hpost c 0 (by omega) (c + 1) (by omega)
      exact And.intro hp (br_f (by rw [hl _ kp]; exact z) ⟨_, hw⟩)
theorem xd_24 {p v : Int32} (hp : vp_in p 8) {post : SX → Prop} {n c : Nat} (hn : n < 8) (hc : c ≤ n) {g : Nat → Nat} {q a_deadline : Nat → Int32} (hq : ∀ i, i < n → g i < 8 ∧ q i = nI (g i)) (h1 : ∀ i, i < c → a_deadline (g i) ≤ v) (h2 : ∀ i, c ≤ i → i < n → ¬ a_deadline (g i) ≤ v) {f_time f_logged f_safe f_broken f_silent : Int32} {f_turns : Int64} {a_kind a_first a_size a_number a_ring a_score a_version a_ranked a_logOp a_logKey a_logA a_logB a_state a_gathered a_answered a_watching a_seen a_cOp a_cKey a_cA a_cB : Nat → Int32} {a_results a_taken : Nat → Int64} {a_waitsFor a_until : Nat → Int32} {a_turn : Nat → Int64} {a_source : Nat → Int32} (hpost : post (nI (n + 1), f_time, f_logged, f_safe, f_broken, f_silent, f_turns, a_kind, a_first, a_size, a_number, a_ring, a_score, a_version, a_ranked, a_deadline, upd (sh_r q c n) c p, a_logOp, a_logKey, a_logA, a_logB, a_state, a_gathered, a_answered, a_watching, a_seen, a_cOp, a_cKey, a_cA, a_cB, a_results, a_taken, a_waitsFor, a_until, a_turn, a_source)) : ∀ k x, c + k = x → x ≤ n → ∀ m, k < m → wX_setDeadline_24 post p v (nI (n + 1)) f_time f_logged f_safe f_broken f_silent f_turns m (nI x) a_kind a_first a_size a_number a_ring a_score a_version a_ranked a_deadline (sh_r q x n) a_logOp a_logKey a_logA a_logB a_state a_gathered a_answered a_watching a_seen a_cOp a_cKey a_cA a_cB a_results a_taken a_waitsFor a_until a_turn a_source := by
  intro k
  have ep := (nu_key hp (by omega)).1
  have kp := (nu_key hp (by omega)).2
  have fin : ∀ x, x = c → x ≤ n → vp_in (nI x) 8 ∧ ∀ y : Nat → Int32, y = upd (sh_r q x n) (nI x).toNatClampNeg (vp_nar .byte p.toInt8.toInt32) → post (nI (n + 1), f_time, f_logged, f_safe, f_broken, f_silent, f_turns, a_kind, a_first, a_size, a_number, a_ring, a_score, a_version, a_ranked, a_deadline, y, a_logOp, a_logKey, a_logA, a_logB, a_state, a_gathered, a_answered, a_watching, a_seen, a_cOp, a_cKey, a_cA, a_cB, a_results, a_taken, a_waitsFor, a_until, a_turn, a_source) := fun x hx hxn => by
    subst hx
    refine ⟨vp_in_nI (by omega) (by omega), nm_r ?_ hpost⟩
    rw [nI_clamp (by omega), nu_pb (nu_up hp (by omega) (by omega))]
  induction k with
  | zero =>
    intro x hx hxn m hm
    obtain ⟨m, rfl⟩ := nu_suc hm
    rcases Nat.eq_zero_or_pos x with z | z
    · exact br_t (by rw [z]; decide) (fin x (by omega) hxn)
    · have em : nI x - 1 = nI (x - 1) := pk_sub (b := 1) (by omega)
      have cd : sh_r q x n (nI x - 1).toNatClampNeg = nI (g (x - 1)) := by
        rw [em, nI_clamp (by omega), ← (hq (x - 1) (by omega)).2]
        have := sh_rr (q := q) (x := x - 1) (e := n)
        rw [Nat.sub_add_cancel z] at this; exact this
      have g8 := (hq (x - 1) (by omega)).1
      refine br_f (nI_nle z (by omega)) ⟨by rw [em]; exact vp_in_nI (by omega) (by omega), by rw [cd]; exact vp_in_nI (by omega) (by omega), br_t ?_ (fin x (by omega) hxn)⟩
      rw [cd, nI_clamp (by omega)]; exact h1 (x - 1) (by omega)
  | succ k ih =>
    intro x hx hxn m hm
    obtain ⟨m, rfl⟩ := nu_suc hm
    obtain ⟨y, rfl⟩ : ∃ y, x = y + 1 := ⟨x - 1, by omega⟩
    have em : nI (y + 1) - 1 = nI y := nI_pred y
    have cd : sh_r q (y + 1) n (nI (y + 1) - 1).toNatClampNeg = nI (g y) := by
      rw [em, nI_clamp (by omega), ← (hq y (by omega)).2]; exact sh_rr
    have g8 := (hq y (by omega)).1
    have eu : upd (sh_r q (y + 1) n) (nI (y + 1)).toNatClampNeg (vp_nar .byte (sh_r q (y + 1) n (nI (y + 1) - 1).toNatClampNeg)) = sh_r q y n := by
      rw [cd, nu_nb (by omega), nI_clamp (by omega), ← (hq y (by omega)).2]; exact sh_rs (by omega)
    refine br_f (nI_nle (by omega) (by omega)) ⟨by rw [em]; exact vp_in_nI (by omega) (by omega), by rw [cd]; exact vp_in_nI (by omega) (by omega), br_f ?_ ⟨by rw [em]; exact vp_in_nI (by omega) (by omega), vp_in_nI (by omega) (by omega), nm_r eu (nm_r (pk_m1 y) (ih y (by omega) (by omega) m (by omega)))⟩⟩
    rw [cd, nI_clamp (by omega)]; exact h2 y (by omega) (by omega)
theorem xd_set {D : Nat → Int32} {f_dues : Int32} {a_deadline a_due : Nat → Int32} {p : Int32} (hp : vp_in p 8) {v : Int32} (hv : v ≠ -1) (hD : xd_R D f_dues a_deadline a_due) : ∃ (d : Int32) (l q : Nat → Int32), xd_R (upd D p.toNatClampNeg v) d l q ∧ ∀ {f_time f_logged f_safe f_broken f_silent : Int32} {f_turns : Int64} {a_kind a_first a_size a_number a_ring a_score a_version a_ranked a_logOp a_logKey a_logA a_logB a_state a_gathered a_answered a_watching a_seen a_cOp a_cKey a_cA a_cB : Nat → Int32} {a_results a_taken : Nat → Int64} {a_waitsFor a_until : Nat → Int32} {a_turn : Nat → Int64} {a_source : Nat → Int32} (post : SX → Prop), post (d, f_time, f_logged, f_safe, f_broken, f_silent, f_turns, a_kind, a_first, a_size, a_number, a_ring, a_score, a_version, a_ranked, l, q, a_logOp, a_logKey, a_logA, a_logB, a_state, a_gathered, a_answered, a_watching, a_seen, a_cOp, a_cKey, a_cA, a_cB, a_results, a_taken, a_waitsFor, a_until, a_turn, a_source) → wpX_setDeadline post (f_dues, f_time, f_logged, f_safe, f_broken, f_silent, f_turns, a_kind, a_first, a_size, a_number, a_ring, a_score, a_version, a_ranked, a_deadline, a_due, a_logOp, a_logKey, a_logA, a_logB, a_state, a_gathered, a_answered, a_watching, a_seen, a_cOp, a_cKey, a_cA, a_cB, a_results, a_taken, a_waitsFor, a_until, a_turn, a_source) p v := by
  obtain ⟨d, l, q, hD', W⟩ := xd_end hp hD
  obtain ⟨n, g, rfl, hE, hS, hq, hl⟩ := hD'
  have ep := (nu_key hp (by omega)).1
  have kp := (nu_key hp (by omega)).2
  have hne : ∀ i, i < n → g i ≠ p.toNatClampNeg := fun i hi w => by
    have := (hE.1 i hi).2
    dsimp only at this
    rw [w, pk_us] at this
    exact absurd this (by decide)
  obtain ⟨c, hc, h1, h2⟩ := en_cut n (fun i => upd D p.toNatClampNeg (-1) (g i) ≤ v) (fun i j hij hj hQ => Int32.le_trans (hS i j hij hj) hQ)
  have hE' : en_E (n + 1) 8 (fun i => if i < c then g i else if i = c then p.toNatClampNeg else g (i - 1)) (fun k => decide (upd D p.toNatClampNeg v k ≠ -1)) := by
    refine en_ins hE hc kp ?_ _ _ (fun i _ => rfl) (fun j hj => ?_)
    · rw [pk_us]; decide
    · by_cases y : j = p.toNatClampNeg
      · rw [y, pk_us, pk_us]; simp [hv]
      · rw [pk_un y, pk_un y]; simp [y]
  have hn : n < 8 := by have := en_len hE'; have := en_Cle 8 (fun k => decide (upd D p.toNatClampNeg v k ≠ -1)); omega
  have hl' : ∀ i, i < n → upd l p.toNatClampNeg v (g i) = upd D p.toNatClampNeg (-1) (g i) := fun i hi => by
    rw [pk_un (hne i hi)]; exact hl _ (hE.1 i hi).1
  refine ⟨nI (n + 1), upd l p.toNatClampNeg v, upd (sh_r q c n) c p, ⟨n + 1, _, rfl, hE', ?_, fun i hi => ?_, fun k hk => ?_⟩, ?_⟩
  · refine en_insS (lt := fun i j => upd D p.toNatClampNeg v i ≤ upd D p.toNatClampNeg v j) (g := g) (c := c) (m := p.toNatClampNeg) ?_ hc ?_ ?_ _ (fun i _ => rfl)
    · intro i j hij hj
      have := hS i j hij hj
      dsimp only at this
      rw [pk_un (hne i (by omega)), pk_un (hne j hj)] at this
      rw [pk_un (hne i (by omega)), pk_un (hne j hj)]; exact this
    · intro i hi
      have := h1 i hi
      rw [pk_un (hne i (by omega))] at this
      rw [pk_us, pk_un (hne i (by omega))]; exact this
    · intro i hi hn
      have := h2 i hi hn
      rw [pk_un (hne i hn)] at this
      rw [pk_us, pk_un (hne i hn)]
      exact Int32.le_of_lt (Int32.not_le.mp this)
  · by_cases y : i = c
    · rw [y, pk_us, if_neg (by omega), if_pos rfl]; exact ep
    · rw [pk_un y]
      unfold sh_r
      by_cases w : i < c
      · rw [if_neg (by omega), if_pos w]; exact hq i (by omega)
      · rw [if_pos (by omega), if_neg w, if_neg y]; exact hq (i - 1) (by omega)
  · by_cases y : k = p.toNatClampNeg
    · rw [y, pk_us, pk_us]
    · rw [pk_un y, pk_un y, hl k hk, pk_un y]
  · intro f_time f_logged f_safe f_broken f_silent f_turns a_kind a_first a_size a_number a_ring a_score a_version a_ranked a_logOp a_logKey a_logA a_logB a_state a_gathered a_answered a_watching a_seen a_cOp a_cKey a_cA a_cB a_results a_taken a_waitsFor a_until a_turn a_source post hpost
    unfold wpX_setDeadline
    refine W _ ?_
    have hw := xd_24 hp (v := v) (n := n) (c := c) hn hc (g := g) (q := q) (a_deadline := upd l p.toNatClampNeg v) (fun i hi => ⟨(hE.1 i hi).1, hq i hi⟩) (fun i hi => by rw [hl' i (by omega)]; exact h1 i hi) (fun i hi hn => by rw [hl' i hn]; exact h2 i hi hn) hpost (n - c) n (by omega) (by omega) (n - c + 1) (by omega)
    rw [sh_r0] at hw
    exact And.intro hp (nm_e (nm_r (nI_1 n) ⟨_, hw⟩))
end
section
/-! ===== X: the log, as commands on the abstract keys ===== -/
abbrev lo_T : Type := Int32 × Int32 × (Nat → Int32) × (Nat → Int32) × (Nat → Int32) × (Nat → Int32)
def lo_rp (o k a b : Nat → Int32) : Nat → (Nat → ak_T)
  | 0 => fun _ => ak_E
  | n + 1 => ak_st (o n) (k n).toNatClampNeg (a n) (b n) (lo_rp o k a b n)
theorem lo_rpc {o k a b o' k' a' b' : Nat → Int32} : ∀ n, (∀ i, i < n → o' i = o i ∧ k' i = k i ∧ a' i = a i ∧ b' i = b i) → lo_rp o' k' a' b' n = lo_rp o k a b n := by
  intro n
  induction n with
  | zero => intro _; rfl
  | succ n ih =>
    intro h
    obtain ⟨h1, h2, h3, h4⟩ := h n (by omega)
    show ak_st (o' n) (k' n).toNatClampNeg (a' n) (b' n) (lo_rp o' k' a' b' n) = _
    rw [h1, h2, h3, h4, ih (fun i hi => h i (by omega))]; rfl
/-- m commands are safe and make B; n are there; if none is missing they make A -/
def lo_I (sf : Int32) (L : lo_T) (A B : Nat → ak_T) : Prop :=
  ∃ n m : Nat, L.1 = nI n ∧ sf = nI m ∧ m ≤ n ∧ n ≤ 200 ∧ (∀ i, i < n → vp_in (L.2.2.2.1 i) 8 ∧ ak_ok (L.2.2.1 i) (L.2.2.2.1 i).toNatClampNeg (L.2.2.2.2.1 i)) ∧ lo_rp L.2.2.1 L.2.2.2.1 L.2.2.2.2.1 L.2.2.2.2.2 m = B ∧ (L.2.1 = 0 → lo_rp L.2.2.1 L.2.2.2.1 L.2.2.2.2.1 L.2.2.2.2.2 n = A)
def lo_R (sil sf : Int32) (L : lo_T) (A B : Nat → ak_T) : Prop := (sil = 0 ∧ lo_I sf L A B) ∨ sil = 1
theorem lo_ob {o : Int32} {k : Nat} {a : Int32} (h : ak_ok o k a) : vp_nar .byte o.toInt8.toInt32 = o := by
  obtain ⟨n, hn, rfl⟩ := h.1
  exact nu_vb (by omega)
/-- a further command in the log -/
theorem lo_put {n : Nat} {o k a b : Nat → Int32} {vo vk va' vb : Int32} {A A' : Nat → ak_T} (hA : lo_rp o k a b n = A) (hA' : ak_st vo vk.toNatClampNeg va' vb A = A') : lo_rp (upd o n vo) (upd k n vk) (upd a n va') (upd b n vb) (n + 1) = A' := by
  show ak_st (upd o n vo n) (upd k n vk n).toNatClampNeg (upd a n va' n) (upd b n vb n) (lo_rp (upd o n vo) (upd k n vk) (upd a n va') (upd b n vb) n) = A'
  rw [pk_us, pk_us, pk_us, pk_us, lo_rpc (o := o) (k := k) (a := a) (b := b) n (fun i hi => ⟨pk_un (by omega), pk_un (by omega), pk_un (by omega), pk_un (by omega)⟩), hA]
  exact hA'
theorem lo_keep {n m : Nat} {o k a b : Nat → Int32} {vo vk va' vb : Int32} (h : m ≤ n) : lo_rp (upd o n vo) (upd k n vk) (upd a n va') (upd b n vb) m = lo_rp o k a b m :=
  lo_rpc m (fun i hi => ⟨pk_un (by omega), pk_un (by omega), pk_un (by omega), pk_un (by omega)⟩)
/-- the log is neither silent nor broken nor full -/
theorem lo_app {p o a b : Int32} (hp : vp_in p 8) (hok : ak_ok o p.toNatClampNeg a) {n : Nat} (hn : n < 200) {f_dues f_time f_safe : Int32} {f_turns : Int64} {a_kind a_first a_size a_number a_ring a_score a_version a_ranked a_deadline a_due a_logOp a_logKey a_logA a_logB a_state a_gathered a_answered a_watching a_seen a_cOp a_cKey a_cA a_cB : Nat → Int32} {a_results a_taken : Nat → Int64} {a_waitsFor a_until : Nat → Int32} {a_turn : Nat → Int64} {a_source : Nat → Int32} {post : SX → Prop} (hpost : post (f_dues, f_time, nI (n + 1), f_safe, 0, 0, f_turns, a_kind, a_first, a_size, a_number, a_ring, a_score, a_version, a_ranked, a_deadline, a_due, upd a_logOp n o, upd a_logKey n p, upd a_logA n a, upd a_logB n b, a_state, a_gathered, a_answered, a_watching, a_seen, a_cOp, a_cKey, a_cA, a_cB, a_results, a_taken, a_waitsFor, a_until, a_turn, a_source)) : wpX_write post (f_dues, f_time, nI n, f_safe, 0, 0, f_turns, a_kind, a_first, a_size, a_number, a_ring, a_score, a_version, a_ranked, a_deadline, a_due, a_logOp, a_logKey, a_logA, a_logB, a_state, a_gathered, a_answered, a_watching, a_seen, a_cOp, a_cKey, a_cA, a_cB, a_results, a_taken, a_waitsFor, a_until, a_turn, a_source) o p a b := by
  have cn : (nI n).toNatClampNeg = n := nI_clamp (by omega)
  have hi : vp_in (nI n) 200 := vp_in_nI hn (by omega)
  have z : ¬ nI n = 200 := fun e => by
    have := (nI_eq (a := n) (b := 200) (by omega) (by omega)).mp e
    omega
  refine br_t rfl (br_t rfl (br_f z ⟨hi, nm_r (e' := upd a_logOp n o) ?_ ⟨hi, nm_r (e' := upd a_logKey n p) ?_ ⟨hi, nm_r (e' := upd a_logA n a) ?_ (nm_r (nI_1 n) ⟨hi, nm_r (e' := upd a_logB n b) ?_ hpost⟩)⟩⟩⟩))
  · rw [cn, lo_ob hok]
  · rw [cn, nu_pb (nu_up hp (by omega) (by omega))]
  · rw [cn]
  · rw [cn]
theorem lo_wr {p o a b : Int32} (hp : vp_in p 8) (hok : ak_ok o p.toNatClampNeg a) {A A' B : Nat → ak_T} (hA : ak_st o p.toNatClampNeg a b A = A') {f_silent f_safe f_logged f_broken : Int32} {a_logOp a_logKey a_logA a_logB : Nat → Int32} (h : lo_R f_silent f_safe (f_logged, f_broken, a_logOp, a_logKey, a_logA, a_logB) A B) : ∃ L : lo_T, lo_R f_silent f_safe L A' B ∧ (f_silent = 1 → L = (f_logged, f_broken, a_logOp, a_logKey, a_logA, a_logB)) ∧ ∀ {f_dues f_time : Int32} {f_turns : Int64} {a_kind a_first a_size a_number a_ring a_score a_version a_ranked a_deadline a_due a_state a_gathered a_answered a_watching a_seen a_cOp a_cKey a_cA a_cB : Nat → Int32} {a_results a_taken : Nat → Int64} {a_waitsFor a_until : Nat → Int32} {a_turn : Nat → Int64} {a_source : Nat → Int32} (post : SX → Prop), post (f_dues, f_time, L.1, f_safe, L.2.1, f_silent, f_turns, a_kind, a_first, a_size, a_number, a_ring, a_score, a_version, a_ranked, a_deadline, a_due, L.2.2.1, L.2.2.2.1, L.2.2.2.2.1, L.2.2.2.2.2, a_state, a_gathered, a_answered, a_watching, a_seen, a_cOp, a_cKey, a_cA, a_cB, a_results, a_taken, a_waitsFor, a_until, a_turn, a_source) → wpX_write post (f_dues, f_time, f_logged, f_safe, f_broken, f_silent, f_turns, a_kind, a_first, a_size, a_number, a_ring, a_score, a_version, a_ranked, a_deadline, a_due, a_logOp, a_logKey, a_logA, a_logB, a_state, a_gathered, a_answered, a_watching, a_seen, a_cOp, a_cKey, a_cA, a_cB, a_results, a_taken, a_waitsFor, a_until, a_turn, a_source) o p a b := by
  rcases h with ⟨rfl, n, m, e1, e2, hmn, hn, hv, hB, hA0⟩ | rfl
  · dsimp only at e1 e2 hv hB hA0
    subst e1
    by_cases hb : f_broken = 0
    · subst hb
      rcases Nat.lt_or_ge n 200 with z | z
      · refine ⟨(nI (n + 1), 0, upd a_logOp n o, upd a_logKey n p, upd a_logA n a, upd a_logB n b), Or.inl ⟨rfl, n + 1, m, rfl, e2, by omega, by omega, fun i hi => ?_, ?_, fun _ => ?_⟩, fun w => absurd w (by decide), ?_⟩
        · dsimp only
          rcases Nat.lt_or_ge i n with w | w
          · rw [pk_un (by omega), pk_un (by omega), pk_un (by omega)]; exact hv i w
          · have e : i = n := by omega
            subst e
            rw [pk_us, pk_us, pk_us]; exact ⟨hp, hok⟩
        · dsimp only; rw [lo_keep hmn]; exact hB
        · exact lo_put (hA0 rfl) hA
        · intro f_dues f_time f_turns a_kind a_first a_size a_number a_ring a_score a_version a_ranked a_deadline a_due a_state a_gathered a_answered a_watching a_seen a_cOp a_cKey a_cA a_cB a_results a_taken a_waitsFor a_until a_turn a_source post hpost
          exact lo_app hp hok z hpost
      · have e : n = 200 := by omega
        subst e
        refine ⟨(nI 200, 1, a_logOp, a_logKey, a_logA, a_logB), Or.inl ⟨rfl, 200, m, rfl, e2, hmn, by omega, hv, hB, fun w => absurd (show (1 : Int32) = 0 from w) (by decide)⟩, fun w => absurd w (by decide), ?_⟩
        intro f_dues f_time f_turns a_kind a_first a_size a_number a_ring a_score a_version a_ranked a_deadline a_due a_state a_gathered a_answered a_watching a_seen a_cOp a_cKey a_cA a_cB a_results a_taken a_waitsFor a_until a_turn a_source post hpost
        exact br_t rfl (br_t rfl (br_t rfl hpost))
    · refine ⟨(nI n, f_broken, a_logOp, a_logKey, a_logA, a_logB), Or.inl ⟨rfl, n, m, rfl, e2, hmn, hn, hv, hB, fun w => absurd w hb⟩, fun w => absurd w (by decide), ?_⟩
      intro f_dues f_time f_turns a_kind a_first a_size a_number a_ring a_score a_version a_ranked a_deadline a_due a_state a_gathered a_answered a_watching a_seen a_cOp a_cKey a_cA a_cB a_results a_taken a_waitsFor a_until a_turn a_source post hpost
      exact br_t rfl (br_f hb hpost)
  · refine ⟨(f_logged, f_broken, a_logOp, a_logKey, a_logA, a_logB), Or.inr rfl, fun _ => rfl, ?_⟩
    intro f_dues f_time f_turns a_kind a_first a_size a_number a_ring a_score a_version a_ranked a_deadline a_due a_state a_gathered a_answered a_watching a_seen a_cOp a_cKey a_cA a_cB a_results a_taken a_waitsFor a_until a_turn a_source post hpost
    exact br_f (by decide) hpost
theorem lo_ch {p o a b : Int32} (hp : vp_in p 8) (hok : ak_ok o p.toNatClampNeg a) {A A' B : Nat → ak_T} (hA : ak_st o p.toNatClampNeg a b A = A') {f_silent f_safe f_logged f_broken : Int32} {a_logOp a_logKey a_logA a_logB : Nat → Int32} (h : lo_R f_silent f_safe (f_logged, f_broken, a_logOp, a_logKey, a_logA, a_logB) A B) : ∃ L : lo_T, lo_R f_silent f_safe L A' B ∧ (f_silent = 1 → L = (f_logged, f_broken, a_logOp, a_logKey, a_logA, a_logB)) ∧ ∀ {f_dues f_time : Int32} {f_turns : Int64} {a_kind a_first a_size a_number a_ring a_score a_version a_ranked a_deadline a_due a_state a_gathered a_answered a_watching a_seen a_cOp a_cKey a_cA a_cB : Nat → Int32} {a_results a_taken : Nat → Int64} {a_waitsFor a_until : Nat → Int32} {a_turn : Nat → Int64} {a_source : Nat → Int32} (post : SX → Prop), post (f_dues, f_time, L.1, f_safe, L.2.1, f_silent, f_turns, a_kind, a_first, a_size, a_number, a_ring, a_score, upd a_version p.toNatClampNeg (a_version p.toNatClampNeg + 1), a_ranked, a_deadline, a_due, L.2.2.1, L.2.2.2.1, L.2.2.2.2.1, L.2.2.2.2.2, a_state, a_gathered, a_answered, a_watching, a_seen, a_cOp, a_cKey, a_cA, a_cB, a_results, a_taken, a_waitsFor, a_until, a_turn, a_source) → wpX_changed post (f_dues, f_time, f_logged, f_safe, f_broken, f_silent, f_turns, a_kind, a_first, a_size, a_number, a_ring, a_score, a_version, a_ranked, a_deadline, a_due, a_logOp, a_logKey, a_logA, a_logB, a_state, a_gathered, a_answered, a_watching, a_seen, a_cOp, a_cKey, a_cA, a_cB, a_results, a_taken, a_waitsFor, a_until, a_turn, a_source) o p a b := by
  obtain ⟨L, h1, h2, W⟩ := lo_wr hp hok hA h
  refine ⟨L, h1, h2, ?_⟩
  intro f_dues f_time f_turns a_kind a_first a_size a_number a_ring a_score a_version a_ranked a_deadline a_due a_state a_gathered a_answered a_watching a_seen a_cOp a_cKey a_cA a_cB a_results a_taken a_waitsFor a_until a_turn a_source post hpost
  exact And.intro hp (And.intro hp (nm_e (W _ hpost)))
/-! ===== X: a key becomes empty ===== -/
theorem xs_empty {D : Nat → Int32} {f_dues : Int32} {a_deadline a_due : Nat → Int32} {p : Int32} (hp : vp_in p 8) (hD : xd_R D f_dues a_deadline a_due) : ∃ (d : Int32) (l q : Nat → Int32), xd_R (upd D p.toNatClampNeg (-1)) d l q ∧ ∀ {f_time f_logged f_safe f_broken f_silent : Int32} {f_turns : Int64} {a_kind a_first a_size a_number a_ring a_score a_version a_ranked a_logOp a_logKey a_logA a_logB a_state a_gathered a_answered a_watching a_seen a_cOp a_cKey a_cA a_cB : Nat → Int32} {a_results a_taken : Nat → Int64} {a_waitsFor a_until : Nat → Int32} {a_turn : Nat → Int64} {a_source : Nat → Int32} (post : SX → Prop), post (d, f_time, f_logged, f_safe, f_broken, f_silent, f_turns, upd a_kind p.toNatClampNeg 0, upd a_first p.toNatClampNeg 0, upd a_size p.toNatClampNeg 0, a_number, a_ring, a_score, a_version, a_ranked, l, q, a_logOp, a_logKey, a_logA, a_logB, a_state, a_gathered, a_answered, a_watching, a_seen, a_cOp, a_cKey, a_cA, a_cB, a_results, a_taken, a_waitsFor, a_until, a_turn, a_source) → wpX_empty post (f_dues, f_time, f_logged, f_safe, f_broken, f_silent, f_turns, a_kind, a_first, a_size, a_number, a_ring, a_score, a_version, a_ranked, a_deadline, a_due, a_logOp, a_logKey, a_logA, a_logB, a_state, a_gathered, a_answered, a_watching, a_seen, a_cOp, a_cKey, a_cA, a_cB, a_results, a_taken, a_waitsFor, a_until, a_turn, a_source) p := by
  obtain ⟨d, l, q, h, W⟩ := xd_end hp hD
  refine ⟨d, l, q, h, ?_⟩
  intro f_time f_logged f_safe f_broken f_silent f_turns a_kind a_first a_size a_number a_ring a_score a_version a_ranked a_logOp a_logKey a_logA a_logB a_state a_gathered a_answered a_watching a_seen a_cOp a_cKey a_cA a_cB a_results a_taken a_waitsFor a_until a_turn a_source post hpost
  exact And.intro hp (nm_r (e' := upd a_kind p.toNatClampNeg 0) (by rw [nu_b0]) (And.intro hp (nm_r (e' := upd a_size p.toNatClampNeg 0) (by rw [nu_b0]) (And.intro hp (nm_r (e' := upd a_first p.toNatClampNeg 0) (by rw [nu_b0]) (W _ hpost))))))
end
section
/-! ===== X: what its arrays say of a key ===== -/
abbrev xk_T : Type := Int32 × (Nat → Int32) × (Nat → Int32) × (Nat → Int32) × (Nat → Int32) × (Nat → Int32) × (Nat → Int32) × (Nat → Int32) × (Nat → Int32) × (Nat → Int32)
def xr_R (k n : Nat) (g : Nat → Nat) (r : Nat → Option Int32) (sc rk : Nat → Int32) : Prop :=
  en_E n 16 g (fun m => (r m).isSome) ∧ en_S n g (ak_lt r) ∧ ∀ i, i < n → rk (12 * k + i) = nI (g i) ∧ r (g i) = some (sc (16 * k + g i))
def xr_L (k f : Nat) (l : List Int32) (ri : Nat → Int32) : Prop := ∀ i, i < l.length → ri (12 * k + (f + i) % 12) = l.getD i 0
def xr_1 (k : Nat) (x : ak_T) (kd fi sz nu ri sc rk : Nat → Int32) : Prop :=
  kd k = x.1 ∧ sz k = nI (ak_sz x) ∧ (x.1 = 1 → nu k = x.2.1) ∧ (∃ f, f < 12 ∧ fi k = nI f ∧ xr_L k f (ak_ls x) ri) ∧ ∃ g, xr_R k (ak_n (ak_rk x)) g (ak_rk x) sc rk
/-- dues kind first size number ring score ranked deadline due -/
def xr_K (A : Nat → ak_T) (K : xk_T) : Prop :=
  (∀ k, 8 ≤ k → A k = ak_E) ∧ (∀ k, k < 8 → ak_G (A k) ∧ xr_1 k (A k) K.2.1 K.2.2.1 K.2.2.2.1 K.2.2.2.2.1 K.2.2.2.2.2.1 K.2.2.2.2.2.2.1 K.2.2.2.2.2.2.2.1) ∧ xd_R (fun k => ak_dl (A k)) K.1 K.2.2.2.2.2.2.2.2.1 K.2.2.2.2.2.2.2.2.2
/-- the arrays agree at a key -/
def xr_ag (j : Nat) (kd fi sz nu ri sc rk kd' fi' sz' nu' ri' sc' rk' : Nat → Int32) : Prop :=
  kd' j = kd j ∧ fi' j = fi j ∧ sz' j = sz j ∧ nu' j = nu j ∧ (∀ i, i < 12 → ri' (12 * j + i) = ri (12 * j + i)) ∧ (∀ i, i < 16 → sc' (16 * j + i) = sc (16 * j + i)) ∧ (∀ i, i < 12 → rk' (12 * j + i) = rk (12 * j + i))
theorem xr_Rc {k n : Nat} {g : Nat → Nat} {r : Nat → Option Int32} {sc rk sc' rk' : Nat → Int32} (hn : n ≤ 12) (h : xr_R k n g r sc rk) (h1 : ∀ i, i < 16 → sc' (16 * k + i) = sc (16 * k + i)) (h2 : ∀ i, i < 12 → rk' (12 * k + i) = rk (12 * k + i)) : xr_R k n g r sc' rk' := by
  obtain ⟨hE, hS, h⟩ := h
  refine ⟨hE, hS, fun i hi => ?_⟩
  rw [h2 i (by omega), h1 _ (hE.1 i hi).1]; exact h i hi
theorem xr_Lc {k f : Nat} {l : List Int32} {ri ri' : Nat → Int32} (h : xr_L k f l ri) (h1 : ∀ i, i < 12 → ri' (12 * k + i) = ri (12 * k + i)) : xr_L k f l ri' := fun i hi => by
  rw [h1 _ (Nat.mod_lt _ (by omega))]; exact h i hi
theorem xr_cg {k : Nat} {x : ak_T} {kd fi sz nu ri sc rk kd' fi' sz' nu' ri' sc' rk' : Nat → Int32} (hG : ak_G x) (h : xr_1 k x kd fi sz nu ri sc rk) (a : xr_ag k kd fi sz nu ri sc rk kd' fi' sz' nu' ri' sc' rk') : xr_1 k x kd' fi' sz' nu' ri' sc' rk' := by
  obtain ⟨h1, h2, h3, ⟨f, hf, h4, h5⟩, g, h6⟩ := h
  obtain ⟨a1, a2, a3, a4, a5, a6, a7⟩ := a
  exact ⟨a1.trans h1, a3.trans h2, fun z => a4.trans (h3 z), ⟨f, hf, a2.trans h4, xr_Lc h5 a5⟩, g, xr_Rc (ak_Gn hG) h6 a6 a7⟩
theorem xr_dl (A : Nat → ak_T) (k : Nat) (x : ak_T) : (fun j => ak_dl (ak_up A k x j)) = upd (fun j => ak_dl (A j)) k (ak_dl x) := by
  funext j
  by_cases z : j = k
  · rw [z, ak_upS, pk_us]
  · rw [ak_upN z, pk_un z]
theorem xr_up {A : Nat → ak_T} {k : Nat} {x : ak_T} {d d' : Int32} {kd fi sz nu ri sc rk dl q kd' fi' sz' nu' ri' sc' rk' dl' q' : Nat → Int32} (h : xr_K A (d, kd, fi, sz, nu, ri, sc, rk, dl, q)) (hk : k < 8) (hx : ak_G x) (h1 : xr_1 k x kd' fi' sz' nu' ri' sc' rk') (ag : ∀ j, j < 8 → j ≠ k → xr_ag j kd fi sz nu ri sc rk kd' fi' sz' nu' ri' sc' rk') (hd : xd_R (upd (fun j => ak_dl (A j)) k (ak_dl x)) d' dl' q') : xr_K (ak_up A k x) (d', kd', fi', sz', nu', ri', sc', rk', dl', q') := by
  obtain ⟨hE, hA, _⟩ := h
  refine ⟨fun j hj => ?_, fun j hj => ?_, ?_⟩
  · rw [ak_upN (by omega)]; exact hE j hj
  · by_cases z : j = k
    · rw [z, ak_upS]; exact ⟨hx, h1⟩
    · rw [ak_upN z]
      exact ⟨(hA j hj).1, xr_cg (hA j hj).1 (hA j hj).2 (ag j hj z)⟩
  · show xd_R (fun j => ak_dl (ak_up A k x j)) d' dl' q'
    rw [xr_dl]; exact hd
/-- writes at another key's places -/
theorem xr_o12 {a : Nat → Int32} {k j f i : Nat} {v : Int32} (hf : f < 12) (hi : i < 12) (h : j ≠ k) : upd a (12 * k + f) v (12 * j + i) = a (12 * j + i) := pk_un (by omega)
theorem xr_o16 {a : Nat → Int32} {k j f i : Nat} {v : Int32} (hf : f < 16) (hi : i < 16) (h : j ≠ k) : upd a (16 * k + f) v (16 * j + i) = a (16 * j + i) := pk_un (by omega)
/-- a ranking of none -/
theorem xr_R0 {k : Nat} {r : Nat → Option Int32} {sc rk : Nat → Int32} (h : r = ak_0) : ∃ g, xr_R k (ak_n r) g r sc rk := by
  subst h
  rw [ak_n0]
  exact ⟨fun _ => 0, en_0 (fun _ _ => rfl), fun i j _ hj => by omega, fun i hi => by omega⟩
theorem xr_is {r : Nat → Option Int32} {m : Nat} {s : Int32} (h : r m = some s) : (r m).isSome = true := by rw [h]; rfl
theorem xr_L0 {k f : Nat} {ri : Nat → Int32} : xr_L k f [] ri := fun i hi => absurd hi (Nat.not_lt_zero i)
theorem xr_1E {k : Nat} {x : ak_T} {kd fi sz nu ri sc rk : Nat → Int32} (hl : ak_ls x = []) (hr : ak_rk x = ak_0) (h1 : kd k = x.1) (h2 : sz k = 0) (h3 : x.1 = 1 → nu k = x.2.1) (h4 : ∃ f, f < 12 ∧ fi k = nI f) : xr_1 k x kd fi sz nu ri sc rk := by
  obtain ⟨f, hf, ef⟩ := h4
  refine ⟨h1, ?_, h3, ⟨f, hf, ef, ?_⟩, xr_R0 hr⟩
  · rw [h2]; unfold ak_sz; rw [hl, hr, ak_n0]; rfl
  · rw [hl]; exact xr_L0
/-- versions: one more for each key that was changed -/
def xv_u (c : Nat → Bool) (V : Nat → Int32) : Nat → Int32 := fun j => V j + if c j then 1 else 0
theorem xv_0 (V : Nat → Int32) : xv_u (fun _ => false) V = V := by
  funext j
  show V j + (if false = true then 1 else 0) = V j
  rw [if_neg (by decide), Int32.add_zero]
theorem xv_1 (V : Nat → Int32) (k : Nat) : xv_u (fun j => decide (j = k)) V = upd V k (V k + 1) := by
  funext j
  unfold xv_u
  by_cases z : j = k
  · rw [z, pk_us, if_pos (decide_eq_true rfl)]
  · rw [pk_un z, if_neg (by simp [z]), Int32.add_zero]
theorem xv_2 (V : Nat → Int32) {k l : Nat} (h : l ≠ k) : xv_u (fun j => decide (j = k ∨ j = l)) V = upd (upd V l (V l + 1)) k (upd V l (V l + 1) k + 1) := by
  funext j
  unfold xv_u
  by_cases z : j = k
  · rw [z, pk_us, if_pos (decide_eq_true (Or.inl rfl)), pk_un (fun e => h e.symm)]
  · rw [pk_un z]
    by_cases w : j = l
    · rw [w, pk_us, if_pos (decide_eq_true (Or.inr rfl))]
    · rw [pk_un w, if_neg (by simp [z, w]), Int32.add_zero]
end
section
/-! ===== X: a list in its ring ===== -/
theorem xl_f1 {f : Nat} (h : f < 12) : nI f + 12 - 1 - (nI f + 12 - 1) / 12 * 12 = nI ((f + 11) % 12) := by
  have e : nI f + 12 - 1 = nI (f + 11) := by
    have : nI f + 12 = nI (f + 12) := nI_add f 12
    rw [this]; exact pk_sub (b := 1) (by omega)
  rw [e]; exact nu_r12 (by omega)
theorem xl_f2 {f n : Nat} (h : f < 12) (hn : n ≤ 12) : nI f + nI n - (nI f + nI n) / 12 * 12 = nI ((f + n) % 12) := by
  rw [nI_add]; exact nu_r12 (by omega)
theorem xl_f3 {f n : Nat} (h : f < 12) (hn : n ≤ 12) (h0 : 0 < n) : nI f + nI n - 1 - (nI f + nI n - 1) / 12 * 12 = nI ((f + n - 1) % 12) := by
  have e : nI f + nI n - 1 = nI (f + n - 1) := by rw [nI_add]; exact pk_sub (b := 1) (by omega)
  rw [e]; exact nu_r12 (by omega)
theorem xl_f4 {f : Nat} (h : f < 12) : nI f + 1 - (nI f + 1) / 12 * 12 = nI ((f + 1) % 12) := by
  rw [nI_1]; exact nu_r12 (by omega)
theorem xl_69 {p v : Int32} (hp : vp_in p 8) {f n : Nat} (hf : f < 12) (hn : n < 12) {z0 z1 : Int32} (e0 : z0 = nI f) (e1 : z1 = 12 * p) {a_size : Nat → Int32} (hs : a_size p.toNatClampNeg = nI n) {f_dues f_time f_logged f_safe f_broken f_silent : Int32} {f_turns : Int64} {a_kind a_first a_number a_ring a_score a_version a_ranked a_deadline a_due a_logOp a_logKey a_logA a_logB a_state a_gathered a_answered a_watching a_seen a_cOp a_cKey a_cA a_cB : Nat → Int32} {a_results a_taken : Nat → Int64} {a_waitsFor a_until : Nat → Int32} {a_turn : Nat → Int64} {a_source : Nat → Int32} {post : SX → Prop} (hpost : post (f_dues, f_time, f_logged, f_safe, f_broken, f_silent, f_turns, a_kind, a_first, upd a_size p.toNatClampNeg (nI (n + 1)), a_number, upd a_ring (12 * p.toNatClampNeg + f) v, a_score, a_version, a_ranked, a_deadline, a_due, a_logOp, a_logKey, a_logA, a_logB, a_state, a_gathered, a_answered, a_watching, a_seen, a_cOp, a_cKey, a_cA, a_cB, a_results, a_taken, a_waitsFor, a_until, a_turn, a_source)) : wX_push_69 post p v z0 z1 f_dues f_time f_logged f_safe f_broken f_silent f_turns a_kind a_first a_size a_number a_ring a_score a_version a_ranked a_deadline a_due a_logOp a_logKey a_logA a_logB a_state a_gathered a_answered a_watching a_seen a_cOp a_cKey a_cA a_cB a_results a_taken a_waitsFor a_until a_turn a_source := by
  subst e0 e1
  have h16 := nu_up hp (M := 16) (by omega) (by omega)
  refine And.intro (nu_12x hp hf) (nm_r (e' := upd a_ring (12 * p.toNatClampNeg + f) v) (by rw [nu_12c h16 (by omega)]) (And.intro hp (And.intro hp (nm_r (e' := upd a_size p.toNatClampNeg (nI (n + 1))) ?_ hpost))))
  rw [hs, nI_1, nu_vb (by omega)]
theorem xl_pushF {p v : Int32} (hp : vp_in p 8) {f n : Nat} (hf : f < 12) (hn : n < 12) {a_size a_first : Nat → Int32} (hs : a_size p.toNatClampNeg = nI n) (hfi : a_first p.toNatClampNeg = nI f) {f_dues f_time f_logged f_safe f_broken f_silent : Int32} {f_turns : Int64} {a_kind a_number a_ring a_score a_version a_ranked a_deadline a_due a_logOp a_logKey a_logA a_logB a_state a_gathered a_answered a_watching a_seen a_cOp a_cKey a_cA a_cB : Nat → Int32} {a_results a_taken : Nat → Int64} {a_waitsFor a_until : Nat → Int32} {a_turn : Nat → Int64} {a_source : Nat → Int32} {post : SX → Prop} (hpost : post (f_dues, f_time, f_logged, f_safe, f_broken, f_silent, f_turns, upd a_kind p.toNatClampNeg 2, upd a_first p.toNatClampNeg (nI ((f + 11) % 12)), upd a_size p.toNatClampNeg (nI (n + 1)), a_number, upd a_ring (12 * p.toNatClampNeg + (f + 11) % 12) v, a_score, a_version, a_ranked, a_deadline, a_due, a_logOp, a_logKey, a_logA, a_logB, a_state, a_gathered, a_answered, a_watching, a_seen, a_cOp, a_cKey, a_cA, a_cB, a_results, a_taken, a_waitsFor, a_until, a_turn, a_source)) : wpX_push post (f_dues, f_time, f_logged, f_safe, f_broken, f_silent, f_turns, a_kind, a_first, a_size, a_number, a_ring, a_score, a_version, a_ranked, a_deadline, a_due, a_logOp, a_logKey, a_logA, a_logB, a_state, a_gathered, a_answered, a_watching, a_seen, a_cOp, a_cKey, a_cA, a_cB, a_results, a_taken, a_waitsFor, a_until, a_turn, a_source) p v 1 := by
  have hm : (f + 11) % 12 < 12 := Nat.mod_lt _ (by omega)
  refine And.intro hp (nm_r (e' := upd a_kind p.toNatClampNeg 2) (by rw [nu_b2]) (br_f (by decide) (And.intro hp (And.intro nu_n12 (And.intro hp (nm_r (e' := upd a_first p.toNatClampNeg (nI ((f + 11) % 12))) ?_ ?_))))))
  · rw [hfi, xl_f1 hf, nu_vb (by omega)]
  · exact br_f (by decide) (And.intro hp (xl_69 hp hm hn pk_us rfl hs hpost))
theorem xl_pushB {p v : Int32} (hp : vp_in p 8) {f n : Nat} (hf : f < 12) (hn : n < 12) {a_size a_first : Nat → Int32} (hs : a_size p.toNatClampNeg = nI n) (hfi : a_first p.toNatClampNeg = nI f) {f_dues f_time f_logged f_safe f_broken f_silent : Int32} {f_turns : Int64} {a_kind a_number a_ring a_score a_version a_ranked a_deadline a_due a_logOp a_logKey a_logA a_logB a_state a_gathered a_answered a_watching a_seen a_cOp a_cKey a_cA a_cB : Nat → Int32} {a_results a_taken : Nat → Int64} {a_waitsFor a_until : Nat → Int32} {a_turn : Nat → Int64} {a_source : Nat → Int32} {post : SX → Prop} (hpost : post (f_dues, f_time, f_logged, f_safe, f_broken, f_silent, f_turns, upd a_kind p.toNatClampNeg 2, a_first, upd a_size p.toNatClampNeg (nI (n + 1)), a_number, upd a_ring (12 * p.toNatClampNeg + (f + n) % 12) v, a_score, a_version, a_ranked, a_deadline, a_due, a_logOp, a_logKey, a_logA, a_logB, a_state, a_gathered, a_answered, a_watching, a_seen, a_cOp, a_cKey, a_cA, a_cB, a_results, a_taken, a_waitsFor, a_until, a_turn, a_source)) : wpX_push post (f_dues, f_time, f_logged, f_safe, f_broken, f_silent, f_turns, a_kind, a_first, a_size, a_number, a_ring, a_score, a_version, a_ranked, a_deadline, a_due, a_logOp, a_logKey, a_logA, a_logB, a_state, a_gathered, a_answered, a_watching, a_seen, a_cOp, a_cKey, a_cA, a_cB, a_results, a_taken, a_waitsFor, a_until, a_turn, a_source) p v 0 := by
  have hm : (f + n) % 12 < 12 := Nat.mod_lt _ (by omega)
  refine And.intro hp (nm_r (e' := upd a_kind p.toNatClampNeg 2) (by rw [nu_b2]) (br_t rfl ?_))
  exact br_t rfl (And.intro hp (And.intro hp (And.intro nu_n12 (xl_69 hp hm hn (by rw [hfi, hs, xl_f2 hf (by omega)]) rfl hs hpost))))
/-- an element less; the last one empties the key -/
theorem xl_62 {D : Nat → Int32} {f_dues : Int32} {a_size a_deadline a_due : Nat → Int32} {p : Int32} (hp : vp_in p 8) (hD : xd_R D f_dues a_deadline a_due) {n : Nat} (hn : n < 12) (hs : a_size p.toNatClampNeg = nI (n + 1)) : ∃ (d : Int32) (l q : Nat → Int32), xd_R (if n = 0 then upd D p.toNatClampNeg (-1) else D) d l q ∧ ∀ {f_time f_logged f_safe f_broken f_silent : Int32} {f_turns : Int64} {a_kind a_first a_number a_ring a_score a_version a_ranked a_logOp a_logKey a_logA a_logB a_state a_gathered a_answered a_watching a_seen a_cOp a_cKey a_cA a_cB : Nat → Int32} {a_results a_taken : Nat → Int64} {a_waitsFor a_until : Nat → Int32} {a_turn : Nat → Int64} {a_source : Nat → Int32} (v : Int32) (post : Int32 → SX → Prop), post v (d, f_time, f_logged, f_safe, f_broken, f_silent, f_turns, if n = 0 then upd a_kind p.toNatClampNeg 0 else a_kind, if n = 0 then upd a_first p.toNatClampNeg 0 else a_first, upd a_size p.toNatClampNeg (nI n), a_number, a_ring, a_score, a_version, a_ranked, l, q, a_logOp, a_logKey, a_logA, a_logB, a_state, a_gathered, a_answered, a_watching, a_seen, a_cOp, a_cKey, a_cA, a_cB, a_results, a_taken, a_waitsFor, a_until, a_turn, a_source) → wX_pull_62 post p v f_dues f_time f_logged f_safe f_broken f_silent f_turns a_kind a_first a_size a_number a_ring a_score a_version a_ranked a_deadline a_due a_logOp a_logKey a_logA a_logB a_state a_gathered a_answered a_watching a_seen a_cOp a_cKey a_cA a_cB a_results a_taken a_waitsFor a_until a_turn a_source := by
  have es : vp_nar .byte ((a_size p.toNatClampNeg - 1).toInt8.toInt32) = nI n := by rw [hs, nI_pred, nu_vb (by omega)]
  rcases Nat.eq_zero_or_pos n with z | z
  · subst z
    obtain ⟨d, l, q, h, W⟩ := xs_empty hp hD
    refine ⟨d, l, q, by rw [if_pos rfl]; exact h, ?_⟩
    intro f_time f_logged f_safe f_broken f_silent f_turns a_kind a_first a_number a_ring a_score a_version a_ranked a_logOp a_logKey a_logA a_logB a_state a_gathered a_answered a_watching a_seen a_cOp a_cKey a_cA a_cB a_results a_taken a_waitsFor a_until a_turn a_source v post hpost
    rw [if_pos rfl, if_pos rfl] at hpost
    refine And.intro hp (And.intro hp (nm_r (e' := upd a_size p.toNatClampNeg (nI 0)) (by rw [es]) (And.intro hp (br_t (by rw [pk_us]; rfl) (W _ ?_)))))
    have e : upd (upd a_size p.toNatClampNeg (nI 0)) p.toNatClampNeg 0 = upd a_size p.toNatClampNeg (nI 0) := xd_upI pk_us
    show post v _
    rw [e]; exact hpost
  · refine ⟨f_dues, a_deadline, a_due, by rw [if_neg (by omega)]; exact hD, ?_⟩
    intro f_time f_logged f_safe f_broken f_silent f_turns a_kind a_first a_number a_ring a_score a_version a_ranked a_logOp a_logKey a_logA a_logB a_state a_gathered a_answered a_watching a_seen a_cOp a_cKey a_cA a_cB a_results a_taken a_waitsFor a_until a_turn a_source v post hpost
    rw [if_neg (by omega), if_neg (by omega)] at hpost
    exact And.intro hp (And.intro hp (nm_r (e' := upd a_size p.toNatClampNeg (nI n)) (by rw [es]) (And.intro hp (br_f (by rw [pk_us]; exact nI_ne0 z (by omega)) hpost))))
theorem xl_pullF {D : Nat → Int32} {f_dues : Int32} {a_size a_first a_deadline a_due : Nat → Int32} {p : Int32} (hp : vp_in p 8) (hD : xd_R D f_dues a_deadline a_due) {f n : Nat} (hf : f < 12) (hn : n < 12) (hs : a_size p.toNatClampNeg = nI (n + 1)) (hfi : a_first p.toNatClampNeg = nI f) : ∃ (d : Int32) (l q : Nat → Int32), xd_R (if n = 0 then upd D p.toNatClampNeg (-1) else D) d l q ∧ ∀ {f_time f_logged f_safe f_broken f_silent : Int32} {f_turns : Int64} {a_kind a_number a_ring a_score a_version a_ranked a_logOp a_logKey a_logA a_logB a_state a_gathered a_answered a_watching a_seen a_cOp a_cKey a_cA a_cB : Nat → Int32} {a_results a_taken : Nat → Int64} {a_waitsFor a_until : Nat → Int32} {a_turn : Nat → Int64} {a_source : Nat → Int32} (post : Int32 → SX → Prop), post (a_ring (12 * p.toNatClampNeg + f)) (d, f_time, f_logged, f_safe, f_broken, f_silent, f_turns, if n = 0 then upd a_kind p.toNatClampNeg 0 else a_kind, if n = 0 then upd (upd a_first p.toNatClampNeg (nI ((f + 1) % 12))) p.toNatClampNeg 0 else upd a_first p.toNatClampNeg (nI ((f + 1) % 12)), upd a_size p.toNatClampNeg (nI n), a_number, a_ring, a_score, a_version, a_ranked, l, q, a_logOp, a_logKey, a_logA, a_logB, a_state, a_gathered, a_answered, a_watching, a_seen, a_cOp, a_cKey, a_cA, a_cB, a_results, a_taken, a_waitsFor, a_until, a_turn, a_source) → wpX_pull post (f_dues, f_time, f_logged, f_safe, f_broken, f_silent, f_turns, a_kind, a_first, a_size, a_number, a_ring, a_score, a_version, a_ranked, a_deadline, a_due, a_logOp, a_logKey, a_logA, a_logB, a_state, a_gathered, a_answered, a_watching, a_seen, a_cOp, a_cKey, a_cA, a_cB, a_results, a_taken, a_waitsFor, a_until, a_turn, a_source) p 1 := by
  obtain ⟨d, l, q, h, W⟩ := xl_62 hp hD hn hs
  have h16 := nu_up hp (M := 16) (by omega) (by omega)
  have hm : (f + 1) % 12 < 12 := Nat.mod_lt _ (by omega)
  refine ⟨d, l, q, h, ?_⟩
  intro f_time f_logged f_safe f_broken f_silent f_turns a_kind a_number a_ring a_score a_version a_ranked a_logOp a_logKey a_logA a_logB a_state a_gathered a_answered a_watching a_seen a_cOp a_cKey a_cA a_cB a_results a_taken a_waitsFor a_until a_turn a_source post hpost
  refine br_f (by decide) (And.intro hp (And.intro (by rw [hfi]; exact nu_12x hp hf) (nm_r (e' := a_ring (12 * p.toNatClampNeg + f)) (by rw [hfi, nu_12c h16 (by omega)]) (br_f (by decide) (And.intro nu_n12 (And.intro hp (nm_r (e' := upd a_first p.toNatClampNeg (nI ((f + 1) % 12))) ?_ (W _ _ hpost))))))))
  rw [hfi, xl_f4 hf, nu_vb (by omega)]
theorem xl_pullB {D : Nat → Int32} {f_dues : Int32} {a_size a_first a_deadline a_due : Nat → Int32} {p : Int32} (hp : vp_in p 8) (hD : xd_R D f_dues a_deadline a_due) {f n : Nat} (hf : f < 12) (hn : n < 12) (hs : a_size p.toNatClampNeg = nI (n + 1)) (hfi : a_first p.toNatClampNeg = nI f) : ∃ (d : Int32) (l q : Nat → Int32), xd_R (if n = 0 then upd D p.toNatClampNeg (-1) else D) d l q ∧ ∀ {f_time f_logged f_safe f_broken f_silent : Int32} {f_turns : Int64} {a_kind a_number a_ring a_score a_version a_ranked a_logOp a_logKey a_logA a_logB a_state a_gathered a_answered a_watching a_seen a_cOp a_cKey a_cA a_cB : Nat → Int32} {a_results a_taken : Nat → Int64} {a_waitsFor a_until : Nat → Int32} {a_turn : Nat → Int64} {a_source : Nat → Int32} (post : Int32 → SX → Prop), post (a_ring (12 * p.toNatClampNeg + (f + n) % 12)) (d, f_time, f_logged, f_safe, f_broken, f_silent, f_turns, if n = 0 then upd a_kind p.toNatClampNeg 0 else a_kind, if n = 0 then upd a_first p.toNatClampNeg 0 else a_first, upd a_size p.toNatClampNeg (nI n), a_number, a_ring, a_score, a_version, a_ranked, l, q, a_logOp, a_logKey, a_logA, a_logB, a_state, a_gathered, a_answered, a_watching, a_seen, a_cOp, a_cKey, a_cA, a_cB, a_results, a_taken, a_waitsFor, a_until, a_turn, a_source) → wpX_pull post (f_dues, f_time, f_logged, f_safe, f_broken, f_silent, f_turns, a_kind, a_first, a_size, a_number, a_ring, a_score, a_version, a_ranked, a_deadline, a_due, a_logOp, a_logKey, a_logA, a_logB, a_state, a_gathered, a_answered, a_watching, a_seen, a_cOp, a_cKey, a_cA, a_cB, a_results, a_taken, a_waitsFor, a_until, a_turn, a_source) p 0 := by
  obtain ⟨d, l, q, h, W⟩ := xl_62 hp hD hn hs
  have h16 := nu_up hp (M := 16) (by omega) (by omega)
  have hm : (f + n) % 12 < 12 := Nat.mod_lt _ (by omega)
  have ez : a_first p.toNatClampNeg + a_size p.toNatClampNeg - 1 - (a_first p.toNatClampNeg + a_size p.toNatClampNeg - 1) / 12 * 12 = nI ((f + n) % 12) := by
    rw [hfi, hs, xl_f3 hf (by omega) (by omega)]; rfl
  refine ⟨d, l, q, h, ?_⟩
  intro f_time f_logged f_safe f_broken f_silent f_turns a_kind a_number a_ring a_score a_version a_ranked a_logOp a_logKey a_logA a_logB a_state a_gathered a_answered a_watching a_seen a_cOp a_cKey a_cA a_cB a_results a_taken a_waitsFor a_until a_turn a_source post hpost
  exact br_t rfl (And.intro hp (And.intro hp (And.intro nu_n12 (And.intro (by rw [ez]; exact nu_12x hp hm) (nm_r (e' := a_ring (12 * p.toNatClampNeg + (f + n) % 12)) (by rw [ez, nu_12c h16 (by omega)]) (br_t rfl (W _ _ hpost)))))))
end
section
/-! ===== X: a ranking ===== -/
theorem xk_11 {p m s : Int32} (hp : vp_in p 8) {N c : Nat} (hN : N ≤ 12) {g : Nat → Nat} {a_ranked a_score : Nat → Int32} (hg : ∀ i, i < N → g i < 16 ∧ a_ranked (12 * p.toNatClampNeg + i) = nI (g i)) (h1 : ∀ i, i < c → ak_bf (a_score (16 * p.toNatClampNeg + g i)) (nI (g i)) s m) (h2 : ∀ i, c ≤ i → i < N → ¬ ak_bf (a_score (16 * p.toNatClampNeg + g i)) (nI (g i)) s m) {f_dues f_time f_logged f_safe f_broken f_silent : Int32} {f_turns : Int64} {a_kind a_first a_size a_number a_ring a_version a_deadline a_due a_logOp a_logKey a_logA a_logB a_state a_gathered a_answered a_watching a_seen a_cOp a_cKey a_cA a_cB : Nat → Int32} {a_results a_taken : Nat → Int64} {a_waitsFor a_until : Nat → Int32} {a_turn : Nat → Int64} {a_source : Nat → Int32} {post : Int32 → Prop} (hpost : post (nI c)) : ∀ k lo hi, hi ≤ lo + k → lo ≤ c → c ≤ hi → hi ≤ N → ∀ n, k < n → wX_place_11 post p m s f_dues f_time f_logged f_safe f_broken f_silent f_turns a_kind a_first a_size a_number a_ring a_score a_version a_ranked a_deadline a_due a_logOp a_logKey a_logA a_logB a_state a_gathered a_answered a_watching a_seen a_cOp a_cKey a_cA a_cB a_results a_taken a_waitsFor a_until a_turn a_source n (nI lo) (nI hi) := by
  have h16 := nu_up hp (M := 16) (by omega) (by omega)
  intro k
  induction k with
  | zero =>
    intro lo hi hk hlo hhi hhN n hn
    obtain ⟨n, rfl⟩ := nu_suc hn
    have e : lo = c := by omega
    subst e
    exact br_t (nI_le (by omega) (by omega)) hpost
  | succ k ih =>
    intro lo hi hk hlo hhi hhN n hn
    obtain ⟨n, rfl⟩ := nu_suc hn
    rcases Nat.lt_or_ge lo hi with z | z
    · have em : (nI lo + nI hi) >>> ((1 : Int32) &&& 31) = nI ((lo + hi) / 2) := by
        rw [nI_add]; exact pk_shrN (by omega) _ 1 (by decide)
      have hm : (lo + hi) / 2 < N := by omega
      obtain ⟨g16, er⟩ := hg _ hm
      refine br_f (nI_ge z (by omega)) (nm_r em (And.intro (nu_12x hp (by omega)) (nm_r (e' := nI (g ((lo + hi) / 2))) (by rw [nu_12c h16 (by omega), er]) (And.intro (nu_16x hp g16) (nm_r (e' := a_score (16 * p.toNatClampNeg + g ((lo + hi) / 2))) (by rw [nu_16c hp g16]) ?_)))))
      rcases Nat.lt_or_ge ((lo + hi) / 2) c with w | w
      · have hb := h1 _ w
        have go := ih ((lo + hi) / 2 + 1) hi (by omega) (by omega) hhi hhN n (by omega)
        refine br_c (fun _ => nm_r (nI_1 _) go) (fun q => br_c (fun _ => br_c (fun y => ?_) (fun _ => nm_r (nI_1 _) go)) (fun q2 => ?_))
        · rcases hb with hb | hb
          · exact absurd hb q
          · exact absurd y (Int32.not_le.mpr hb.2)
        · rcases hb with hb | hb
          · exact absurd hb q
          · exact absurd hb.1 q2
      · have hb := h2 _ w hm
        have go := ih lo ((lo + hi) / 2) (by omega) hlo w (by omega) n (by omega)
        refine br_f (fun q => hb (Or.inl q)) (br_c (fun q => br_t ?_ go) (fun _ => go))
        exact Int32.not_lt.mp (fun y => hb (Or.inr ⟨q, y⟩))
    · have e : lo = c := by omega
      subst e
      exact br_t (nI_le (by omega) (by omega)) hpost
/-- where (s, m) stands: behind ak_nb of them -/
theorem xk_place {p m s : Int32} (hp : vp_in p 8) {N : Nat} (hN : N ≤ 12) {g : Nat → Nat} {r : Nat → Option Int32} {a_size a_ranked a_score : Nat → Int32} (hs : a_size p.toNatClampNeg = nI N) (h : xr_R p.toNatClampNeg N g r a_score a_ranked) : ∃ c, c ≤ N ∧ c = ak_nb r s m ∧ (∀ i, i < c → ak_bf (ak_g r (g i)) (nI (g i)) s m) ∧ (∀ i, c ≤ i → i < N → ¬ ak_bf (ak_g r (g i)) (nI (g i)) s m) ∧ ∀ {f_dues f_time f_logged f_safe f_broken f_silent : Int32} {f_turns : Int64} {a_kind a_first a_number a_ring a_version a_deadline a_due a_logOp a_logKey a_logA a_logB a_state a_gathered a_answered a_watching a_seen a_cOp a_cKey a_cA a_cB : Nat → Int32} {a_results a_taken : Nat → Int64} {a_waitsFor a_until : Nat → Int32} {a_turn : Nat → Int64} {a_source : Nat → Int32} (post : Int32 → Prop), post (nI c) → wpX_place post (f_dues, f_time, f_logged, f_safe, f_broken, f_silent, f_turns, a_kind, a_first, a_size, a_number, a_ring, a_score, a_version, a_ranked, a_deadline, a_due, a_logOp, a_logKey, a_logA, a_logB, a_state, a_gathered, a_answered, a_watching, a_seen, a_cOp, a_cKey, a_cA, a_cB, a_results, a_taken, a_waitsFor, a_until, a_turn, a_source) p m s := by
  obtain ⟨hE, hS, h⟩ := h
  have hsc : ∀ i, i < N → ak_g r (g i) = a_score (16 * p.toNatClampNeg + g i) := fun i hi => by
    unfold ak_g; rw [(h i hi).2]; rfl
  obtain ⟨c, hc, h1, h2⟩ := en_cut N (fun i => ak_bf (ak_g r (g i)) (nI (g i)) s m) (fun i j hij hj hQ => ak_bfT (hS i j hij hj) hQ)
  refine ⟨c, hc, (ak_nbX hE hc h1 h2).symm, h1, h2, ?_⟩
  intro f_dues f_time f_logged f_safe f_broken f_silent f_turns a_kind a_first a_number a_ring a_version a_deadline a_due a_logOp a_logKey a_logA a_logB a_state a_gathered a_answered a_watching a_seen a_cOp a_cKey a_cA a_cB a_results a_taken a_waitsFor a_until a_turn a_source post hpost
  refine And.intro hp (nm_r hs ⟨N + 1, ?_⟩)
  exact xk_11 hp hN (g := g) (fun i hi => ⟨(hE.1 i hi).1, (h i hi).1⟩) (fun i hi => by rw [← hsc i (by omega)]; exact h1 i hi) (fun i hi hn => by rw [← hsc i hn]; exact h2 i hi hn) hpost N 0 N (by omega) (by omega) hc (by omega) (N + 1) (by omega)
/-- .. and a member's own place -/
theorem xk_own {N c : Nat} {g : Nat → Nat} {r : Nat → Option Int32} (hE : en_E N 16 g (fun m => (r m).isSome)) (hS : en_S N g (ak_lt r)) {m : Nat} (hm : m < 16) {s : Int32} (hs : r m = some s) (hc : c = ak_nb r s (nI m)) : c < N ∧ g c = m := by
  obtain ⟨i, hi, ei⟩ := hE.2.2 m hm (xr_is hs)
  have : ak_nb r (ak_g r (g i)) (nI (g i)) = i := ak_nbG hE hS hi
  rw [ei] at this
  have e : ak_g r m = s := by unfold ak_g; rw [hs]; rfl
  rw [e, ← hc] at this
  subst this
  exact ⟨hi, ei⟩
theorem xk_is {p : Int32} (hp : vp_in p 8) {m N : Nat} (hm : m < 16) (hN : N ≤ 12) {g : Nat → Nat} {r : Nat → Option Int32} {a_kind a_size a_ranked a_score : Nat → Int32} (hk : a_kind p.toNatClampNeg = 3 ∨ r = ak_0) (hs : a_size p.toNatClampNeg = nI N) (h : xr_R p.toNatClampNeg N g r a_score a_ranked) {f_dues f_time f_logged f_safe f_broken f_silent : Int32} {f_turns : Int64} {a_first a_number a_ring a_version a_deadline a_due a_logOp a_logKey a_logA a_logB a_state a_gathered a_answered a_watching a_seen a_cOp a_cKey a_cA a_cB : Nat → Int32} {a_results a_taken : Nat → Int64} {a_waitsFor a_until : Nat → Int32} {a_turn : Nat → Int64} {a_source : Nat → Int32} {post : Int32 → Prop} (hpost : post (if r m = none then 0 else 1)) : wpX_isMember post (f_dues, f_time, f_logged, f_safe, f_broken, f_silent, f_turns, a_kind, a_first, a_size, a_number, a_ring, a_score, a_version, a_ranked, a_deadline, a_due, a_logOp, a_logKey, a_logA, a_logB, a_state, a_gathered, a_answered, a_watching, a_seen, a_cOp, a_cKey, a_cA, a_cB, a_results, a_taken, a_waitsFor, a_until, a_turn, a_source) p (nI m) := by
  by_cases hk3 : a_kind p.toNatClampNeg = 3
  · have h16 := nu_up hp (M := 16) (by omega) (by omega)
    obtain ⟨c, hc, ec, h1, h2, W⟩ := xk_place (m := nI m) (s := a_score (16 * p.toNatClampNeg + m)) hp hN hs h
    refine And.intro hp (br_t hk3 (And.intro (nu_16x hp hm) ?_))
    rw [nu_16c hp hm]
    refine W _ (And.intro hp ?_)
    rw [hs]
    refine pk_le N c (fun z => ?_) (fun z => ?_)
    · -- not there
      by_cases w : r m = none
      · rw [if_pos w] at hpost; exact hpost
      · obtain ⟨s, es⟩ := Option.ne_none_iff_exists'.mp w
        obtain ⟨i, hi, ei⟩ := h.1.2.2 m hm (xr_is es)
        have e1 : a_score (16 * p.toNatClampNeg + m) = s := by
          have := (h.2.2 i hi).2
          rw [ei, es] at this
          exact (Option.some.inj this).symm
        rw [e1] at ec
        have := xk_own h.1 h.2.1 hm es ec
        omega
    · refine And.intro (nu_12x hp (by omega)) ?_
      rw [nu_12c h16 (by omega), (h.2.2 c z).1]
      have g16 := (h.1.1 c z).1
      by_cases w : r m = none
      · rw [if_pos w] at hpost
        refine br_f (fun e => ?_) hpost
        have e2 := (nI_eq (by omega) (by omega)).mp e
        have := (h.1.1 c z).2
        dsimp only at this
        rw [e2, w] at this
        exact absurd this (by decide)
      · rw [if_neg w] at hpost
        obtain ⟨s, es⟩ := Option.ne_none_iff_exists'.mp w
        obtain ⟨i, hi, ei⟩ := h.1.2.2 m hm (xr_is es)
        have e1 : a_score (16 * p.toNatClampNeg + m) = s := by
          have := (h.2.2 i hi).2
          rw [ei, es] at this
          exact (Option.some.inj this).symm
        rw [e1] at ec
        exact br_t (by rw [(xk_own h.1 h.2.1 hm es ec).2]) hpost
  · have e : r = ak_0 := hk.resolve_left hk3
    subst e
    rw [if_pos (show ak_0 m = none from rfl)] at hpost
    exact And.intro hp (br_f hk3 hpost)
/-! a member enters -/
theorem xk_30 {p s : Int32} (hp : vp_in p 8) {m N c : Nat} (hm : m < 16) (hN : N < 12) (hc : c ≤ N) {q : Nat → Int32} (hq : ∀ i, i < N → ∃ b, b < 16 ∧ q (12 * p.toNatClampNeg + i) = nI b) {f_dues f_time f_logged f_safe f_broken f_silent : Int32} {f_turns : Int64} {a_kind a_first a_size a_number a_ring a_score a_version a_deadline a_due a_logOp a_logKey a_logA a_logB a_state a_gathered a_answered a_watching a_seen a_cOp a_cKey a_cA a_cB : Nat → Int32} {a_results a_taken : Nat → Int64} {a_waitsFor a_until : Nat → Int32} {a_turn : Nat → Int64} {a_source : Nat → Int32} {post : SX → Prop} (hpost : post (f_dues, f_time, f_logged, f_safe, f_broken, f_silent, f_turns, a_kind, a_first, a_size, a_number, a_ring, upd a_score (16 * p.toNatClampNeg + m) s, a_version, upd (sh_r q (12 * p.toNatClampNeg + c) (12 * p.toNatClampNeg + N)) (12 * p.toNatClampNeg + c) (nI m), a_deadline, a_due, a_logOp, a_logKey, a_logA, a_logB, a_state, a_gathered, a_answered, a_watching, a_seen, a_cOp, a_cKey, a_cA, a_cB, a_results, a_taken, a_waitsFor, a_until, a_turn, a_source)) : ∀ k x, c + k = x → x ≤ N → ∀ n, k < n → wX_enter_30 post p (nI m) s (nI c) f_dues f_time f_logged f_safe f_broken f_silent f_turns n (nI x) a_kind a_first a_size a_number a_ring a_score a_version (sh_r q (12 * p.toNatClampNeg + x) (12 * p.toNatClampNeg + N)) a_deadline a_due a_logOp a_logKey a_logA a_logB a_state a_gathered a_answered a_watching a_seen a_cOp a_cKey a_cA a_cB a_results a_taken a_waitsFor a_until a_turn a_source := by
  have h16 := nu_up hp (M := 16) (by omega) (by omega)
  intro k
  induction k with
  | zero =>
    intro x hx hxN n hn
    obtain ⟨n, rfl⟩ := nu_suc hn
    have e : x = c := by omega
    subst e
    refine br_t (nI_le (by omega) (by omega)) (And.intro (nu_12x hp (by omega)) (nm_r (e' := upd (sh_r q (12 * p.toNatClampNeg + x) (12 * p.toNatClampNeg + N)) (12 * p.toNatClampNeg + x) (nI m)) ?_ (And.intro (nu_16x hp hm) (nm_r (e' := upd a_score (16 * p.toNatClampNeg + m) s) ?_ hpost))))
    · rw [nu_12c h16 (by omega), nu_vb (by omega)]
    · rw [nu_16c hp hm]
  | succ k ih =>
    intro x hx hxN n hn
    obtain ⟨n, rfl⟩ := nu_suc hn
    obtain ⟨y, rfl⟩ : ∃ y, x = y + 1 := ⟨x - 1, by omega⟩
    obtain ⟨b, hb, eb⟩ := hq y (by omega)
    have kp := (nu_key hp (by omega)).2
    have em : 12 * p + nI (y + 1) - 1 = 12 * p + nI y := by
      rw [nu_12 h16, nu_12 h16]; exact nI_pred (12 * p.toNatClampNeg + y)
    have cd : sh_r q (12 * p.toNatClampNeg + (y + 1)) (12 * p.toNatClampNeg + N) (12 * p + nI (y + 1) - 1).toNatClampNeg = nI b := by
      rw [em, nu_12c h16 (by omega), ← eb]; exact sh_rr
    have eu : upd (sh_r q (12 * p.toNatClampNeg + (y + 1)) (12 * p.toNatClampNeg + N)) (12 * p + nI (y + 1)).toNatClampNeg (vp_nar .byte (sh_r q (12 * p.toNatClampNeg + (y + 1)) (12 * p.toNatClampNeg + N) (12 * p + nI (y + 1) - 1).toNatClampNeg)) = sh_r q (12 * p.toNatClampNeg + y) (12 * p.toNatClampNeg + N) := by
      rw [cd, nu_nb (by omega), nu_12c h16 (by omega), ← eb]; exact sh_rs (x := 12 * p.toNatClampNeg + y) (by omega)
    exact br_f (nI_ge (by omega) (by omega)) (And.intro (by rw [em]; exact nu_12x hp (by omega)) (And.intro (nu_12x hp (by omega)) (nm_r eu (nm_r (pk_m1 y) (ih y (by omega) (by omega) n (by omega))))))
/-- the ranking with a member more, and its arrays -/
theorem xk_insR {k m N c : Nat} {s : Int32} (hm : m < 16) (hN : N < 12) {g : Nat → Nat} {r : Nat → Option Int32} {sc rk : Nat → Int32} (h : xr_R k N g r sc rk) (hr : r m = none) (hc : c ≤ N) (h1 : ∀ i, i < c → ak_bf (ak_g r (g i)) (nI (g i)) s (nI m)) (h2 : ∀ i, c ≤ i → i < N → ¬ ak_bf (ak_g r (g i)) (nI (g i)) s (nI m)) : xr_R k (N + 1) (fun i => if i < c then g i else if i = c then m else g (i - 1)) (ak_ur r m (some s)) (upd sc (16 * k + m) s) (upd (sh_r rk (12 * k + c) (12 * k + N)) (12 * k + c) (nI m)) := by
  obtain ⟨hE, hS, h⟩ := h
  have hne : ∀ i, i < N → g i ≠ m := fun i hi e => by
    have := (hE.1 i hi).2
    dsimp only at this
    rw [e, hr] at this
    exact absurd this (by decide)
  have hgs : ∀ i, i < N → ak_g (ak_ur r m (some s)) (g i) = ak_g r (g i) := fun i hi => by
    unfold ak_g; rw [ak_urN (hne i hi)]
  have hgm : ak_g (ak_ur r m (some s)) m = s := by unfold ak_g; rw [ak_urS]; rfl
  refine ⟨?_, ?_, fun i hi => ?_⟩
  · refine en_ins hE hc hm (by rw [hr]; rfl) _ _ (fun i _ => rfl) (fun j hj => ?_)
    by_cases y : j = m
    · rw [y, ak_urS]; simp
    · rw [ak_urN y]; simp [y]
  · refine en_insS (g := g) (c := c) (m := m) ?_ hc ?_ ?_ _ (fun i _ => rfl)
    · intro i j hij hj
      have := hS i j hij hj
      show ak_bf (ak_g (ak_ur r m (some s)) (g i)) (nI (g i)) (ak_g (ak_ur r m (some s)) (g j)) (nI (g j))
      rw [hgs i (by omega), hgs j hj]; exact this
    · intro i hi
      show ak_bf (ak_g (ak_ur r m (some s)) (g i)) (nI (g i)) (ak_g (ak_ur r m (some s)) m) (nI m)
      rw [hgs i (by omega), hgm]; exact h1 i hi
    · intro i hi hn
      show ak_bf (ak_g (ak_ur r m (some s)) m) (nI m) (ak_g (ak_ur r m (some s)) (g i)) (nI (g i))
      rw [hgs i hn, hgm]; exact ak_bfC (hE.1 i hn).1 hm (hne i hn) (h2 i hi hn)
  · dsimp only
    by_cases y : i = c
    · subst y
      rw [if_neg (by omega), if_pos rfl, pk_us, ak_urS, pk_us]; exact ⟨rfl, rfl⟩
    · rw [pk_un (by omega)]
      by_cases w : i < c
      · rw [if_pos w, ak_urN (hne i (by omega)), pk_un (by have := hne i (by omega); omega)]
        refine ⟨?_, (h i (by omega)).2⟩
        unfold sh_r; rw [if_neg (by omega)]; exact (h i (by omega)).1
      · rw [if_neg w, if_neg y, ak_urN (hne (i - 1) (by omega)), pk_un (by have := hne (i - 1) (by omega); omega)]
        refine ⟨?_, (h (i - 1) (by omega)).2⟩
        unfold sh_r; rw [if_pos (by omega)]
        have := (h (i - 1) (by omega)).1
        rw [show 12 * k + i - 1 = 12 * k + (i - 1) from by omega]; exact this
theorem xk_enter {p s : Int32} (hp : vp_in p 8) {m N : Nat} (hm : m < 16) (hN : N < 12) {g : Nat → Nat} {r : Nat → Option Int32} {a_size a_ranked a_score : Nat → Int32} (hs : a_size p.toNatClampNeg = nI N) (h : xr_R p.toNatClampNeg N g r a_score a_ranked) (hr : r m = none) : ∃ c g', c ≤ N ∧ xr_R p.toNatClampNeg (N + 1) g' (ak_ur r m (some s)) (upd a_score (16 * p.toNatClampNeg + m) s) (upd (sh_r a_ranked (12 * p.toNatClampNeg + c) (12 * p.toNatClampNeg + N)) (12 * p.toNatClampNeg + c) (nI m)) ∧ ∀ {f_dues f_time f_logged f_safe f_broken f_silent : Int32} {f_turns : Int64} {a_kind a_first a_number a_ring a_version a_deadline a_due a_logOp a_logKey a_logA a_logB a_state a_gathered a_answered a_watching a_seen a_cOp a_cKey a_cA a_cB : Nat → Int32} {a_results a_taken : Nat → Int64} {a_waitsFor a_until : Nat → Int32} {a_turn : Nat → Int64} {a_source : Nat → Int32} (post : SX → Prop), post (f_dues, f_time, f_logged, f_safe, f_broken, f_silent, f_turns, upd a_kind p.toNatClampNeg 3, a_first, upd a_size p.toNatClampNeg (nI (N + 1)), a_number, a_ring, upd a_score (16 * p.toNatClampNeg + m) s, a_version, upd (sh_r a_ranked (12 * p.toNatClampNeg + c) (12 * p.toNatClampNeg + N)) (12 * p.toNatClampNeg + c) (nI m), a_deadline, a_due, a_logOp, a_logKey, a_logA, a_logB, a_state, a_gathered, a_answered, a_watching, a_seen, a_cOp, a_cKey, a_cA, a_cB, a_results, a_taken, a_waitsFor, a_until, a_turn, a_source) → wpX_enter post (f_dues, f_time, f_logged, f_safe, f_broken, f_silent, f_turns, a_kind, a_first, a_size, a_number, a_ring, a_score, a_version, a_ranked, a_deadline, a_due, a_logOp, a_logKey, a_logA, a_logB, a_state, a_gathered, a_answered, a_watching, a_seen, a_cOp, a_cKey, a_cA, a_cB, a_results, a_taken, a_waitsFor, a_until, a_turn, a_source) p (nI m) s := by
  obtain ⟨c, hc, ec, h1, h2, W⟩ := xk_place (m := nI m) (s := s) hp (by omega) hs h
  refine ⟨c, _, hc, xk_insR hm hN h hr hc h1 h2, ?_⟩
  intro f_dues f_time f_logged f_safe f_broken f_silent f_turns a_kind a_first a_number a_ring a_version a_deadline a_due a_logOp a_logKey a_logA a_logB a_state a_gathered a_answered a_watching a_seen a_cOp a_cKey a_cA a_cB a_results a_taken a_waitsFor a_until a_turn a_source post hpost
  refine And.intro hp (nm_r (e' := upd a_kind p.toNatClampNeg 3) (by rw [nu_b3]) (W _ (And.intro hp (And.intro hp (nm_r (e' := upd a_size p.toNatClampNeg (nI (N + 1))) ?_ (nm_r hs ⟨N - c + 1, ?_⟩))))))
  · rw [hs, nI_1, nu_vb (by omega)]
  · have hw := xk_30 (s := s) hp hm hN hc (q := a_ranked) (fun i hi => ⟨g i, (h.1.1 i hi).1, (h.2.2 i hi).1⟩) hpost (N - c) N (by omega) (by omega) (N - c + 1) (by omega)
    rw [sh_r0] at hw
    exact hw
/-! a member leaves -/
theorem xk_32 {p : Int32} (hp : vp_in p 8) {N c : Nat} (hN : N < 12) {q a_size : Nat → Int32} (hs : a_size p.toNatClampNeg = nI N) (hq : ∀ i, i ≤ N → ∃ b, b < 16 ∧ q (12 * p.toNatClampNeg + i) = nI b) {f_dues f_time f_logged f_safe f_broken f_silent : Int32} {f_turns : Int64} {a_kind a_first a_number a_ring a_score a_version a_deadline a_due a_logOp a_logKey a_logA a_logB a_state a_gathered a_answered a_watching a_seen a_cOp a_cKey a_cA a_cB : Nat → Int32} {a_results a_taken : Nat → Int64} {a_waitsFor a_until : Nat → Int32} {a_turn : Nat → Int64} {a_source : Nat → Int32} {post : SX → Prop} (hpost : post (f_dues, f_time, f_logged, f_safe, f_broken, f_silent, f_turns, a_kind, a_first, a_size, a_number, a_ring, a_score, a_version, sh_l q (12 * p.toNatClampNeg + c) (12 * p.toNatClampNeg + N), a_deadline, a_due, a_logOp, a_logKey, a_logA, a_logB, a_state, a_gathered, a_answered, a_watching, a_seen, a_cOp, a_cKey, a_cA, a_cB, a_results, a_taken, a_waitsFor, a_until, a_turn, a_source)) : ∀ k x, x + k = N → c ≤ x → ∀ n, k < n → wX_leave_32 post p f_dues f_time f_logged f_safe f_broken f_silent f_turns n (nI x) a_kind a_first a_size a_number a_ring a_score a_version (sh_l q (12 * p.toNatClampNeg + c) (12 * p.toNatClampNeg + x)) a_deadline a_due a_logOp a_logKey a_logA a_logB a_state a_gathered a_answered a_watching a_seen a_cOp a_cKey a_cA a_cB a_results a_taken a_waitsFor a_until a_turn a_source := by
  have h16 := nu_up hp (M := 16) (by omega) (by omega)
  intro k
  induction k with
  | zero =>
    intro x hx hcx n hn
    obtain ⟨n, rfl⟩ := nu_suc hn
    have e : x = N := by omega
    subst e
    exact And.intro hp (br_t (by rw [hs]; exact nI_le (by omega) (by omega)) hpost)
  | succ k ih =>
    intro x hx hcx n hn
    obtain ⟨n, rfl⟩ := nu_suc hn
    obtain ⟨b, hb, eb⟩ := hq (x + 1) (by omega)
    have em : 12 * p + nI x + 1 = 12 * p + nI (x + 1) := by
      rw [nu_12 h16, nu_12 h16]; exact nI_1 _
    have cd : sh_l q (12 * p.toNatClampNeg + c) (12 * p.toNatClampNeg + x) (12 * p + nI x + 1).toNatClampNeg = nI b := by
      rw [em, nu_12c h16 (by omega), ← eb]; exact sh_lr
    have eu : upd (sh_l q (12 * p.toNatClampNeg + c) (12 * p.toNatClampNeg + x)) (12 * p + nI x).toNatClampNeg (vp_nar .byte (sh_l q (12 * p.toNatClampNeg + c) (12 * p.toNatClampNeg + x) (12 * p + nI x + 1).toNatClampNeg)) = sh_l q (12 * p.toNatClampNeg + c) (12 * p.toNatClampNeg + (x + 1)) := by
      rw [cd, nu_nb (by omega), nu_12c h16 (by omega), ← eb]; exact sh_ls (x := 12 * p.toNatClampNeg + x) (by omega)
    exact And.intro hp (br_f (by rw [hs]; exact nI_ge (by omega) (by omega)) (And.intro (by rw [em]; exact nu_12x hp (by omega)) (And.intro (nu_12x hp (by omega)) (nm_r eu (nm_r (nI_1 x) (ih (x + 1) (by omega) (by omega) n (by omega)))))))
theorem xk_delR {k m N c : Nat} (hN : N < 12) {g : Nat → Nat} {r : Nat → Option Int32} {sc rk : Nat → Int32} (h : xr_R k (N + 1) g r sc rk) (hc : c ≤ N) (ec : g c = m) : xr_R k N (fun i => if i < c then g i else g (i + 1)) (ak_ur r m none) sc (sh_l rk (12 * k + c) (12 * k + N)) := by
  obtain ⟨hE, hS, h⟩ := h
  have hne : ∀ i, i < N → (if i < c then g i else g (i + 1)) ≠ m := fun i hi w => by
    by_cases y : i < c
    · rw [if_pos y, ← ec] at w; have := hE.2.1 i c (by omega) (by omega) w; omega
    · rw [if_neg y, ← ec] at w; have := hE.2.1 (i + 1) c (by omega) (by omega) w; omega
  refine ⟨?_, ?_, fun i hi => ?_⟩
  · refine en_del hE (c := c) (by omega) _ _ (fun i _ => rfl) (fun j hj => ?_)
    rw [ec]
    by_cases y : j = m
    · rw [y, ak_urS]; simp
    · rw [ak_urN y]; simp [y]
  · have := en_delS (c := c) hS (fun i => if i < c then g i else g (i + 1)) (fun i _ => rfl)
    intro i j hij hj
    have h1 := hne i (by omega)
    have h2 := hne j hj
    have h3 := this i j hij hj
    dsimp only at h3 ⊢
    unfold ak_lt ak_g at h3 ⊢
    rw [ak_urN h1, ak_urN h2]; exact h3
  · have h1 := hne i hi
    dsimp only
    rw [ak_urN h1]
    unfold sh_l
    by_cases y : i < c
    · rw [if_neg (by omega), if_pos y]; exact h i (by omega)
    · rw [if_pos (by omega), if_neg y]; exact h (i + 1) (by omega)
theorem xk_leave {p : Int32} (hp : vp_in p 8) {m N : Nat} (hm : m < 16) (hN : N < 12) {g : Nat → Nat} {r : Nat → Option Int32} {a_size a_ranked a_score : Nat → Int32} (hs : a_size p.toNatClampNeg = nI (N + 1)) (h : xr_R p.toNatClampNeg (N + 1) g r a_score a_ranked) (hr : r m ≠ none) : ∃ c g', c ≤ N ∧ xr_R p.toNatClampNeg N g' (ak_ur r m none) a_score (sh_l a_ranked (12 * p.toNatClampNeg + c) (12 * p.toNatClampNeg + N)) ∧ ∀ {f_dues f_time f_logged f_safe f_broken f_silent : Int32} {f_turns : Int64} {a_kind a_first a_number a_ring a_version a_deadline a_due a_logOp a_logKey a_logA a_logB a_state a_gathered a_answered a_watching a_seen a_cOp a_cKey a_cA a_cB : Nat → Int32} {a_results a_taken : Nat → Int64} {a_waitsFor a_until : Nat → Int32} {a_turn : Nat → Int64} {a_source : Nat → Int32} (post : SX → Prop), post (f_dues, f_time, f_logged, f_safe, f_broken, f_silent, f_turns, a_kind, a_first, upd a_size p.toNatClampNeg (nI N), a_number, a_ring, a_score, a_version, sh_l a_ranked (12 * p.toNatClampNeg + c) (12 * p.toNatClampNeg + N), a_deadline, a_due, a_logOp, a_logKey, a_logA, a_logB, a_state, a_gathered, a_answered, a_watching, a_seen, a_cOp, a_cKey, a_cA, a_cB, a_results, a_taken, a_waitsFor, a_until, a_turn, a_source) → wpX_leave post (f_dues, f_time, f_logged, f_safe, f_broken, f_silent, f_turns, a_kind, a_first, a_size, a_number, a_ring, a_score, a_version, a_ranked, a_deadline, a_due, a_logOp, a_logKey, a_logA, a_logB, a_state, a_gathered, a_answered, a_watching, a_seen, a_cOp, a_cKey, a_cA, a_cB, a_results, a_taken, a_waitsFor, a_until, a_turn, a_source) p (nI m) := by
  obtain ⟨s, es⟩ := Option.ne_none_iff_exists'.mp hr
  obtain ⟨i, hi, ei⟩ := h.1.2.2 m hm (xr_is es)
  have e1 : a_score (16 * p.toNatClampNeg + m) = s := by
    have := (h.2.2 i hi).2
    rw [ei, es] at this
    exact (Option.some.inj this).symm
  obtain ⟨c, hc, ec, h1, h2, W⟩ := xk_place (m := nI m) (s := s) hp (by omega) hs h
  obtain ⟨hcN, egc⟩ := xk_own h.1 h.2.1 hm es ec
  refine ⟨c, _, by omega, xk_delR hN h (by omega) egc, ?_⟩
  intro f_dues f_time f_logged f_safe f_broken f_silent f_turns a_kind a_first a_number a_ring a_version a_deadline a_due a_logOp a_logKey a_logA a_logB a_state a_gathered a_answered a_watching a_seen a_cOp a_cKey a_cA a_cB a_results a_taken a_waitsFor a_until a_turn a_source post hpost
  refine And.intro (nu_16x hp hm) ?_
  rw [nu_16c hp hm, e1]
  refine W _ (And.intro hp (And.intro hp (nm_r (e' := upd a_size p.toNatClampNeg (nI N)) ?_ ⟨N - c + 1, ?_⟩)))
  · rw [hs, nI_pred, nu_vb (by omega)]
  · have hw := xk_32 hp hN (c := c) (q := a_ranked) (a_size := upd a_size p.toNatClampNeg (nI N)) pk_us (fun i hi => ⟨g i, (h.1.1 i (by omega)).1, (h.2.2 i (by omega)).1⟩) hpost (N - c) c (by omega) (by omega) (N - c + 1) (by omega)
    rw [sh_l0] at hw
    exact hw
theorem xk_strike {D : Nat → Int32} {f_dues : Int32} {a_deadline a_due : Nat → Int32} {p : Int32} (hp : vp_in p 8) (hD : xd_R D f_dues a_deadline a_due) {m N : Nat} (hm : m < 16) (hN : N < 12) {g : Nat → Nat} {r : Nat → Option Int32} {a_size a_ranked a_score : Nat → Int32} (hs : a_size p.toNatClampNeg = nI (N + 1)) (h : xr_R p.toNatClampNeg (N + 1) g r a_score a_ranked) (hr : r m ≠ none) : ∃ c g', c ≤ N ∧ xr_R p.toNatClampNeg N g' (ak_ur r m none) a_score (sh_l a_ranked (12 * p.toNatClampNeg + c) (12 * p.toNatClampNeg + N)) ∧ ∃ (d : Int32) (l q : Nat → Int32), xd_R (if N = 0 then upd D p.toNatClampNeg (-1) else D) d l q ∧ ∀ {f_time f_logged f_safe f_broken f_silent : Int32} {f_turns : Int64} {a_kind a_first a_number a_ring a_version a_logOp a_logKey a_logA a_logB a_state a_gathered a_answered a_watching a_seen a_cOp a_cKey a_cA a_cB : Nat → Int32} {a_results a_taken : Nat → Int64} {a_waitsFor a_until : Nat → Int32} {a_turn : Nat → Int64} {a_source : Nat → Int32} (post : SX → Prop), post (d, f_time, f_logged, f_safe, f_broken, f_silent, f_turns, if N = 0 then upd a_kind p.toNatClampNeg 0 else a_kind, if N = 0 then upd a_first p.toNatClampNeg 0 else a_first, upd a_size p.toNatClampNeg (nI N), a_number, a_ring, a_score, a_version, sh_l a_ranked (12 * p.toNatClampNeg + c) (12 * p.toNatClampNeg + N), l, q, a_logOp, a_logKey, a_logA, a_logB, a_state, a_gathered, a_answered, a_watching, a_seen, a_cOp, a_cKey, a_cA, a_cB, a_results, a_taken, a_waitsFor, a_until, a_turn, a_source) → wpX_strike post (f_dues, f_time, f_logged, f_safe, f_broken, f_silent, f_turns, a_kind, a_first, a_size, a_number, a_ring, a_score, a_version, a_ranked, a_deadline, a_due, a_logOp, a_logKey, a_logA, a_logB, a_state, a_gathered, a_answered, a_watching, a_seen, a_cOp, a_cKey, a_cA, a_cB, a_results, a_taken, a_waitsFor, a_until, a_turn, a_source) p (nI m) := by
  obtain ⟨c, g', hc, h', W⟩ := xk_leave hp hm hN hs h hr
  refine ⟨c, g', hc, h', ?_⟩
  rcases Nat.eq_zero_or_pos N with z | z
  · subst z
    obtain ⟨d, l, q, hd, W2⟩ := xs_empty hp hD
    refine ⟨d, l, q, by rw [if_pos rfl]; exact hd, ?_⟩
    intro f_time f_logged f_safe f_broken f_silent f_turns a_kind a_first a_number a_ring a_version a_logOp a_logKey a_logA a_logB a_state a_gathered a_answered a_watching a_seen a_cOp a_cKey a_cA a_cB a_results a_taken a_waitsFor a_until a_turn a_source post hpost
    rw [if_pos rfl, if_pos rfl] at hpost
    unfold wpX_strike
    refine W _ (And.intro hp (br_t (by rw [pk_us]; rfl) (W2 _ ?_)))
    have e : upd (upd a_size p.toNatClampNeg (nI 0)) p.toNatClampNeg 0 = upd a_size p.toNatClampNeg (nI 0) := xd_upI pk_us
    show post _
    rw [e]; exact hpost
  · refine ⟨f_dues, a_deadline, a_due, by rw [if_neg (by omega)]; exact hD, ?_⟩
    intro f_time f_logged f_safe f_broken f_silent f_turns a_kind a_first a_number a_ring a_version a_logOp a_logKey a_logA a_logB a_state a_gathered a_answered a_watching a_seen a_cOp a_cKey a_cA a_cB a_results a_taken a_waitsFor a_until a_turn a_source post hpost
    rw [if_neg (by omega), if_neg (by omega)] at hpost
    unfold wpX_strike
    exact W _ (And.intro hp (br_f (by rw [pk_us]; exact nI_ne0 z (by omega)) hpost))
end
section
/-! ===== X: a key takes another's place ===== -/
theorem xn_138 {p t v : Int32} (hp : vp_in p 8) (ht : vp_in t 8) (hne : t.toNatClampNeg ≠ p.toNatClampNeg) {q : Nat → Int32} {f_dues f_time f_logged f_safe f_broken f_silent : Int32} {f_turns : Int64} {a_kind a_first a_size a_number a_ring a_version a_ranked a_deadline a_due a_logOp a_logKey a_logA a_logB a_state a_gathered a_answered a_watching a_seen a_cOp a_cKey a_cA a_cB : Nat → Int32} {a_results a_taken : Nat → Int64} {a_waitsFor a_until : Nat → Int32} {a_turn : Nat → Int64} {a_source : Nat → Int32} {post : Int64 → SX → Prop} (hc : ∀ m, wX_rename_138 post p t v f_dues f_time f_logged f_safe f_broken f_silent f_turns (m + 1) (nI 16) a_kind a_first a_size a_number a_ring (sh_c (fun x => x) q (16 * p.toNatClampNeg) (16 * t.toNatClampNeg) 16) a_version a_ranked a_deadline a_due a_logOp a_logKey a_logA a_logB a_state a_gathered a_answered a_watching a_seen a_cOp a_cKey a_cA a_cB a_results a_taken a_waitsFor a_until a_turn a_source) : ∀ k x, x + k = 16 → ∀ n, k < n → wX_rename_138 post p t v f_dues f_time f_logged f_safe f_broken f_silent f_turns n (nI x) a_kind a_first a_size a_number a_ring (sh_c (fun x => x) q (16 * p.toNatClampNeg) (16 * t.toNatClampNeg) x) a_version a_ranked a_deadline a_due a_logOp a_logKey a_logA a_logB a_state a_gathered a_answered a_watching a_seen a_cOp a_cKey a_cA a_cB a_results a_taken a_waitsFor a_until a_turn a_source := by
  have kp := (nu_key hp (by omega)).2
  have kt := (nu_key ht (by omega)).2
  intro k
  induction k with
  | zero =>
    intro x hx n hn
    obtain ⟨n, rfl⟩ := nu_suc hn
    have e : x = 16 := by omega
    subst e
    exact hc n
  | succ k ih =>
    intro x hx n hn
    obtain ⟨n, rfl⟩ := nu_suc hn
    have eu : upd (sh_c (fun x => x) q (16 * p.toNatClampNeg) (16 * t.toNatClampNeg) x) (16 * t + nI x).toNatClampNeg (sh_c (fun x => x) q (16 * p.toNatClampNeg) (16 * t.toNatClampNeg) x (16 * p + nI x).toNatClampNeg) = sh_c (fun x => x) q (16 * p.toNatClampNeg) (16 * t.toNatClampNeg) (x + 1) := by
      rw [nu_16c hp (by omega), nu_16c ht (by omega), sh_cr (n := 16) (by omega) (by omega)]; exact sh_cs (f := fun x => x)
    exact br_f (nI_ge (b := 16) (by omega) (by omega)) (And.intro (nu_16x hp (by omega)) (And.intro (nu_16x ht (by omega)) (nm_r eu (nm_r (nI_1 x) (ih (x + 1) (by omega) n (by omega))))))
theorem xn_138z {p t v : Int32} (hp : vp_in p 8) (ht : vp_in t 8) (hne : t.toNatClampNeg ≠ p.toNatClampNeg) {f_dues f_time f_logged f_safe f_broken f_silent : Int32} {f_turns : Int64} {a_kind a_first a_size a_number a_ring a_score a_version a_ranked a_deadline a_due a_logOp a_logKey a_logA a_logB a_state a_gathered a_answered a_watching a_seen a_cOp a_cKey a_cA a_cB : Nat → Int32} {a_results a_taken : Nat → Int64} {a_waitsFor a_until : Nat → Int32} {a_turn : Nat → Int64} {a_source : Nat → Int32} {post : Int64 → SX → Prop} (hc : ∀ m, wX_rename_138 post p t v f_dues f_time f_logged f_safe f_broken f_silent f_turns (m + 1) (nI 16) a_kind a_first a_size a_number a_ring (sh_c (fun x => x) a_score (16 * p.toNatClampNeg) (16 * t.toNatClampNeg) 16) a_version a_ranked a_deadline a_due a_logOp a_logKey a_logA a_logB a_state a_gathered a_answered a_watching a_seen a_cOp a_cKey a_cA a_cB a_results a_taken a_waitsFor a_until a_turn a_source) : wX_rename_138 post p t v f_dues f_time f_logged f_safe f_broken f_silent f_turns 17 0 a_kind a_first a_size a_number a_ring a_score a_version a_ranked a_deadline a_due a_logOp a_logKey a_logA a_logB a_state a_gathered a_answered a_watching a_seen a_cOp a_cKey a_cA a_cB a_results a_taken a_waitsFor a_until a_turn a_source := by
  have hw := xn_138 hp ht hne (q := a_score) hc 16 0 (by omega) 17 (by omega)
  rw [sh_c0] at hw
  exact hw
theorem xn_74 {p t v : Int32} (hp : vp_in p 8) (ht : vp_in t 8) (hne : t.toNatClampNeg ≠ p.toNatClampNeg) {q1 q2 : Nat → Int32} {f_dues f_time f_logged f_safe f_broken f_silent : Int32} {f_turns : Int64} {a_kind a_first a_size a_number a_score a_version a_deadline a_due a_logOp a_logKey a_logA a_logB a_state a_gathered a_answered a_watching a_seen a_cOp a_cKey a_cA a_cB : Nat → Int32} {a_results a_taken : Nat → Int64} {a_waitsFor a_until : Nat → Int32} {a_turn : Nat → Int64} {a_source : Nat → Int32} {post : Int64 → SX → Prop} (hc : ∀ m, wX_rename_74 post p t v f_dues f_time f_logged f_safe f_broken f_silent f_turns (m + 1) (nI 12) a_kind a_first a_size a_number (sh_c (fun x => x) q1 (12 * p.toNatClampNeg) (12 * t.toNatClampNeg) 12) a_score a_version (sh_c (vp_nar .byte) q2 (12 * p.toNatClampNeg) (12 * t.toNatClampNeg) 12) a_deadline a_due a_logOp a_logKey a_logA a_logB a_state a_gathered a_answered a_watching a_seen a_cOp a_cKey a_cA a_cB a_results a_taken a_waitsFor a_until a_turn a_source) : ∀ k x, x + k = 12 → ∀ n, k < n → wX_rename_74 post p t v f_dues f_time f_logged f_safe f_broken f_silent f_turns n (nI x) a_kind a_first a_size a_number (sh_c (fun x => x) q1 (12 * p.toNatClampNeg) (12 * t.toNatClampNeg) x) a_score a_version (sh_c (vp_nar .byte) q2 (12 * p.toNatClampNeg) (12 * t.toNatClampNeg) x) a_deadline a_due a_logOp a_logKey a_logA a_logB a_state a_gathered a_answered a_watching a_seen a_cOp a_cKey a_cA a_cB a_results a_taken a_waitsFor a_until a_turn a_source := by
  have kp := (nu_key hp (by omega)).2
  have kt := (nu_key ht (by omega)).2
  have p16 := nu_up hp (M := 16) (by omega) (by omega)
  have t16 := nu_up ht (M := 16) (by omega) (by omega)
  intro k
  induction k with
  | zero =>
    intro x hx n hn
    obtain ⟨n, rfl⟩ := nu_suc hn
    have e : x = 12 := by omega
    subst e
    exact hc n
  | succ k ih =>
    intro x hx n hn
    obtain ⟨n, rfl⟩ := nu_suc hn
    have e1 : upd (sh_c (fun x => x) q1 (12 * p.toNatClampNeg) (12 * t.toNatClampNeg) x) (12 * t + nI x).toNatClampNeg (sh_c (fun x => x) q1 (12 * p.toNatClampNeg) (12 * t.toNatClampNeg) x (12 * p + nI x).toNatClampNeg) = sh_c (fun x => x) q1 (12 * p.toNatClampNeg) (12 * t.toNatClampNeg) (x + 1) := by
      rw [nu_12c p16 (by omega), nu_12c t16 (by omega), sh_cr (n := 12) (by omega) (by omega)]; exact sh_cs (f := fun x => x)
    have e2 : upd (sh_c (vp_nar .byte) q2 (12 * p.toNatClampNeg) (12 * t.toNatClampNeg) x) (12 * t + nI x).toNatClampNeg (vp_nar .byte (sh_c (vp_nar .byte) q2 (12 * p.toNatClampNeg) (12 * t.toNatClampNeg) x (12 * p + nI x).toNatClampNeg)) = sh_c (vp_nar .byte) q2 (12 * p.toNatClampNeg) (12 * t.toNatClampNeg) (x + 1) := by
      rw [nu_12c p16 (by omega), nu_12c t16 (by omega), sh_cr (n := 12) (by omega) (by omega)]; exact sh_cs (f := vp_nar .byte)
    exact br_f (nI_ge (b := 12) (by omega) (by omega)) (And.intro (nu_12x hp (by omega)) (And.intro (nu_12x ht (by omega)) (nm_r e1 (And.intro (nu_12x hp (by omega)) (And.intro (nu_12x ht (by omega)) (nm_r e2 (nm_r (nI_1 x) (ih (x + 1) (by omega) n (by omega)))))))))
theorem xn_74z {p t v : Int32} (hp : vp_in p 8) (ht : vp_in t 8) (hne : t.toNatClampNeg ≠ p.toNatClampNeg) {f_dues f_time f_logged f_safe f_broken f_silent : Int32} {f_turns : Int64} {a_kind a_first a_size a_number a_ring a_score a_version a_ranked a_deadline a_due a_logOp a_logKey a_logA a_logB a_state a_gathered a_answered a_watching a_seen a_cOp a_cKey a_cA a_cB : Nat → Int32} {a_results a_taken : Nat → Int64} {a_waitsFor a_until : Nat → Int32} {a_turn : Nat → Int64} {a_source : Nat → Int32} {post : Int64 → SX → Prop} (hc : ∀ m, wX_rename_74 post p t v f_dues f_time f_logged f_safe f_broken f_silent f_turns (m + 1) (nI 12) a_kind a_first a_size a_number (sh_c (fun x => x) a_ring (12 * p.toNatClampNeg) (12 * t.toNatClampNeg) 12) a_score a_version (sh_c (vp_nar .byte) a_ranked (12 * p.toNatClampNeg) (12 * t.toNatClampNeg) 12) a_deadline a_due a_logOp a_logKey a_logA a_logB a_state a_gathered a_answered a_watching a_seen a_cOp a_cKey a_cA a_cB a_results a_taken a_waitsFor a_until a_turn a_source) : wX_rename_74 post p t v f_dues f_time f_logged f_safe f_broken f_silent f_turns 13 0 a_kind a_first a_size a_number a_ring a_score a_version a_ranked a_deadline a_due a_logOp a_logKey a_logA a_logB a_state a_gathered a_answered a_watching a_seen a_cOp a_cKey a_cA a_cB a_results a_taken a_waitsFor a_until a_turn a_source := by
  have hw := xn_74 hp ht hne (q1 := a_ring) (q2 := a_ranked) hc 12 0 (by omega) 13 (by omega)
  rw [sh_c0, sh_c0] at hw
  exact hw
theorem xn_kb {x : ak_T} (h : ak_G x) : vp_nar .byte x.1 = x.1 := by
  rcases ak_Gk h with e | e | e | e <;> rw [e]
  · exact nu_b0
  · exact nu_b1
  · exact nu_b2
  · exact nu_b3
/-- the deadlines' part -/
theorem xn_dl {D : Nat → Int32} {f_dues : Int32} {a_deadline a_due : Nat → Int32} {p t : Int32} (hp : vp_in p 8) (ht : vp_in t 8) (hne : t.toNatClampNeg ≠ p.toNatClampNeg) (hD : xd_R (upd D t.toNatClampNeg (-1)) f_dues a_deadline a_due) : ∃ (d : Int32) (l q : Nat → Int32), xd_R (upd (upd D t.toNatClampNeg (D p.toNatClampNeg)) p.toNatClampNeg (-1)) d l q ∧ ∀ {f_time f_logged f_safe f_broken f_silent : Int32} {f_turns : Int64} {a_kind a_first a_size a_number a_ring a_score a_version a_ranked a_logOp a_logKey a_logA a_logB a_state a_gathered a_answered a_watching a_seen a_cOp a_cKey a_cA a_cB : Nat → Int32} {a_results a_taken : Nat → Int64} {a_waitsFor a_until : Nat → Int32} {a_turn : Nat → Int64} {a_source : Nat → Int32} (post : Int64 → SX → Prop), wX_rename_191 post p t d f_time f_logged f_safe f_broken f_silent f_turns (upd a_kind p.toNatClampNeg 0) (upd a_first p.toNatClampNeg 0) (upd a_size p.toNatClampNeg 0) a_number a_ring a_score a_version a_ranked l q a_logOp a_logKey a_logA a_logB a_state a_gathered a_answered a_watching a_seen a_cOp a_cKey a_cA a_cB a_results a_taken a_waitsFor a_until a_turn a_source → ∀ m, wX_rename_138 post p t (D p.toNatClampNeg) f_dues f_time f_logged f_safe f_broken f_silent f_turns (m + 1) (nI 16) a_kind a_first a_size a_number a_ring a_score a_version a_ranked a_deadline a_due a_logOp a_logKey a_logA a_logB a_state a_gathered a_answered a_watching a_seen a_cOp a_cKey a_cA a_cB a_results a_taken a_waitsFor a_until a_turn a_source := by
  obtain ⟨d, l, q, h, W⟩ := xs_empty hp hD
  by_cases z : D p.toNatClampNeg = -1
  · refine ⟨d, l, q, ?_, ?_⟩
    · rw [z]; exact h
    · intro f_time f_logged f_safe f_broken f_silent f_turns a_kind a_first a_size a_number a_ring a_score a_version a_ranked a_logOp a_logKey a_logA a_logB a_state a_gathered a_answered a_watching a_seen a_cOp a_cKey a_cA a_cB a_results a_taken a_waitsFor a_until a_turn a_source post hpost m
      exact br_t (nI_le (a := 16) (b := 16) (by omega) (by omega)) (W _ (br_t z hpost))
  · obtain ⟨d2, l2, q2, h2, W2⟩ := xd_set ht z h
    refine ⟨d2, l2, q2, ?_, ?_⟩
    · have e : upd (upd D t.toNatClampNeg (D p.toNatClampNeg)) p.toNatClampNeg (-1) = upd (upd (upd D t.toNatClampNeg (-1)) p.toNatClampNeg (-1)) t.toNatClampNeg (D p.toNatClampNeg) := by
        funext j
        by_cases y : j = t.toNatClampNeg
        · rw [y, pk_us, pk_un hne, pk_us]
        · rw [pk_un (k := t.toNatClampNeg) y]
          by_cases w : j = p.toNatClampNeg
          · rw [w, pk_us, pk_us]
          · rw [pk_un w, pk_un y, pk_un w, pk_un y]
      rw [e]; exact h2
    · intro f_time f_logged f_safe f_broken f_silent f_turns a_kind a_first a_size a_number a_ring a_score a_version a_ranked a_logOp a_logKey a_logA a_logB a_state a_gathered a_answered a_watching a_seen a_cOp a_cKey a_cA a_cB a_results a_taken a_waitsFor a_until a_turn a_source post hpost m
      exact br_t (nI_le (a := 16) (b := 16) (by omega) (by omega)) (W _ (br_f z (W2 _ hpost)))
theorem xn_ren {A : Nat → ak_T} {p t : Int32} (hp : vp_in p 8) (ht : vp_in t 8) (hne : t.toNatClampNeg ≠ p.toNatClampNeg) {f_dues : Int32} {a_kind a_first a_size a_number a_ring a_score a_ranked a_deadline a_due : Nat → Int32} (hK : xr_K A (f_dues, a_kind, a_first, a_size, a_number, a_ring, a_score, a_ranked, a_deadline, a_due)) (h0 : ¬ (A p.toNatClampNeg).1 = 0) : ∃ K : xk_T, xr_K (ak_up (ak_up A t.toNatClampNeg (A p.toNatClampNeg)) p.toNatClampNeg ak_E) K ∧ ∀ {f_time f_logged f_safe f_broken f_silent : Int32} {f_turns : Int64} {a_version a_logOp a_logKey a_logA a_logB a_state a_gathered a_answered a_watching a_seen a_cOp a_cKey a_cA a_cB : Nat → Int32} {a_results a_taken : Nat → Int64} {a_waitsFor a_until : Nat → Int32} {a_turn : Nat → Int64} {a_source : Nat → Int32} (post : Int64 → SX → Prop), wX_rename_191 post p t K.1 f_time f_logged f_safe f_broken f_silent f_turns K.2.1 K.2.2.1 K.2.2.2.1 K.2.2.2.2.1 K.2.2.2.2.2.1 K.2.2.2.2.2.2.1 a_version K.2.2.2.2.2.2.2.1 K.2.2.2.2.2.2.2.2.1 K.2.2.2.2.2.2.2.2.2 a_logOp a_logKey a_logA a_logB a_state a_gathered a_answered a_watching a_seen a_cOp a_cKey a_cA a_cB a_results a_taken a_waitsFor a_until a_turn a_source → wpX_rename post (f_dues, f_time, f_logged, f_safe, f_broken, f_silent, f_turns, a_kind, a_first, a_size, a_number, a_ring, a_score, a_version, a_ranked, a_deadline, a_due, a_logOp, a_logKey, a_logA, a_logB, a_state, a_gathered, a_answered, a_watching, a_seen, a_cOp, a_cKey, a_cA, a_cB, a_results, a_taken, a_waitsFor, a_until, a_turn, a_source) p t := by
  have kp := (nu_key hp (by omega)).2
  have kt := (nu_key ht (by omega)).2
  have hpt : p.toNatClampNeg ≠ t.toNatClampNeg := fun e => hne e.symm
  obtain ⟨hE, hA, hD⟩ := hK
  dsimp only at hA hD
  obtain ⟨Gp, h1, h2, h3, ⟨f, hf, h4, h5⟩, g, h6⟩ := hA p.toNatClampNeg kp
  obtain ⟨d1, l1, q1, hD1, W1⟩ := xs_empty ht hD
  obtain ⟨d2, l2, q2, hD2, W2⟩ := xn_dl hp ht hne hD1
  refine ⟨(d2, upd (upd (upd a_kind t.toNatClampNeg 0) t.toNatClampNeg (a_kind p.toNatClampNeg)) p.toNatClampNeg 0, upd (upd (upd a_first t.toNatClampNeg 0) t.toNatClampNeg (a_first p.toNatClampNeg)) p.toNatClampNeg 0, upd (upd (upd a_size t.toNatClampNeg 0) t.toNatClampNeg (a_size p.toNatClampNeg)) p.toNatClampNeg 0, upd a_number t.toNatClampNeg (a_number p.toNatClampNeg), sh_c (fun x => x) a_ring (12 * p.toNatClampNeg) (12 * t.toNatClampNeg) 12, sh_c (fun x => x) a_score (16 * p.toNatClampNeg) (16 * t.toNatClampNeg) 16, sh_c (vp_nar .byte) a_ranked (12 * p.toNatClampNeg) (12 * t.toNatClampNeg) 12, l2, q2), ⟨fun k hk => ?_, fun k hk => ?_, ?_⟩, ?_⟩
  · rw [ak_upN (by omega), ak_upN (by omega)]; exact hE k hk
  · dsimp only
    by_cases y : k = p.toNatClampNeg
    · subst y
      rw [ak_upS]
      exact ⟨ak_GE, xr_1E rfl rfl pk_us pk_us (fun e => absurd e (by decide)) ⟨0, by omega, pk_us⟩⟩
    · rw [ak_upN y]
      by_cases w : k = t.toNatClampNeg
      · subst w
        rw [ak_upS]
        refine ⟨Gp, ?_, ?_, fun e => ?_, ⟨f, hf, ?_, fun i hi => ?_⟩, g, h6.1, h6.2.1, fun i hi => ?_⟩
        · rw [pk_un hne, pk_us]; exact h1
        · rw [pk_un hne, pk_us]; exact h2
        · rw [pk_us]; exact h3 e
        · rw [pk_un hne, pk_us]; exact h4
        · rw [sh_ci (Nat.mod_lt _ (by omega))]; exact h5 i hi
        · have hn := ak_Gn Gp
          have g16 := (h6.1.1 i hi).1
          rw [sh_ci (by omega), sh_ci g16, (h6.2.2 i hi).1, nu_nb (by omega)]
          exact ⟨rfl, (h6.2.2 i hi).2⟩
      · rw [ak_upN w]
        obtain ⟨Gk, hk1⟩ := hA k hk
        refine ⟨Gk, xr_cg Gk hk1 ⟨?_, ?_, ?_, ?_, fun i hi => ?_, fun i hi => ?_, fun i hi => ?_⟩⟩
        · rw [pk_un y, pk_un w, pk_un w]
        · rw [pk_un y, pk_un w, pk_un w]
        · rw [pk_un y, pk_un w, pk_un w]
        · rw [pk_un w]
        · rw [sh_co (by omega)]
        · rw [sh_co (by omega)]
        · rw [sh_co (by omega)]
  · dsimp only
    rw [xr_dl, xr_dl]; exact hD2
  · intro f_time f_logged f_safe f_broken f_silent f_turns a_version a_logOp a_logKey a_logA a_logB a_state a_gathered a_answered a_watching a_seen a_cOp a_cKey a_cA a_cB a_results a_taken a_waitsFor a_until a_turn a_source post hpost
    have ek : ¬ a_kind p.toNatClampNeg = 0 := fun e => h0 (h1.symm.trans e)
    have edl : a_deadline p.toNatClampNeg = ak_dl (A p.toNatClampNeg) := by
      obtain ⟨n, g, _, _, _, _, hl⟩ := hD
      exact hl _ kp
    refine And.intro hp (br_f ek (And.intro hp (nm_r edl (W1 _ ?_))))
    refine And.intro hp (And.intro ht (nm_r (e' := upd (upd a_kind t.toNatClampNeg 0) t.toNatClampNeg (a_kind p.toNatClampNeg)) ?_ (And.intro hp (And.intro ht (nm_e (And.intro hp (And.intro ht (nm_r (e' := upd (upd a_first t.toNatClampNeg 0) t.toNatClampNeg (a_first p.toNatClampNeg)) ?_ (And.intro hp (And.intro ht (nm_r (e' := upd (upd a_size t.toNatClampNeg 0) t.toNatClampNeg (a_size p.toNatClampNeg)) ?_ ⟨13, ?_⟩)))))))))))
    · rw [pk_un hpt, h1, xn_kb Gp]
    · rw [pk_un hpt, h4, nu_nb (by omega)]
    · have := ak_Gsz Gp
      rw [pk_un hpt, h2, nu_nb (by omega)]
    · exact xn_74z hp ht hne (fun m => br_t (nI_le (a := 12) (b := 12) (by omega) (by omega)) ⟨17, xn_138z hp ht hne (fun m => W2 _ hpost m)⟩)
end
section
/-! ===== X: a command ===== -/
def ak_fit (o kd : Int32) : Int32 := if o = 0 ∨ o = 2 ∨ o = 3 ∨ o = 11 ∨ kd = 0 then 1 else if o = 1 then (if kd = 1 then 1 else 0) else if 6 < o then (if kd = 3 then 1 else 0) else (if kd = 2 then 1 else 0)
theorem xa_fits {o p kd : Int32} (hp : vp_in p 8) {a_kind : Nat → Int32} (hk : a_kind p.toNatClampNeg = kd) {f_dues f_time f_logged f_safe f_broken f_silent : Int32} {f_turns : Int64} {a_first a_size a_number a_ring a_score a_version a_ranked a_deadline a_due a_logOp a_logKey a_logA a_logB a_state a_gathered a_answered a_watching a_seen a_cOp a_cKey a_cA a_cB : Nat → Int32} {a_results a_taken : Nat → Int64} {a_waitsFor a_until : Nat → Int32} {a_turn : Nat → Int64} {a_source : Nat → Int32} {post : Int32 → Prop} (hpost : post (ak_fit o kd)) : wpX_fits post (f_dues, f_time, f_logged, f_safe, f_broken, f_silent, f_turns, a_kind, a_first, a_size, a_number, a_ring, a_score, a_version, a_ranked, a_deadline, a_due, a_logOp, a_logKey, a_logA, a_logB, a_state, a_gathered, a_answered, a_watching, a_seen, a_cOp, a_cKey, a_cA, a_cB, a_results, a_taken, a_waitsFor, a_until, a_turn, a_source) p o := by
  refine And.intro hp (nm_r hk ?_)
  unfold ak_fit at hpost
  refine br_c (fun h => ?_) (fun h0 => br_c (fun h => ?_) (fun h2 => br_c (fun h => ?_) (fun h3 => br_c (fun h => ?_) (fun h11 => br_c (fun h => ?_) (fun hkd => ?_)))))
  · rw [if_pos (Or.inl h)] at hpost; exact hpost
  · rw [if_pos (Or.inr (Or.inl h))] at hpost; exact hpost
  · rw [if_pos (Or.inr (Or.inr (Or.inl h)))] at hpost; exact hpost
  · rw [if_pos (Or.inr (Or.inr (Or.inr (Or.inl h))))] at hpost; exact hpost
  · rw [if_pos (Or.inr (Or.inr (Or.inr (Or.inr h))))] at hpost; exact hpost
  · rw [if_neg (fun h => h.elim h0 (fun h => h.elim h2 (fun h => h.elim h3 (fun h => h.elim h11 hkd))))] at hpost
    refine br_c (fun h => ?_) (fun h1 => ?_)
    · rw [if_pos h] at hpost
      refine br_c (fun h => ?_) (fun h => ?_)
      · rw [if_pos h] at hpost; exact hpost
      · rw [if_neg h] at hpost; exact hpost
    · rw [if_neg h1] at hpost
      refine br_c (fun h => ?_) (fun h6 => ?_)
      · rw [if_pos h] at hpost
        refine br_c (fun h => ?_) (fun h => ?_)
        · rw [if_pos h] at hpost; exact hpost
        · rw [if_neg h] at hpost; exact hpost
      · rw [if_neg h6] at hpost
        refine br_c (fun h => ?_) (fun h => ?_)
        · rw [if_pos h] at hpost; exact hpost
        · rw [if_neg h] at hpost; exact hpost
theorem xa_fit1 {o p kd : Int32} (hp : vp_in p 8) {a_kind : Nat → Int32} (hk : a_kind p.toNatClampNeg = kd) (hf : ak_fit o kd = 1) {f_dues f_time f_logged f_safe f_broken f_silent : Int32} {f_turns : Int64} {a_first a_size a_number a_ring a_score a_version a_ranked a_deadline a_due a_logOp a_logKey a_logA a_logB a_state a_gathered a_answered a_watching a_seen a_cOp a_cKey a_cA a_cB : Nat → Int32} {a_results a_taken : Nat → Int64} {a_waitsFor a_until : Nat → Int32} {a_turn : Nat → Int64} {a_source : Nat → Int32} {post : Int32 → Prop} (hpost : post 1) : wpX_fits post (f_dues, f_time, f_logged, f_safe, f_broken, f_silent, f_turns, a_kind, a_first, a_size, a_number, a_ring, a_score, a_version, a_ranked, a_deadline, a_due, a_logOp, a_logKey, a_logA, a_logB, a_state, a_gathered, a_answered, a_watching, a_seen, a_cOp, a_cKey, a_cA, a_cB, a_results, a_taken, a_waitsFor, a_until, a_turn, a_source) p o := xa_fits hp hk (by rw [hf]; exact hpost)
theorem xa_wrong {o p a b kd : Int32} (hp : vp_in p 8) {a_kind : Nat → Int32} (hk : a_kind p.toNatClampNeg = kd) (hf : ak_fit o kd = 0) {f_dues f_time f_logged f_safe f_broken f_silent : Int32} {f_turns : Int64} {a_first a_size a_number a_ring a_score a_version a_ranked a_deadline a_due a_logOp a_logKey a_logA a_logB a_state a_gathered a_answered a_watching a_seen a_cOp a_cKey a_cA a_cB : Nat → Int32} {a_results a_taken : Nat → Int64} {a_waitsFor a_until : Nat → Int32} {a_turn : Nat → Int64} {a_source : Nat → Int32} {post : Int64 → SX → Prop} (hpost : post 10000000001 (f_dues, f_time, f_logged, f_safe, f_broken, f_silent, f_turns, a_kind, a_first, a_size, a_number, a_ring, a_score, a_version, a_ranked, a_deadline, a_due, a_logOp, a_logKey, a_logA, a_logB, a_state, a_gathered, a_answered, a_watching, a_seen, a_cOp, a_cKey, a_cA, a_cB, a_results, a_taken, a_waitsFor, a_until, a_turn, a_source)) : wpX_apply post (f_dues, f_time, f_logged, f_safe, f_broken, f_silent, f_turns, a_kind, a_first, a_size, a_number, a_ring, a_score, a_version, a_ranked, a_deadline, a_due, a_logOp, a_logKey, a_logA, a_logB, a_state, a_gathered, a_answered, a_watching, a_seen, a_cOp, a_cKey, a_cA, a_cB, a_results, a_taken, a_waitsFor, a_until, a_turn, a_source) o p a b := by
  unfold wpX_apply
  refine xa_fits hp hk ?_
  rw [hf]
  exact br_t rfl hpost
theorem xa_35 {o p a b kd : Int32} (hp : vp_in p 8) {a_kind : Nat → Int32} (hk : a_kind p.toNatClampNeg = kd) (hf : ak_fit o kd = 1) (ho : o < 7 ∨ 10 < o) {f_dues f_time f_logged f_safe f_broken f_silent : Int32} {f_turns : Int64} {a_first a_size a_number a_ring a_score a_version a_ranked a_deadline a_due a_logOp a_logKey a_logA a_logB a_state a_gathered a_answered a_watching a_seen a_cOp a_cKey a_cA a_cB : Nat → Int32} {a_results a_taken : Nat → Int64} {a_waitsFor a_until : Nat → Int32} {a_turn : Nat → Int64} {a_source : Nat → Int32} {post : Int64 → SX → Prop} (h : wX_apply_35 post o p a f_dues f_time f_logged f_safe f_broken f_silent f_turns a_kind a_first a_size a_number a_ring a_score a_version a_ranked a_deadline a_due a_logOp a_logKey a_logA a_logB a_state a_gathered a_answered a_watching a_seen a_cOp a_cKey a_cA a_cB a_results a_taken a_waitsFor a_until a_turn a_source) : wpX_apply post (f_dues, f_time, f_logged, f_safe, f_broken, f_silent, f_turns, a_kind, a_first, a_size, a_number, a_ring, a_score, a_version, a_ranked, a_deadline, a_due, a_logOp, a_logKey, a_logA, a_logB, a_state, a_gathered, a_answered, a_watching, a_seen, a_cOp, a_cKey, a_cA, a_cB, a_results, a_taken, a_waitsFor, a_until, a_turn, a_source) o p a b := by
  unfold wpX_apply
  refine xa_fit1 hp hk hf (br_f (by decide) ?_)
  by_cases z : o < 7
  · exact br_t z h
  · exact br_f z (br_t (ho.resolve_left z) h)
theorem ak_so {o a b : Int32} {k : Nat} {A : Nat → ak_T} {r : Int64} {x : ak_T} (h11 : ¬ o = 11) (h : ak_one o a b (A k) = (r, some x)) : ak_st o k a b A = ak_up A k x ∧ ak_an o k a b A = r ∧ ak_ch o k a b A = fun j => decide (j = k) := by
  refine ⟨?_, ?_, ?_⟩
  · unfold ak_st; rw [if_neg h11, h]; rfl
  · unfold ak_an; rw [if_neg h11, h]
  · funext j; unfold ak_ch; rw [if_neg h11, h]; rfl
theorem ak_sn {o a b : Int32} {k : Nat} {A : Nat → ak_T} {r : Int64} (h11 : ¬ o = 11) (h : ak_one o a b (A k) = (r, none)) : ak_st o k a b A = A ∧ ak_an o k a b A = r ∧ ak_ch o k a b A = fun _ => false := by
  refine ⟨?_, ?_, ?_⟩
  · unfold ak_st; rw [if_neg h11, h]; rfl
  · unfold ak_an; rw [if_neg h11, h]
  · funext j; unfold ak_ch; rw [if_neg h11, h]; rfl
/-- what a command does to X -/
def xa_P (o p a b : Int32) (A B : Nat → ak_T) {f_dues f_logged f_broken f_silent f_safe : Int32} {a_kind a_first a_size a_number a_ring a_score a_ranked a_deadline a_due a_logOp a_logKey a_logA a_logB : Nat → Int32} : Prop := ∃ (K : xk_T) (L : lo_T), xr_K (ak_st o p.toNatClampNeg a b A) K ∧ lo_R f_silent f_safe L (ak_st o p.toNatClampNeg a b A) B ∧ (f_silent = 1 → L = (f_logged, f_broken, a_logOp, a_logKey, a_logA, a_logB)) ∧ ∀ {f_time : Int32} {f_turns : Int64} {a_version a_state a_gathered a_answered a_watching a_seen a_cOp a_cKey a_cA a_cB : Nat → Int32} {a_results a_taken : Nat → Int64} {a_waitsFor a_until : Nat → Int32} {a_turn : Nat → Int64} {a_source : Nat → Int32} (post : Int64 → SX → Prop), post (ak_an o p.toNatClampNeg a b A) (K.1, f_time, L.1, f_safe, L.2.1, f_silent, f_turns, K.2.1, K.2.2.1, K.2.2.2.1, K.2.2.2.2.1, K.2.2.2.2.2.1, K.2.2.2.2.2.2.1, xv_u (ak_ch o p.toNatClampNeg a b A) a_version, K.2.2.2.2.2.2.2.1, K.2.2.2.2.2.2.2.2.1, K.2.2.2.2.2.2.2.2.2, L.2.2.1, L.2.2.2.1, L.2.2.2.2.1, L.2.2.2.2.2, a_state, a_gathered, a_answered, a_watching, a_seen, a_cOp, a_cKey, a_cA, a_cB, a_results, a_taken, a_waitsFor, a_until, a_turn, a_source) → wpX_apply post (f_dues, f_time, f_logged, f_safe, f_broken, f_silent, f_turns, a_kind, a_first, a_size, a_number, a_ring, a_score, a_version, a_ranked, a_deadline, a_due, a_logOp, a_logKey, a_logA, a_logB, a_state, a_gathered, a_answered, a_watching, a_seen, a_cOp, a_cKey, a_cA, a_cB, a_results, a_taken, a_waitsFor, a_until, a_turn, a_source) o p a b
/-- nothing changes -/
theorem xa_no {o p a b : Int32} {A B : Nat → ak_T} {r : Int64} {f_dues f_logged f_broken f_silent f_safe : Int32} {a_kind a_first a_size a_number a_ring a_score a_ranked a_deadline a_due a_logOp a_logKey a_logA a_logB : Nat → Int32} (hK : xr_K A (f_dues, a_kind, a_first, a_size, a_number, a_ring, a_score, a_ranked, a_deadline, a_due)) (hL : lo_R f_silent f_safe (f_logged, f_broken, a_logOp, a_logKey, a_logA, a_logB) A B) (h11 : ¬ o = 11) (h1 : ak_one o a b (A p.toNatClampNeg) = (r, none)) (hW : ∀ {f_time : Int32} {f_turns : Int64} {a_version a_state a_gathered a_answered a_watching a_seen a_cOp a_cKey a_cA a_cB : Nat → Int32} {a_results a_taken : Nat → Int64} {a_waitsFor a_until : Nat → Int32} {a_turn : Nat → Int64} {a_source : Nat → Int32} (post : Int64 → SX → Prop), post r (f_dues, f_time, f_logged, f_safe, f_broken, f_silent, f_turns, a_kind, a_first, a_size, a_number, a_ring, a_score, a_version, a_ranked, a_deadline, a_due, a_logOp, a_logKey, a_logA, a_logB, a_state, a_gathered, a_answered, a_watching, a_seen, a_cOp, a_cKey, a_cA, a_cB, a_results, a_taken, a_waitsFor, a_until, a_turn, a_source) → wpX_apply post (f_dues, f_time, f_logged, f_safe, f_broken, f_silent, f_turns, a_kind, a_first, a_size, a_number, a_ring, a_score, a_version, a_ranked, a_deadline, a_due, a_logOp, a_logKey, a_logA, a_logB, a_state, a_gathered, a_answered, a_watching, a_seen, a_cOp, a_cKey, a_cA, a_cB, a_results, a_taken, a_waitsFor, a_until, a_turn, a_source) o p a b) : xa_P o p a b A B (f_dues := f_dues) (f_logged := f_logged) (f_broken := f_broken) (f_silent := f_silent) (f_safe := f_safe) (a_kind := a_kind) (a_first := a_first) (a_size := a_size) (a_number := a_number) (a_ring := a_ring) (a_score := a_score) (a_ranked := a_ranked) (a_deadline := a_deadline) (a_due := a_due) (a_logOp := a_logOp) (a_logKey := a_logKey) (a_logA := a_logA) (a_logB := a_logB) := by
  obtain ⟨e1, e2, e3⟩ := ak_sn h11 h1
  refine ⟨(f_dues, a_kind, a_first, a_size, a_number, a_ring, a_score, a_ranked, a_deadline, a_due), (f_logged, f_broken, a_logOp, a_logKey, a_logA, a_logB), by rw [e1]; exact hK, by rw [e1]; exact hL, fun _ => rfl, ?_⟩
  intro f_time f_turns a_version a_state a_gathered a_answered a_watching a_seen a_cOp a_cKey a_cA a_cB a_results a_taken a_waitsFor a_until a_turn a_source post hpost
  rw [e2, e3, xv_0] at hpost
  exact hW post hpost
/-- one key changes, and is written so -/
theorem xa_yes {o p a b a' b' : Int32} (hp : vp_in p 8) (hok : ak_ok o p.toNatClampNeg a') {A B : Nat → ak_T} {r : Int64} {x : ak_T} {f_dues f_logged f_broken f_silent f_safe : Int32} {a_kind a_first a_size a_number a_ring a_score a_ranked a_deadline a_due a_logOp a_logKey a_logA a_logB : Nat → Int32} {K : xk_T} (hK : xr_K (ak_up A p.toNatClampNeg x) K) (hL : lo_R f_silent f_safe (f_logged, f_broken, a_logOp, a_logKey, a_logA, a_logB) A B) (h11 : ¬ o = 11) (h1 : ak_one o a b (A p.toNatClampNeg) = (r, some x)) (h2 : ∃ r', ak_one o a' b' (A p.toNatClampNeg) = (r', some x)) (hW : ∀ {f_time : Int32} {f_turns : Int64} {a_version a_state a_gathered a_answered a_watching a_seen a_cOp a_cKey a_cA a_cB : Nat → Int32} {a_results a_taken : Nat → Int64} {a_waitsFor a_until : Nat → Int32} {a_turn : Nat → Int64} {a_source : Nat → Int32} (post : Int64 → SX → Prop), (∀ Q : SX → Prop, (∀ L : lo_T, post r (K.1, f_time, L.1, f_safe, L.2.1, f_silent, f_turns, K.2.1, K.2.2.1, K.2.2.2.1, K.2.2.2.2.1, K.2.2.2.2.2.1, K.2.2.2.2.2.2.1, upd a_version p.toNatClampNeg (a_version p.toNatClampNeg + 1), K.2.2.2.2.2.2.2.1, K.2.2.2.2.2.2.2.2.1, K.2.2.2.2.2.2.2.2.2, L.2.2.1, L.2.2.2.1, L.2.2.2.2.1, L.2.2.2.2.2, a_state, a_gathered, a_answered, a_watching, a_seen, a_cOp, a_cKey, a_cA, a_cB, a_results, a_taken, a_waitsFor, a_until, a_turn, a_source) → Q (K.1, f_time, L.1, f_safe, L.2.1, f_silent, f_turns, K.2.1, K.2.2.1, K.2.2.2.1, K.2.2.2.2.1, K.2.2.2.2.2.1, K.2.2.2.2.2.2.1, upd a_version p.toNatClampNeg (a_version p.toNatClampNeg + 1), K.2.2.2.2.2.2.2.1, K.2.2.2.2.2.2.2.2.1, K.2.2.2.2.2.2.2.2.2, L.2.2.1, L.2.2.2.1, L.2.2.2.2.1, L.2.2.2.2.2, a_state, a_gathered, a_answered, a_watching, a_seen, a_cOp, a_cKey, a_cA, a_cB, a_results, a_taken, a_waitsFor, a_until, a_turn, a_source)) → wpX_changed Q (K.1, f_time, f_logged, f_safe, f_broken, f_silent, f_turns, K.2.1, K.2.2.1, K.2.2.2.1, K.2.2.2.2.1, K.2.2.2.2.2.1, K.2.2.2.2.2.2.1, a_version, K.2.2.2.2.2.2.2.1, K.2.2.2.2.2.2.2.2.1, K.2.2.2.2.2.2.2.2.2, a_logOp, a_logKey, a_logA, a_logB, a_state, a_gathered, a_answered, a_watching, a_seen, a_cOp, a_cKey, a_cA, a_cB, a_results, a_taken, a_waitsFor, a_until, a_turn, a_source) o p a' b') → wpX_apply post (f_dues, f_time, f_logged, f_safe, f_broken, f_silent, f_turns, a_kind, a_first, a_size, a_number, a_ring, a_score, a_version, a_ranked, a_deadline, a_due, a_logOp, a_logKey, a_logA, a_logB, a_state, a_gathered, a_answered, a_watching, a_seen, a_cOp, a_cKey, a_cA, a_cB, a_results, a_taken, a_waitsFor, a_until, a_turn, a_source) o p a b) : xa_P o p a b A B (f_dues := f_dues) (f_logged := f_logged) (f_broken := f_broken) (f_silent := f_silent) (f_safe := f_safe) (a_kind := a_kind) (a_first := a_first) (a_size := a_size) (a_number := a_number) (a_ring := a_ring) (a_score := a_score) (a_ranked := a_ranked) (a_deadline := a_deadline) (a_due := a_due) (a_logOp := a_logOp) (a_logKey := a_logKey) (a_logA := a_logA) (a_logB := a_logB) := by
  obtain ⟨e1, e2, e3⟩ := ak_so h11 h1
  obtain ⟨r', h2⟩ := h2
  obtain ⟨L, hL', hs, W⟩ := lo_ch hp hok (ak_so h11 h2).1 hL
  refine ⟨K, L, by rw [e1]; exact hK, by rw [e1]; exact hL', hs, ?_⟩
  intro f_time f_turns a_version a_state a_gathered a_answered a_watching a_seen a_cOp a_cKey a_cA a_cB a_results a_taken a_waitsFor a_until a_turn a_source post hpost
  rw [e2, e3, xv_1] at hpost
  refine hW post (fun Q hQ => W _ (hQ L hpost))
theorem xo_0 {p a b : Int32} (hp : vp_in p 8) {A B : Nat → ak_T} {f_dues f_logged f_broken f_silent f_safe : Int32} {a_kind a_first a_size a_number a_ring a_score a_ranked a_deadline a_due a_logOp a_logKey a_logA a_logB : Nat → Int32} (hK : xr_K A (f_dues, a_kind, a_first, a_size, a_number, a_ring, a_score, a_ranked, a_deadline, a_due)) (hL : lo_R f_silent f_safe (f_logged, f_broken, a_logOp, a_logKey, a_logA, a_logB) A B) : xa_P 0 p a b A B (f_dues := f_dues) (f_logged := f_logged) (f_broken := f_broken) (f_silent := f_silent) (f_safe := f_safe) (a_kind := a_kind) (a_first := a_first) (a_size := a_size) (a_number := a_number) (a_ring := a_ring) (a_score := a_score) (a_ranked := a_ranked) (a_deadline := a_deadline) (a_due := a_due) (a_logOp := a_logOp) (a_logKey := a_logKey) (a_logA := a_logA) (a_logB := a_logB) := by
  have kp := (nu_key hp (by omega)).2
  have hk1 : a_kind p.toNatClampNeg = (A p.toNatClampNeg).1 := (hK.2.1 _ kp).2.1
  obtain ⟨d, l, q, hd, We⟩ := xs_empty hp hK.2.2
  have hG : ak_G (1, a, [], ak_0, -1) := Or.inr ⟨Or.inl rfl, Or.inl ⟨rfl, rfl, rfl⟩⟩
  have hK' : xr_K (ak_up A p.toNatClampNeg (1, a, [], ak_0, -1)) (d, upd (upd a_kind p.toNatClampNeg 0) p.toNatClampNeg 1, upd a_first p.toNatClampNeg 0, upd a_size p.toNatClampNeg 0, upd a_number p.toNatClampNeg a, a_ring, a_score, a_ranked, l, q) :=
    xr_up hK kp hG (xr_1E rfl rfl pk_us pk_us (fun _ => pk_us) ⟨0, by omega, pk_us⟩) (fun j _ hne => ⟨by rw [pk_un hne, pk_un hne], pk_un hne, pk_un hne, pk_un hne, fun _ _ => rfl, fun _ _ => rfl, fun _ _ => rfl⟩) hd
  refine xa_yes hp (a' := a) (b' := 0) ⟨⟨0, by omega, rfl⟩, kp, fun h => absurd h (by decide), fun h => absurd h (by decide), fun h => absurd h (by decide)⟩ hK' hL (by decide) (r := 0) rfl ⟨_, rfl⟩ ?_
  intro f_time f_turns a_version a_state a_gathered a_answered a_watching a_seen a_cOp a_cKey a_cA a_cB a_results a_taken a_waitsFor a_until a_turn a_source post hQ
  refine xa_35 hp hk1 rfl (Or.inl (by decide)) (br_f (by decide) (br_f (by decide) (br_t rfl (We _ (And.intro hp (nm_r (e' := upd (upd a_kind p.toNatClampNeg 0) p.toNatClampNeg 1) (by rw [nu_b1]) (And.intro hp (nm_e (hQ _ (fun L h => h))))))))))
end
section
/-! ===== X: numbers, deadlines, lists ===== -/
theorem ak_o1 (a b : Int32) (x : ak_T) : ak_one 1 a b x = ak_c1 a x := by unfold ak_one; rw [if_neg (by decide), if_pos rfl]
theorem ak_o2 (a b : Int32) (x : ak_T) : ak_one 2 a b x = ak_c2 x := by unfold ak_one; rw [if_neg (by decide), if_neg (by decide), if_pos rfl]
theorem ak_o3 (a b : Int32) (x : ak_T) : ak_one 3 a b x = ak_c3 a x := by unfold ak_one; rw [if_neg (by decide), if_neg (by decide), if_neg (by decide), if_pos rfl]
theorem ak_o4 (a b : Int32) (x : ak_T) : ak_one 4 a b x = ak_c4 a x := by unfold ak_one; rw [if_neg (by decide), if_neg (by decide), if_neg (by decide), if_neg (by decide), if_pos rfl]
theorem ak_o5 (a b : Int32) (x : ak_T) : ak_one 5 a b x = ak_c5 a x := by unfold ak_one; rw [if_neg (by decide), if_neg (by decide), if_neg (by decide), if_neg (by decide), if_neg (by decide), if_pos rfl]
theorem ak_o6 (a b : Int32) (x : ak_T) : ak_one 6 a b x = ak_c6 a x := by unfold ak_one; rw [if_neg (by decide), if_neg (by decide), if_neg (by decide), if_neg (by decide), if_neg (by decide), if_neg (by decide), if_pos rfl]
theorem ak_o7 (a b : Int32) (x : ak_T) : ak_one 7 a b x = ak_c7 a.toNatClampNeg b x := by unfold ak_one; rw [if_neg (by decide), if_neg (by decide), if_neg (by decide), if_neg (by decide), if_neg (by decide), if_neg (by decide), if_neg (by decide), if_pos rfl]
theorem ak_o8 (a b : Int32) (x : ak_T) : ak_one 8 a b x = ak_c8 a.toNatClampNeg b x := by unfold ak_one; rw [if_neg (by decide), if_neg (by decide), if_neg (by decide), if_neg (by decide), if_neg (by decide), if_neg (by decide), if_neg (by decide), if_neg (by decide), if_pos rfl]
theorem ak_o9 (a b : Int32) (x : ak_T) : ak_one 9 a b x = ak_c9 a.toNatClampNeg x := by unfold ak_one; rw [if_neg (by decide), if_neg (by decide), if_neg (by decide), if_neg (by decide), if_neg (by decide), if_neg (by decide), if_neg (by decide), if_neg (by decide), if_neg (by decide), if_pos rfl]
theorem ak_o10 (a b : Int32) (x : ak_T) : ak_one 10 a b x = ak_c10 x := by unfold ak_one; rw [if_neg (by decide), if_neg (by decide), if_neg (by decide), if_neg (by decide), if_neg (by decide), if_neg (by decide), if_neg (by decide), if_neg (by decide), if_neg (by decide), if_neg (by decide)]
/-- what a command without a special argument may be -/
theorem ak_ok0 {o : Int32} {k n : Nat} {a : Int32} (hk : k < 8) (hn : n < 12) (e : o = nI n) (h3 : ¬ o = 3) (h7 : ¬ (o = 7 ∨ o = 8 ∨ o = 9)) (h11 : ¬ o = 11) : ak_ok o k a := ⟨⟨n, hn, e⟩, hk, fun h => absurd h h3, fun h => absurd h h7, fun h => absurd h h11⟩
theorem ak_c_size {x : ak_T} (hl : ak_ls x = []) (hr : ak_rk x = ak_0) : ak_sz x = 0 := by unfold ak_sz; rw [hl, hr, ak_n0]; rfl
theorem xo_1 {p a b : Int32} (hp : vp_in p 8) {A B : Nat → ak_T} {f_dues f_logged f_broken f_silent f_safe : Int32} {a_kind a_first a_size a_number a_ring a_score a_ranked a_deadline a_due a_logOp a_logKey a_logA a_logB : Nat → Int32} (hK : xr_K A (f_dues, a_kind, a_first, a_size, a_number, a_ring, a_score, a_ranked, a_deadline, a_due)) (hL : lo_R f_silent f_safe (f_logged, f_broken, a_logOp, a_logKey, a_logA, a_logB) A B) : xa_P 1 p a b A B (f_dues := f_dues) (f_logged := f_logged) (f_broken := f_broken) (f_silent := f_silent) (f_safe := f_safe) (a_kind := a_kind) (a_first := a_first) (a_size := a_size) (a_number := a_number) (a_ring := a_ring) (a_score := a_score) (a_ranked := a_ranked) (a_deadline := a_deadline) (a_due := a_due) (a_logOp := a_logOp) (a_logKey := a_logKey) (a_logA := a_logA) (a_logB := a_logB) := by
  have kp := (nu_key hp (by omega)).2
  obtain ⟨Gp, h1, h2, h3, ⟨f, hf, h4, h5⟩, g, h6⟩ := hK.2.1 _ kp
  dsimp only at h1 h2 h3 h4 h5 h6
  by_cases hw : (A p.toNatClampNeg).1 = 0 ∨ (A p.toNatClampNeg).1 = 1
  · have hls : ak_ls (A p.toNatClampNeg) = [] ∧ ak_rk (A p.toNatClampNeg) = ak_0 := hw.elim (fun e => by rw [ak_G0 Gp e]; exact ⟨rfl, rfl⟩) (fun e => ak_G1 Gp e)
    have hone : ∀ b, ak_one 1 a b (A p.toNatClampNeg) = (((A p.toNatClampNeg).2.1 + a).toInt64, some (1, (A p.toNatClampNeg).2.1 + a, [], ak_0, ak_dl (A p.toNatClampNeg))) := fun b => by rw [ak_o1]; unfold ak_c1; rw [if_pos hw]
    have hs : a_size p.toNatClampNeg = 0 := by rw [h2, ak_c_size hls.1 hls.2]; rfl
    have hG : ak_G (1, (A p.toNatClampNeg).2.1 + a, [], ak_0, ak_dl (A p.toNatClampNeg)) := by
      have hd := ak_Gd Gp
      exact Or.inr ⟨hd, Or.inl ⟨rfl, rfl, rfl⟩⟩
    have hK' : xr_K (ak_up A p.toNatClampNeg (1, (A p.toNatClampNeg).2.1 + a, [], ak_0, ak_dl (A p.toNatClampNeg))) (f_dues, upd a_kind p.toNatClampNeg 1, a_first, a_size, upd a_number p.toNatClampNeg ((A p.toNatClampNeg).2.1 + a), a_ring, a_score, a_ranked, a_deadline, a_due) :=
      xr_up hK kp hG (xr_1E rfl rfl pk_us hs (fun _ => pk_us) ⟨f, hf, h4⟩) (fun j _ hne => ⟨pk_un hne, rfl, rfl, pk_un hne, fun _ _ => rfl, fun _ _ => rfl, fun _ _ => rfl⟩) (by rw [xd_upI rfl]; exact hK.2.2)
    refine xa_yes hp (a' := a) (b' := 0) (ak_ok0 kp (n := 1) (by omega) rfl (by decide) (by decide) (by decide)) hK' hL (by decide) (hone b) ⟨_, hone 0⟩ ?_
    intro f_time f_turns a_version a_state a_gathered a_answered a_watching a_seen a_cOp a_cKey a_cA a_cB a_results a_taken a_waitsFor a_until a_turn a_source post hQ
    have hfit : ak_fit 1 (A p.toNatClampNeg).1 = 1 := by rcases hw with e | e <;> rw [e] <;> decide
    have fin : ∀ z0, z0 = (A p.toNatClampNeg).2.1 + a → wX_apply_155 post 1 p a z0 p f_dues f_time f_logged f_safe f_broken f_silent f_turns a_kind a_first a_size a_number a_ring a_score a_version a_ranked a_deadline a_due a_logOp a_logKey a_logA a_logB a_state a_gathered a_answered a_watching a_seen a_cOp a_cKey a_cA a_cB a_results a_taken a_waitsFor a_until a_turn a_source := fun z0 ez => by
      subst ez
      refine And.intro hp (nm_e (And.intro hp (nm_r (e' := upd a_kind p.toNatClampNeg 1) (by rw [nu_b1]) (hQ _ (fun L h => And.intro hp ?_)))))
      show post ((upd a_number p.toNatClampNeg ((A p.toNatClampNeg).2.1 + a) p.toNatClampNeg).toInt64) _
      rw [pk_us]; exact h
    refine xa_35 hp h1 hfit (Or.inl (by decide)) (br_f (by decide) (br_f (by decide) (br_f (by decide) (br_t rfl (And.intro hp ?_)))))
    by_cases z : (A p.toNatClampNeg).1 = 0
    · refine br_t (h1.trans z) (fin a ?_)
      rw [ak_G0 Gp z]; exact (Int32.zero_add a).symm
    · refine br_f (fun e => z (h1.symm.trans e)) (And.intro hp (fin _ ?_))
      rw [h3 (hw.resolve_left z)]
  · have hone : ak_one 1 a b (A p.toNatClampNeg) = (10000000001, none) := by rw [ak_o1]; unfold ak_c1; rw [if_neg hw]
    have hfit : ak_fit 1 (A p.toNatClampNeg).1 = 0 := by
      rcases ak_Gk Gp with e | e | e | e
      · exact absurd (Or.inl e) hw
      · exact absurd (Or.inr e) hw
      · rw [e]; decide
      · rw [e]; decide
    exact xa_no hK hL (by decide) hone (fun post hpost => xa_wrong hp h1 hfit hpost)
theorem xo_2 {p a b : Int32} (hp : vp_in p 8) {A B : Nat → ak_T} {f_dues f_logged f_broken f_silent f_safe : Int32} {a_kind a_first a_size a_number a_ring a_score a_ranked a_deadline a_due a_logOp a_logKey a_logA a_logB : Nat → Int32} (hK : xr_K A (f_dues, a_kind, a_first, a_size, a_number, a_ring, a_score, a_ranked, a_deadline, a_due)) (hL : lo_R f_silent f_safe (f_logged, f_broken, a_logOp, a_logKey, a_logA, a_logB) A B) : xa_P 2 p a b A B (f_dues := f_dues) (f_logged := f_logged) (f_broken := f_broken) (f_silent := f_silent) (f_safe := f_safe) (a_kind := a_kind) (a_first := a_first) (a_size := a_size) (a_number := a_number) (a_ring := a_ring) (a_score := a_score) (a_ranked := a_ranked) (a_deadline := a_deadline) (a_due := a_due) (a_logOp := a_logOp) (a_logKey := a_logKey) (a_logA := a_logA) (a_logB := a_logB) := by
  have kp := (nu_key hp (by omega)).2
  have h1 : a_kind p.toNatClampNeg = (A p.toNatClampNeg).1 := (hK.2.1 _ kp).2.1
  by_cases z : (A p.toNatClampNeg).1 = 0
  · have hone : ak_one 2 a b (A p.toNatClampNeg) = (0, none) := by rw [ak_o2]; unfold ak_c2; rw [if_pos z]
    refine xa_no hK hL (by decide) hone ?_
    intro f_time f_turns a_version a_state a_gathered a_answered a_watching a_seen a_cOp a_cKey a_cA a_cB a_results a_taken a_waitsFor a_until a_turn a_source post hpost
    exact xa_35 hp h1 rfl (Or.inl (by decide)) (br_f (by decide) (br_f (by decide) (br_f (by decide) (br_f (by decide) (br_t rfl (And.intro hp (br_t (h1.trans z) hpost)))))))
  · have hone : ∀ a b, ak_one 2 a b (A p.toNatClampNeg) = (1, some ak_E) := fun a b => by rw [ak_o2]; unfold ak_c2; rw [if_neg z]
    obtain ⟨d, l, q, hd, We⟩ := xs_empty hp hK.2.2
    have hK' : xr_K (ak_up A p.toNatClampNeg ak_E) (d, upd a_kind p.toNatClampNeg 0, upd a_first p.toNatClampNeg 0, upd a_size p.toNatClampNeg 0, a_number, a_ring, a_score, a_ranked, l, q) :=
      xr_up hK kp ak_GE (xr_1E rfl rfl pk_us pk_us (fun e => absurd e (by decide)) ⟨0, by omega, pk_us⟩) (fun j _ hne => ⟨pk_un hne, pk_un hne, pk_un hne, rfl, fun _ _ => rfl, fun _ _ => rfl, fun _ _ => rfl⟩) hd
    refine xa_yes hp (a' := 0) (b' := 0) (ak_ok0 kp (n := 2) (by omega) rfl (by decide) (by decide) (by decide)) hK' hL (by decide) (hone a b) ⟨_, hone 0 0⟩ ?_
    intro f_time f_turns a_version a_state a_gathered a_answered a_watching a_seen a_cOp a_cKey a_cA a_cB a_results a_taken a_waitsFor a_until a_turn a_source post hQ
    exact xa_35 hp h1 rfl (Or.inl (by decide)) (br_f (by decide) (br_f (by decide) (br_f (by decide) (br_f (by decide) (br_t rfl (And.intro hp (br_f (fun e => z (h1.symm.trans e)) (We _ (hQ _ (fun L h => h))))))))))
theorem xo_3 {p a b : Int32} (hp : vp_in p 8) (ha : a = -1 ∨ 0 < a) {A B : Nat → ak_T} {f_dues f_logged f_broken f_silent f_safe : Int32} {a_kind a_first a_size a_number a_ring a_score a_ranked a_deadline a_due a_logOp a_logKey a_logA a_logB : Nat → Int32} (hK : xr_K A (f_dues, a_kind, a_first, a_size, a_number, a_ring, a_score, a_ranked, a_deadline, a_due)) (hL : lo_R f_silent f_safe (f_logged, f_broken, a_logOp, a_logKey, a_logA, a_logB) A B) : xa_P 3 p a b A B (f_dues := f_dues) (f_logged := f_logged) (f_broken := f_broken) (f_silent := f_silent) (f_safe := f_safe) (a_kind := a_kind) (a_first := a_first) (a_size := a_size) (a_number := a_number) (a_ring := a_ring) (a_score := a_score) (a_ranked := a_ranked) (a_deadline := a_deadline) (a_due := a_due) (a_logOp := a_logOp) (a_logKey := a_logKey) (a_logA := a_logA) (a_logB := a_logB) := by
  have kp := (nu_key hp (by omega)).2
  obtain ⟨Gp, hx1⟩ := hK.2.1 _ kp
  have h1 : a_kind p.toNatClampNeg = (A p.toNatClampNeg).1 := hx1.1
  by_cases z : (A p.toNatClampNeg).1 = 0
  · have hone : ak_one 3 a b (A p.toNatClampNeg) = (0, none) := by rw [ak_o3]; unfold ak_c3; rw [if_pos z]
    refine xa_no hK hL (by decide) hone ?_
    intro f_time f_turns a_version a_state a_gathered a_answered a_watching a_seen a_cOp a_cKey a_cA a_cB a_results a_taken a_waitsFor a_until a_turn a_source post hpost
    exact xa_35 hp h1 rfl (Or.inl (by decide)) (br_f (by decide) (br_f (by decide) (br_f (by decide) (br_f (by decide) (br_f (by decide) (br_t rfl (And.intro hp (br_t (h1.trans z) hpost))))))))
  · have hone : ∀ b, ak_one 3 a b (A p.toNatClampNeg) = (1, some ((A p.toNatClampNeg).1, (A p.toNatClampNeg).2.1, ak_ls (A p.toNatClampNeg), ak_rk (A p.toNatClampNeg), a)) := fun b => by rw [ak_o3]; unfold ak_c3; rw [if_neg z]
    have hG : ak_G ((A p.toNatClampNeg).1, (A p.toNatClampNeg).2.1, ak_ls (A p.toNatClampNeg), ak_rk (A p.toNatClampNeg), a) := by
      rcases Gp with e | e
      · rw [e] at z; exact absurd rfl z
      · exact Or.inr ⟨ha, e.2⟩
    have hd : ∃ (d : Int32) (l q : Nat → Int32), xd_R (upd (fun j => ak_dl (A j)) p.toNatClampNeg a) d l q ∧ ∀ {f_time f_logged f_safe f_broken f_silent : Int32} {f_turns : Int64} {a_kind a_first a_size a_number a_ring a_score a_version a_ranked a_logOp a_logKey a_logA a_logB a_state a_gathered a_answered a_watching a_seen a_cOp a_cKey a_cA a_cB : Nat → Int32} {a_results a_taken : Nat → Int64} {a_waitsFor a_until : Nat → Int32} {a_turn : Nat → Int64} {a_source : Nat → Int32} (post : SX → Prop), post (d, f_time, f_logged, f_safe, f_broken, f_silent, f_turns, a_kind, a_first, a_size, a_number, a_ring, a_score, a_version, a_ranked, l, q, a_logOp, a_logKey, a_logA, a_logB, a_state, a_gathered, a_answered, a_watching, a_seen, a_cOp, a_cKey, a_cA, a_cB, a_results, a_taken, a_waitsFor, a_until, a_turn, a_source) → (a = -1 → wpX_endDeadline post (f_dues, f_time, f_logged, f_safe, f_broken, f_silent, f_turns, a_kind, a_first, a_size, a_number, a_ring, a_score, a_version, a_ranked, a_deadline, a_due, a_logOp, a_logKey, a_logA, a_logB, a_state, a_gathered, a_answered, a_watching, a_seen, a_cOp, a_cKey, a_cA, a_cB, a_results, a_taken, a_waitsFor, a_until, a_turn, a_source) p) ∧ (¬ a = -1 → wpX_setDeadline post (f_dues, f_time, f_logged, f_safe, f_broken, f_silent, f_turns, a_kind, a_first, a_size, a_number, a_ring, a_score, a_version, a_ranked, a_deadline, a_due, a_logOp, a_logKey, a_logA, a_logB, a_state, a_gathered, a_answered, a_watching, a_seen, a_cOp, a_cKey, a_cA, a_cB, a_results, a_taken, a_waitsFor, a_until, a_turn, a_source) p a) := by
      by_cases y : a = -1
      · obtain ⟨d, l, q, hd, W⟩ := xd_end hp hK.2.2
        refine ⟨d, l, q, by rw [y]; exact hd, ?_⟩
        intro f_time f_logged f_safe f_broken f_silent f_turns a_kind a_first a_size a_number a_ring a_score a_version a_ranked a_logOp a_logKey a_logA a_logB a_state a_gathered a_answered a_watching a_seen a_cOp a_cKey a_cA a_cB a_results a_taken a_waitsFor a_until a_turn a_source post hpost
        exact br_t y (W _ hpost)
      · obtain ⟨d, l, q, hd, W⟩ := xd_set hp y hK.2.2
        refine ⟨d, l, q, hd, ?_⟩
        intro f_time f_logged f_safe f_broken f_silent f_turns a_kind a_first a_size a_number a_ring a_score a_version a_ranked a_logOp a_logKey a_logA a_logB a_state a_gathered a_answered a_watching a_seen a_cOp a_cKey a_cA a_cB a_results a_taken a_waitsFor a_until a_turn a_source post hpost
        exact br_f y (W _ hpost)
    obtain ⟨d, l, q, hd, W⟩ := hd
    have hK' : xr_K (ak_up A p.toNatClampNeg ((A p.toNatClampNeg).1, (A p.toNatClampNeg).2.1, ak_ls (A p.toNatClampNeg), ak_rk (A p.toNatClampNeg), a)) (d, a_kind, a_first, a_size, a_number, a_ring, a_score, a_ranked, l, q) :=
      xr_up hK kp hG hx1 (fun j _ hne => ⟨rfl, rfl, rfl, rfl, fun _ _ => rfl, fun _ _ => rfl, fun _ _ => rfl⟩) hd
    refine xa_yes hp (a' := a) (b' := 0) ⟨⟨3, by omega, rfl⟩, kp, fun _ => ha, fun h => absurd h (by decide), fun h => absurd h (by decide)⟩ hK' hL (by decide) (hone b) ⟨_, hone 0⟩ ?_
    intro f_time f_turns a_version a_state a_gathered a_answered a_watching a_seen a_cOp a_cKey a_cA a_cB a_results a_taken a_waitsFor a_until a_turn a_source post hQ
    refine xa_35 hp h1 rfl (Or.inl (by decide)) (br_f (by decide) (br_f (by decide) (br_f (by decide) (br_f (by decide) (br_f (by decide) (br_t rfl (And.intro hp (br_f (fun e => z (h1.symm.trans e)) ?_))))))))
    have hc : wX_apply_235 post 3 p a d f_time f_logged f_safe f_broken f_silent f_turns a_kind a_first a_size a_number a_ring a_score a_version a_ranked l q a_logOp a_logKey a_logA a_logB a_state a_gathered a_answered a_watching a_seen a_cOp a_cKey a_cA a_cB a_results a_taken a_waitsFor a_until a_turn a_source := hQ _ (fun L h => h)
    exact ⟨fun y => (W _ hc).1 y, fun y => (W _ hc).2 y⟩
/-! lists -/
theorem xl_cons {k f : Nat} {v : Int32} {l : List Int32} {ri : Nat → Int32} (hf : f < 12) (hl : l.length < 12) (h : xr_L k f l ri) : xr_L k ((f + 11) % 12) (v :: l) (upd ri (12 * k + (f + 11) % 12) v) := by
  intro i hi
  cases i with
  | zero =>
    have e : ((f + 11) % 12 + 0) % 12 = (f + 11) % 12 := by omega
    rw [e, pk_us]; rfl
  | succ j =>
    have hj : j < l.length := by simpa using hi
    have e : ((f + 11) % 12 + (j + 1)) % 12 = (f + j) % 12 := by omega
    rw [e, pk_un (by omega), List.getD_cons_succ]; exact h j hj
theorem xl_snoc {k f : Nat} {v : Int32} {l : List Int32} {ri : Nat → Int32} (hf : f < 12) (hl : l.length < 12) (h : xr_L k f l ri) : xr_L k f (l ++ [v]) (upd ri (12 * k + (f + l.length) % 12) v) := by
  intro i hi
  rw [List.length_append, List.length_singleton] at hi
  rcases Nat.lt_or_ge i l.length with z | z
  · rw [pk_un (by omega), List.getD_eq_getElem?_getD, List.getElem?_append_left z, ← List.getD_eq_getElem?_getD]; exact h i z
  · have e : i = l.length := by omega
    subst e
    rw [pk_us, List.getD_eq_getElem?_getD, List.getElem?_append_right (Nat.le_refl _)]; simp
theorem xl_tail {k f : Nat} {l : List Int32} {ri : Nat → Int32} (hf : f < 12) (h : xr_L k f l ri) : xr_L k ((f + 1) % 12) l.tail ri := by
  intro i hi
  cases l with
  | nil => exact absurd hi (by simp)
  | cons a t =>
    have e : ((f + 1) % 12 + i) % 12 = (f + (i + 1)) % 12 := by omega
    have := h (i + 1) (by simpa using hi)
    rw [List.getD_cons_succ] at this
    rw [e]; exact this
theorem xl_drop {k f : Nat} {l : List Int32} {ri : Nat → Int32} (h : xr_L k f l ri) : xr_L k f l.dropLast ri := by
  intro i hi
  rw [List.length_dropLast] at hi
  rw [h i (by omega), List.getD_eq_getElem?_getD, List.getD_eq_getElem?_getD, List.getElem?_dropLast, if_pos hi]
theorem xo_lsz {x : ak_T} (h : ak_G x) (hk : x.1 = 0 ∨ x.1 = 2) : ak_rk x = ak_0 ∧ ak_sz x = (ak_ls x).length := by
  have e : ak_rk x = ak_0 := hk.elim (fun e => by rw [ak_G0 h e]; rfl) (fun e => (ak_G2 h e).2.2.2)
  refine ⟨e, ?_⟩
  unfold ak_sz; rw [e, ak_n0]; rfl
end
section
/-! ===== X: elements come and go ===== -/
theorem xo_szc {y : Int32} {l : List Int32} {d : Int32} : ak_sz (2, y, l, ak_0, d) = l.length := by
  unfold ak_sz
  show l.length + ak_n ak_0 = l.length
  rw [ak_n0]; rfl
theorem xo_Gl {l : List Int32} {d : Int32} (hd : d = -1 ∨ 0 < d) (h0 : 0 < l.length) (h : l.length ≤ 12) : ak_G (2, 0, l, ak_0, d) := Or.inr ⟨hd, Or.inr (Or.inl ⟨rfl, rfl, h0, h, rfl⟩)⟩
theorem xo_4 {p a b : Int32} (hp : vp_in p 8) {A B : Nat → ak_T} {f_dues f_logged f_broken f_silent f_safe : Int32} {a_kind a_first a_size a_number a_ring a_score a_ranked a_deadline a_due a_logOp a_logKey a_logA a_logB : Nat → Int32} (hK : xr_K A (f_dues, a_kind, a_first, a_size, a_number, a_ring, a_score, a_ranked, a_deadline, a_due)) (hL : lo_R f_silent f_safe (f_logged, f_broken, a_logOp, a_logKey, a_logA, a_logB) A B) : xa_P 4 p a b A B (f_dues := f_dues) (f_logged := f_logged) (f_broken := f_broken) (f_silent := f_silent) (f_safe := f_safe) (a_kind := a_kind) (a_first := a_first) (a_size := a_size) (a_number := a_number) (a_ring := a_ring) (a_score := a_score) (a_ranked := a_ranked) (a_deadline := a_deadline) (a_due := a_due) (a_logOp := a_logOp) (a_logKey := a_logKey) (a_logA := a_logA) (a_logB := a_logB) := by
  have kp := (nu_key hp (by omega)).2
  obtain ⟨Gp, h1, h2, h3, ⟨f, hf, h4, h5⟩, g, h6⟩ := hK.2.1 _ kp
  dsimp only at h1 h2 h3 h4 h5 h6
  by_cases hw : (A p.toNatClampNeg).1 = 0 ∨ (A p.toNatClampNeg).1 = 2
  · obtain ⟨hr, hsz⟩ := xo_lsz Gp hw
    rw [hsz] at h2
    have hfit : ak_fit 4 (A p.toNatClampNeg).1 = 1 := by rcases hw with e | e <;> rw [e] <;> decide
    have hle := ak_Gls Gp
    by_cases hfull : (ak_ls (A p.toNatClampNeg)).length = 12
    · have hone : ak_one 4 a b (A p.toNatClampNeg) = (10000000003, none) := by rw [ak_o4]; unfold ak_c4; rw [if_pos hw, if_pos hfull]
      refine xa_no hK hL (by decide) hone ?_
      intro f_time f_turns a_version a_state a_gathered a_answered a_watching a_seen a_cOp a_cKey a_cA a_cB a_results a_taken a_waitsFor a_until a_turn a_source post hpost
      exact xa_35 hp h1 hfit (Or.inl (by decide)) (br_f (by decide) (br_f (by decide) (br_f (by decide) (br_f (by decide) (br_f (by decide) (br_f (by decide) (br_t rfl (br_f (by decide) (And.intro hp (br_t (by rw [h2, hfull]; rfl) hpost))))))))))
    · have hone : ∀ b, ak_one 4 a b (A p.toNatClampNeg) = ((nI ((ak_ls (A p.toNatClampNeg)).length + 1)).toInt64, some (2, 0, a :: ak_ls (A p.toNatClampNeg), ak_0, ak_dl (A p.toNatClampNeg))) := fun b => by rw [ak_o4]; unfold ak_c4; rw [if_pos hw, if_neg hfull]
      have hm : (f + 11) % 12 < 12 := Nat.mod_lt _ (by omega)
      have hK' : xr_K (ak_up A p.toNatClampNeg (2, 0, a :: ak_ls (A p.toNatClampNeg), ak_0, ak_dl (A p.toNatClampNeg))) (f_dues, upd a_kind p.toNatClampNeg 2, upd a_first p.toNatClampNeg (nI ((f + 11) % 12)), upd a_size p.toNatClampNeg (nI ((ak_ls (A p.toNatClampNeg)).length + 1)), a_number, upd a_ring (12 * p.toNatClampNeg + (f + 11) % 12) a, a_score, a_ranked, a_deadline, a_due) :=
        xr_up hK kp (xo_Gl (ak_Gd Gp) (by simp) (by simp; omega)) ⟨pk_us, by rw [pk_us, xo_szc]; rfl, fun e => absurd e nu_21, ⟨_, hm, pk_us, xl_cons hf (by omega) h5⟩, xr_R0 rfl⟩ (fun j _ hne => ⟨pk_un hne, pk_un hne, pk_un hne, rfl, fun i hi => xr_o12 hm hi hne, fun _ _ => rfl, fun _ _ => rfl⟩) (by rw [xd_upI rfl]; exact hK.2.2)
      refine xa_yes hp (a' := a) (b' := 0) (ak_ok0 kp (n := 4) (by omega) rfl (by decide) (by decide) (by decide)) hK' hL (by decide) (hone b) ⟨_, hone 0⟩ ?_
      intro f_time f_turns a_version a_state a_gathered a_answered a_watching a_seen a_cOp a_cKey a_cA a_cB a_results a_taken a_waitsFor a_until a_turn a_source post hQ
      refine xa_35 hp h1 hfit (Or.inl (by decide)) (br_f (by decide) (br_f (by decide) (br_f (by decide) (br_f (by decide) (br_f (by decide) (br_f (by decide) (br_t rfl (br_f (by decide) (And.intro hp (br_f (by rw [h2]; intro e; exact hfull ((nI_eq (b := 12) (by omega) (by omega)).mp e)) (br_t rfl (xl_pushF hp hf (by omega) h2 h4 (hQ _ (fun L h => And.intro hp ?_))))))))))))))
      show post ((upd a_size p.toNatClampNeg (nI ((ak_ls (A p.toNatClampNeg)).length + 1)) p.toNatClampNeg).toInt64) _
      rw [pk_us]; exact h
  · have hone : ak_one 4 a b (A p.toNatClampNeg) = (10000000001, none) := by rw [ak_o4]; unfold ak_c4; rw [if_neg hw]
    have hfit : ak_fit 4 (A p.toNatClampNeg).1 = 0 := by
      rcases ak_Gk Gp with e | e | e | e
      · exact absurd (Or.inl e) hw
      · rw [e]; decide
      · exact absurd (Or.inr e) hw
      · rw [e]; decide
    exact xa_no hK hL (by decide) hone (fun post hpost => xa_wrong hp h1 hfit hpost)
theorem xo_5 {p a b : Int32} (hp : vp_in p 8) {A B : Nat → ak_T} {f_dues f_logged f_broken f_silent f_safe : Int32} {a_kind a_first a_size a_number a_ring a_score a_ranked a_deadline a_due a_logOp a_logKey a_logA a_logB : Nat → Int32} (hK : xr_K A (f_dues, a_kind, a_first, a_size, a_number, a_ring, a_score, a_ranked, a_deadline, a_due)) (hL : lo_R f_silent f_safe (f_logged, f_broken, a_logOp, a_logKey, a_logA, a_logB) A B) : xa_P 5 p a b A B (f_dues := f_dues) (f_logged := f_logged) (f_broken := f_broken) (f_silent := f_silent) (f_safe := f_safe) (a_kind := a_kind) (a_first := a_first) (a_size := a_size) (a_number := a_number) (a_ring := a_ring) (a_score := a_score) (a_ranked := a_ranked) (a_deadline := a_deadline) (a_due := a_due) (a_logOp := a_logOp) (a_logKey := a_logKey) (a_logA := a_logA) (a_logB := a_logB) := by
  have kp := (nu_key hp (by omega)).2
  obtain ⟨Gp, h1, h2, h3, ⟨f, hf, h4, h5⟩, g, h6⟩ := hK.2.1 _ kp
  dsimp only at h1 h2 h3 h4 h5 h6
  by_cases hw : (A p.toNatClampNeg).1 = 0 ∨ (A p.toNatClampNeg).1 = 2
  · obtain ⟨hr, hsz⟩ := xo_lsz Gp hw
    rw [hsz] at h2
    have hfit : ak_fit 5 (A p.toNatClampNeg).1 = 1 := by rcases hw with e | e <;> rw [e] <;> decide
    have hle := ak_Gls Gp
    by_cases hfull : (ak_ls (A p.toNatClampNeg)).length = 12
    · have hone : ak_one 5 a b (A p.toNatClampNeg) = (10000000003, none) := by rw [ak_o5]; unfold ak_c5; rw [if_pos hw, if_pos hfull]
      refine xa_no hK hL (by decide) hone ?_
      intro f_time f_turns a_version a_state a_gathered a_answered a_watching a_seen a_cOp a_cKey a_cA a_cB a_results a_taken a_waitsFor a_until a_turn a_source post hpost
      exact xa_35 hp h1 hfit (Or.inl (by decide)) (br_f (by decide) (br_f (by decide) (br_f (by decide) (br_f (by decide) (br_f (by decide) (br_f (by decide) (br_f (by decide) (br_t rfl (br_f (by decide) (And.intro hp (br_t (by rw [h2, hfull]; rfl) hpost)))))))))))
    · have hone : ∀ b, ak_one 5 a b (A p.toNatClampNeg) = ((nI ((ak_ls (A p.toNatClampNeg)).length + 1)).toInt64, some (2, 0, ak_ls (A p.toNatClampNeg) ++ [a], ak_0, ak_dl (A p.toNatClampNeg))) := fun b => by rw [ak_o5]; unfold ak_c5; rw [if_pos hw, if_neg hfull]
      have hm : (f + (ak_ls (A p.toNatClampNeg)).length) % 12 < 12 := Nat.mod_lt _ (by omega)
      have hK' : xr_K (ak_up A p.toNatClampNeg (2, 0, ak_ls (A p.toNatClampNeg) ++ [a], ak_0, ak_dl (A p.toNatClampNeg))) (f_dues, upd a_kind p.toNatClampNeg 2, a_first, upd a_size p.toNatClampNeg (nI ((ak_ls (A p.toNatClampNeg)).length + 1)), a_number, upd a_ring (12 * p.toNatClampNeg + (f + (ak_ls (A p.toNatClampNeg)).length) % 12) a, a_score, a_ranked, a_deadline, a_due) :=
        xr_up hK kp (xo_Gl (ak_Gd Gp) (by simp) (by simp; omega)) ⟨pk_us, by rw [pk_us, xo_szc, List.length_append]; rfl, fun e => absurd e nu_21, ⟨_, hf, h4, xl_snoc hf (by omega) h5⟩, xr_R0 rfl⟩ (fun j _ hne => ⟨pk_un hne, rfl, pk_un hne, rfl, fun i hi => xr_o12 hm hi hne, fun _ _ => rfl, fun _ _ => rfl⟩) (by rw [xd_upI rfl]; exact hK.2.2)
      refine xa_yes hp (a' := a) (b' := 0) (ak_ok0 kp (n := 5) (by omega) rfl (by decide) (by decide) (by decide)) hK' hL (by decide) (hone b) ⟨_, hone 0⟩ ?_
      intro f_time f_turns a_version a_state a_gathered a_answered a_watching a_seen a_cOp a_cKey a_cA a_cB a_results a_taken a_waitsFor a_until a_turn a_source post hQ
      refine xa_35 hp h1 hfit (Or.inl (by decide)) (br_f (by decide) (br_f (by decide) (br_f (by decide) (br_f (by decide) (br_f (by decide) (br_f (by decide) (br_f (by decide) (br_t rfl (br_f (by decide) (And.intro hp (br_f (by rw [h2]; intro e; exact hfull ((nI_eq (b := 12) (by omega) (by omega)).mp e)) (br_f (by decide) (xl_pushB hp hf (by omega) h2 h4 (hQ _ (fun L h => And.intro hp ?_)))))))))))))))
      show post ((upd a_size p.toNatClampNeg (nI ((ak_ls (A p.toNatClampNeg)).length + 1)) p.toNatClampNeg).toInt64) _
      rw [pk_us]; exact h
  · have hone : ak_one 5 a b (A p.toNatClampNeg) = (10000000001, none) := by rw [ak_o5]; unfold ak_c5; rw [if_neg hw]
    have hfit : ak_fit 5 (A p.toNatClampNeg).1 = 0 := by
      rcases ak_Gk Gp with e | e | e | e
      · exact absurd (Or.inl e) hw
      · rw [e]; decide
      · exact absurd (Or.inr e) hw
      · rw [e]; decide
    exact xa_no hK hL (by decide) hone (fun post hpost => xa_wrong hp h1 hfit hpost)
/-- a key after an element was taken -/
theorem xo_nmE {y : ak_T} (h : ak_sz y = 0) : ak_nm y = ak_E := if_pos h
theorem xo_nmN {y : ak_T} (h : ak_sz y ≠ 0) : ak_nm y = y := if_neg h
theorem xo_6l {A : Nat → ak_T} {k n f' : Nat} {l' : List Int32} (hk : k < 8) {f_dues d : Int32} {a_kind a_first a_size a_number a_ring a_score a_ranked a_deadline a_due dl q fi' : Nat → Int32} (hK : xr_K A (f_dues, a_kind, a_first, a_size, a_number, a_ring, a_score, a_ranked, a_deadline, a_due)) (Gp : ak_G (A k)) (h2 : (A k).1 = 2) (hn : l'.length = n) (hn12 : n < 12) (hf' : f' < 12) (hfi : fi' k = nI f') (hfo : ∀ j, j ≠ k → fi' j = a_first j) (hl : xr_L k f' l' a_ring) (hd : xd_R (if n = 0 then upd (fun j => ak_dl (A j)) k (-1) else (fun j => ak_dl (A j))) d dl q) : xr_K (ak_up A k (ak_nm (2, 0, l', ak_0, ak_dl (A k)))) (d, if n = 0 then upd a_kind k 0 else a_kind, if n = 0 then upd fi' k 0 else fi', upd a_size k (nI n), a_number, a_ring, a_score, a_ranked, dl, q) := by
  have hsz : ak_sz (2, 0, l', ak_0, ak_dl (A k)) = n := by rw [xo_szc]; exact hn
  have h1 : a_kind k = (A k).1 := (hK.2.1 _ hk).2.1
  rcases Nat.eq_zero_or_pos n with z | z
  · subst z
    rw [xo_nmE hsz, if_pos rfl, if_pos rfl]
    rw [if_pos rfl] at hd
    exact xr_up hK hk ak_GE (xr_1E rfl rfl pk_us pk_us (fun e => absurd e (by decide)) ⟨0, by omega, pk_us⟩) (fun j _ hne => ⟨pk_un hne, by rw [pk_un hne, hfo j hne], pk_un hne, rfl, fun _ _ => rfl, fun _ _ => rfl, fun _ _ => rfl⟩) hd
  · rw [xo_nmN (by omega), if_neg (by omega), if_neg (by omega)]
    rw [if_neg (by omega)] at hd
    exact xr_up hK hk (xo_Gl (ak_Gd Gp) (by omega) (by omega)) ⟨by rw [h1, h2], by rw [pk_us, hsz], fun e => absurd e nu_21, ⟨f', hf', hfi, hl⟩, xr_R0 rfl⟩ (fun j _ hne => ⟨rfl, hfo j hne, pk_un hne, rfl, fun _ _ => rfl, fun _ _ => rfl, fun _ _ => rfl⟩) (by rw [xd_upI rfl]; exact hd)
theorem xo_6 {p a b : Int32} (hp : vp_in p 8) {A B : Nat → ak_T} {f_dues f_logged f_broken f_silent f_safe : Int32} {a_kind a_first a_size a_number a_ring a_score a_ranked a_deadline a_due a_logOp a_logKey a_logA a_logB : Nat → Int32} (hK : xr_K A (f_dues, a_kind, a_first, a_size, a_number, a_ring, a_score, a_ranked, a_deadline, a_due)) (hL : lo_R f_silent f_safe (f_logged, f_broken, a_logOp, a_logKey, a_logA, a_logB) A B) : xa_P 6 p a b A B (f_dues := f_dues) (f_logged := f_logged) (f_broken := f_broken) (f_silent := f_silent) (f_safe := f_safe) (a_kind := a_kind) (a_first := a_first) (a_size := a_size) (a_number := a_number) (a_ring := a_ring) (a_score := a_score) (a_ranked := a_ranked) (a_deadline := a_deadline) (a_due := a_due) (a_logOp := a_logOp) (a_logKey := a_logKey) (a_logA := a_logA) (a_logB := a_logB) := by
  have kp := (nu_key hp (by omega)).2
  obtain ⟨Gp, h1, h2, h3, ⟨f, hf, h4, h5⟩, g, h6⟩ := hK.2.1 _ kp
  dsimp only at h1 h2 h3 h4 h5 h6
  by_cases h0 : (A p.toNatClampNeg).1 = 0
  · have hone : ak_one 6 a b (A p.toNatClampNeg) = (10000000002, none) := by rw [ak_o6]; unfold ak_c6; rw [if_pos h0]
    refine xa_no hK hL (by decide) hone ?_
    intro f_time f_turns a_version a_state a_gathered a_answered a_watching a_seen a_cOp a_cKey a_cA a_cB a_results a_taken a_waitsFor a_until a_turn a_source post hpost
    exact xa_35 hp h1 (by rw [h0]; decide) (Or.inl (by decide)) (br_f (by decide) (br_f (by decide) (br_f (by decide) (br_f (by decide) (br_f (by decide) (br_f (by decide) (br_f (by decide) (br_f (by decide) (br_t rfl (br_t rfl (And.intro hp (br_t (h1.trans h0) hpost))))))))))))
  · by_cases hk2 : (A p.toNatClampNeg).1 = 2
    · obtain ⟨hr, hsz⟩ := xo_lsz Gp (Or.inr hk2)
      rw [hsz] at h2
      have hle := ak_Gls Gp
      obtain ⟨_, hpos, _, _⟩ := ak_G2 Gp hk2
      obtain ⟨n, hn⟩ : ∃ n, (ak_ls (A p.toNatClampNeg)).length = n + 1 := ⟨_, (Nat.sub_add_cancel hpos).symm⟩
      have hfit : ak_fit 6 (A p.toNatClampNeg).1 = 1 := by rw [hk2]; decide
      rw [hn] at h2
      have kne : ¬ a_kind p.toNatClampNeg = 0 := fun e => h0 (h1.symm.trans e)
      by_cases ha : a = 0
      · subst ha
        have hone : ∀ b, ak_one 6 0 b (A p.toNatClampNeg) = (((ak_ls (A p.toNatClampNeg)).getD 0 0).toInt64, some (ak_nm (2, 0, (ak_ls (A p.toNatClampNeg)).tail, ak_0, ak_dl (A p.toNatClampNeg)))) := fun b => by rw [ak_o6]; unfold ak_c6; rw [if_neg h0, if_pos hk2, if_pos rfl]
        have hm : (f + 1) % 12 < 12 := Nat.mod_lt _ (by omega)
        obtain ⟨d, l, q, hd, W⟩ := xl_pullF hp hK.2.2 hf (by omega) h2 h4
        have hK' := xo_6l (n := n) (l' := (ak_ls (A p.toNatClampNeg)).tail) kp hK Gp hk2 (by rw [List.length_tail]; omega) (by omega) hm (fi' := upd a_first p.toNatClampNeg (nI ((f + 1) % 12))) pk_us (fun j hj => pk_un hj) (xl_tail hf h5) hd
        refine xa_yes hp (a' := 0) (b' := 0) (ak_ok0 kp (n := 6) (by omega) rfl (by decide) (by decide) (by decide)) hK' hL (by decide) (hone b) ⟨_, hone 0⟩ ?_
        intro f_time f_turns a_version a_state a_gathered a_answered a_watching a_seen a_cOp a_cKey a_cA a_cB a_results a_taken a_waitsFor a_until a_turn a_source post hQ
        refine xa_35 hp h1 hfit (Or.inl (by decide)) (br_f (by decide) (br_f (by decide) (br_f (by decide) (br_f (by decide) (br_f (by decide) (br_f (by decide) (br_f (by decide) (br_f (by decide) (br_t rfl (br_t rfl (And.intro hp (br_f kne (br_t rfl (W _ (hQ _ (fun L h => ?_))))))))))))))))
        have ev : a_ring (12 * p.toNatClampNeg + f) = (ak_ls (A p.toNatClampNeg)).getD 0 0 := by
          have := h5 0 (by omega)
          rw [show (f + 0) % 12 = f from by omega] at this; exact this
        show post ((a_ring (12 * p.toNatClampNeg + f)).toInt64) _
        rw [ev]; exact h
      · have hone : ∀ b, ak_one 6 a b (A p.toNatClampNeg) = (((ak_ls (A p.toNatClampNeg)).getD ((ak_ls (A p.toNatClampNeg)).length - 1) 0).toInt64, some (ak_nm (2, 0, (ak_ls (A p.toNatClampNeg)).dropLast, ak_0, ak_dl (A p.toNatClampNeg)))) := fun b => by rw [ak_o6]; unfold ak_c6; rw [if_neg h0, if_pos hk2, if_neg ha]
        obtain ⟨d, l, q, hd, W⟩ := xl_pullB hp hK.2.2 hf (by omega) h2 h4
        have hK' := xo_6l (n := n) (l' := (ak_ls (A p.toNatClampNeg)).dropLast) kp hK Gp hk2 (by rw [List.length_dropLast]; omega) (by omega) hf (fi' := a_first) h4 (fun j hj => rfl) (xl_drop h5) hd
        refine xa_yes hp (a' := a) (b' := 0) (ak_ok0 kp (n := 6) (by omega) rfl (by decide) (by decide) (by decide)) hK' hL (by decide) (hone b) ⟨_, hone 0⟩ ?_
        intro f_time f_turns a_version a_state a_gathered a_answered a_watching a_seen a_cOp a_cKey a_cA a_cB a_results a_taken a_waitsFor a_until a_turn a_source post hQ
        refine xa_35 hp h1 hfit (Or.inl (by decide)) (br_f (by decide) (br_f (by decide) (br_f (by decide) (br_f (by decide) (br_f (by decide) (br_f (by decide) (br_f (by decide) (br_f (by decide) (br_t rfl (br_t rfl (And.intro hp (br_f kne (br_f ha (W _ (hQ _ (fun L h => ?_))))))))))))))))
        have ev : a_ring (12 * p.toNatClampNeg + (f + n) % 12) = (ak_ls (A p.toNatClampNeg)).getD ((ak_ls (A p.toNatClampNeg)).length - 1) 0 := by
          rw [hn]; exact h5 n (by omega)
        show post ((a_ring (12 * p.toNatClampNeg + (f + n) % 12)).toInt64) _
        rw [ev]; exact h
    · have hone : ak_one 6 a b (A p.toNatClampNeg) = (10000000001, none) := by rw [ak_o6]; unfold ak_c6; rw [if_neg h0, if_neg hk2]
      have hfit : ak_fit 6 (A p.toNatClampNeg).1 = 0 := by
        rcases ak_Gk Gp with e | e | e | e
        · exact absurd e h0
        · rw [e]; decide
        · exact absurd e hk2
        · rw [e]; decide
      exact xa_no hK hL (by decide) hone (fun post hpost => xa_wrong hp h1 hfit hpost)
end
section
/-! ===== X: members come and go ===== -/
theorem xr_or {a : Nat → Int32} {k j c n i : Nat} {v : Int32} (hc : c ≤ n) (hn : n < 12) (hi : i < 12) (h : j ≠ k) : upd (sh_r a (12 * k + c) (12 * k + n)) (12 * k + c) v (12 * j + i) = a (12 * j + i) := by
  rw [pk_un (by omega)]; unfold sh_r; rw [if_neg (by omega)]
theorem xr_ol {a : Nat → Int32} {k j c n i : Nat} (hn : n < 12) (hi : i < 12) (h : j ≠ k) : sh_l a (12 * k + c) (12 * k + n) (12 * j + i) = a (12 * j + i) := by
  unfold sh_l; rw [if_neg (by omega)]
theorem xo_rsz {x : ak_T} (h : ak_G x) (hk : x.1 = 0 ∨ x.1 = 3) : ak_ls x = [] ∧ ak_sz x = ak_n (ak_rk x) ∧ ∀ m, 16 ≤ m → ak_rk x m = none := by
  have e : ak_ls x = [] := hk.elim (fun e => by rw [ak_G0 h e]; rfl) (fun e => (ak_G3 h e).2.1)
  refine ⟨e, ?_, hk.elim (fun e => by rw [ak_G0 h e]; exact fun _ _ => rfl) (fun e => (ak_G3 h e).2.2.2.2)⟩
  unfold ak_sz; rw [e]; exact Nat.zero_add _
theorem xo_szr {y : Int32} {r : Nat → Option Int32} {d : Int32} : ak_sz (3, y, [], r, d) = ak_n r := Nat.zero_add _
theorem xo_Gr {r : Nat → Option Int32} {d : Int32} (hd : d = -1 ∨ 0 < d) (h0 : 0 < ak_n r) (h : ak_n r ≤ 12) (h16 : ∀ m, 16 ≤ m → r m = none) : ak_G (3, 0, [], r, d) := Or.inr ⟨hd, Or.inr (Or.inr ⟨rfl, rfl, rfl, h0, h, h16⟩)⟩
theorem xo_ur16 {r : Nat → Option Int32} {m : Nat} {s : Option Int32} (hm : m < 16) (h : ∀ m, 16 ≤ m → r m = none) : ∀ j, 16 ≤ j → ak_ur r m s j = none := fun j hj => by
  rw [ak_urN (by omega)]; exact h j hj
theorem xo_urur (r : Nat → Option Int32) (m : Nat) (s t : Option Int32) : ak_ur (ak_ur r m s) m t = ak_ur r m t := by
  funext j
  by_cases z : j = m
  · rw [z, ak_urS, ak_urS]
  · rw [ak_urN z, ak_urN z, ak_urN z]
/-- a new member -/
theorem xq_new {p s : Int32} (hp : vp_in p 8) {m : Nat} (hm : m < 16) {A : Nat → ak_T} {f_dues : Int32} {a_kind a_first a_size a_number a_ring a_score a_ranked a_deadline a_due : Nat → Int32} (hK : xr_K A (f_dues, a_kind, a_first, a_size, a_number, a_ring, a_score, a_ranked, a_deadline, a_due)) (hk : (A p.toNatClampNeg).1 = 0 ∨ (A p.toNatClampNeg).1 = 3) (hr : ak_rk (A p.toNatClampNeg) m = none) (hN : ak_n (ak_rk (A p.toNatClampNeg)) < 12) : ∃ K : xk_T, xr_K (ak_up A p.toNatClampNeg (3, 0, [], ak_ur (ak_rk (A p.toNatClampNeg)) m (some s), ak_dl (A p.toNatClampNeg))) K ∧ ∀ {f_time f_logged f_safe f_broken f_silent : Int32} {f_turns : Int64} {a_version a_logOp a_logKey a_logA a_logB a_state a_gathered a_answered a_watching a_seen a_cOp a_cKey a_cA a_cB : Nat → Int32} {a_results a_taken : Nat → Int64} {a_waitsFor a_until : Nat → Int32} {a_turn : Nat → Int64} {a_source : Nat → Int32} (post : SX → Prop), post (K.1, f_time, f_logged, f_safe, f_broken, f_silent, f_turns, K.2.1, K.2.2.1, K.2.2.2.1, K.2.2.2.2.1, K.2.2.2.2.2.1, K.2.2.2.2.2.2.1, a_version, K.2.2.2.2.2.2.2.1, K.2.2.2.2.2.2.2.2.1, K.2.2.2.2.2.2.2.2.2, a_logOp, a_logKey, a_logA, a_logB, a_state, a_gathered, a_answered, a_watching, a_seen, a_cOp, a_cKey, a_cA, a_cB, a_results, a_taken, a_waitsFor, a_until, a_turn, a_source) → wpX_enter post (f_dues, f_time, f_logged, f_safe, f_broken, f_silent, f_turns, a_kind, a_first, a_size, a_number, a_ring, a_score, a_version, a_ranked, a_deadline, a_due, a_logOp, a_logKey, a_logA, a_logB, a_state, a_gathered, a_answered, a_watching, a_seen, a_cOp, a_cKey, a_cA, a_cB, a_results, a_taken, a_waitsFor, a_until, a_turn, a_source) p (nI m) s := by
  have kp := (nu_key hp (by omega)).2
  obtain ⟨Gp, h1, h2, h3, ⟨f, hf, h4, h5⟩, g, h6⟩ := hK.2.1 _ kp
  dsimp only at h1 h2 h3 h4 h5 h6
  obtain ⟨hl, hsz, h16⟩ := xo_rsz Gp hk
  rw [hsz] at h2
  obtain ⟨c, g', hc, hR, W⟩ := xk_enter (s := s) hp hm hN h2 h6 hr
  have hn := ak_n_add (s := s) hm hr
  refine ⟨(f_dues, upd a_kind p.toNatClampNeg 3, a_first, upd a_size p.toNatClampNeg (nI (ak_n (ak_rk (A p.toNatClampNeg)) + 1)), a_number, a_ring, upd a_score (16 * p.toNatClampNeg + m) s, upd (sh_r a_ranked (12 * p.toNatClampNeg + c) (12 * p.toNatClampNeg + ak_n (ak_rk (A p.toNatClampNeg)))) (12 * p.toNatClampNeg + c) (nI m), a_deadline, a_due), ?_, ?_⟩
  · refine xr_up hK kp (xo_Gr (ak_Gd Gp) (by omega) (by omega) (xo_ur16 hm h16)) ⟨pk_us, by rw [pk_us, xo_szr, hn], fun e => absurd e nu_31, ⟨f, hf, h4, xr_L0⟩, g', ?_⟩ (fun j _ hne => ⟨pk_un hne, rfl, pk_un hne, rfl, fun _ _ => rfl, fun i hi => xr_o16 hm hi hne, fun i hi => xr_or hc hN hi hne⟩) (by rw [xd_upI rfl]; exact hK.2.2)
    show xr_R p.toNatClampNeg (ak_n (ak_ur (ak_rk (A p.toNatClampNeg)) m (some s))) g' (ak_ur (ak_rk (A p.toNatClampNeg)) m (some s)) _ _
    rw [hn]; exact hR
  · intro f_time f_logged f_safe f_broken f_silent f_turns a_version a_logOp a_logKey a_logA a_logB a_state a_gathered a_answered a_watching a_seen a_cOp a_cKey a_cA a_cB a_results a_taken a_waitsFor a_until a_turn a_source post hpost
    exact W _ hpost
/-- a member's other score -/
theorem xq_set {p s : Int32} (hp : vp_in p 8) {m : Nat} (hm : m < 16) {A : Nat → ak_T} {f_dues : Int32} {a_kind a_first a_size a_number a_ring a_score a_ranked a_deadline a_due : Nat → Int32} (hK : xr_K A (f_dues, a_kind, a_first, a_size, a_number, a_ring, a_score, a_ranked, a_deadline, a_due)) (hk : (A p.toNatClampNeg).1 = 0 ∨ (A p.toNatClampNeg).1 = 3) (hr : ak_rk (A p.toNatClampNeg) m ≠ none) : ∃ K1 K : xk_T, xr_K (ak_up A p.toNatClampNeg (3, 0, [], ak_ur (ak_rk (A p.toNatClampNeg)) m (some s), ak_dl (A p.toNatClampNeg))) K ∧ (∀ {f_time f_logged f_safe f_broken f_silent : Int32} {f_turns : Int64} {a_version a_logOp a_logKey a_logA a_logB a_state a_gathered a_answered a_watching a_seen a_cOp a_cKey a_cA a_cB : Nat → Int32} {a_results a_taken : Nat → Int64} {a_waitsFor a_until : Nat → Int32} {a_turn : Nat → Int64} {a_source : Nat → Int32} (post : SX → Prop), post (K1.1, f_time, f_logged, f_safe, f_broken, f_silent, f_turns, K1.2.1, K1.2.2.1, K1.2.2.2.1, K1.2.2.2.2.1, K1.2.2.2.2.2.1, K1.2.2.2.2.2.2.1, a_version, K1.2.2.2.2.2.2.2.1, K1.2.2.2.2.2.2.2.2.1, K1.2.2.2.2.2.2.2.2.2, a_logOp, a_logKey, a_logA, a_logB, a_state, a_gathered, a_answered, a_watching, a_seen, a_cOp, a_cKey, a_cA, a_cB, a_results, a_taken, a_waitsFor, a_until, a_turn, a_source) → wpX_leave post (f_dues, f_time, f_logged, f_safe, f_broken, f_silent, f_turns, a_kind, a_first, a_size, a_number, a_ring, a_score, a_version, a_ranked, a_deadline, a_due, a_logOp, a_logKey, a_logA, a_logB, a_state, a_gathered, a_answered, a_watching, a_seen, a_cOp, a_cKey, a_cA, a_cB, a_results, a_taken, a_waitsFor, a_until, a_turn, a_source) p (nI m)) ∧ ∀ {f_time f_logged f_safe f_broken f_silent : Int32} {f_turns : Int64} {a_version a_logOp a_logKey a_logA a_logB a_state a_gathered a_answered a_watching a_seen a_cOp a_cKey a_cA a_cB : Nat → Int32} {a_results a_taken : Nat → Int64} {a_waitsFor a_until : Nat → Int32} {a_turn : Nat → Int64} {a_source : Nat → Int32} (post : SX → Prop), post (K.1, f_time, f_logged, f_safe, f_broken, f_silent, f_turns, K.2.1, K.2.2.1, K.2.2.2.1, K.2.2.2.2.1, K.2.2.2.2.2.1, K.2.2.2.2.2.2.1, a_version, K.2.2.2.2.2.2.2.1, K.2.2.2.2.2.2.2.2.1, K.2.2.2.2.2.2.2.2.2, a_logOp, a_logKey, a_logA, a_logB, a_state, a_gathered, a_answered, a_watching, a_seen, a_cOp, a_cKey, a_cA, a_cB, a_results, a_taken, a_waitsFor, a_until, a_turn, a_source) → wpX_enter post (K1.1, f_time, f_logged, f_safe, f_broken, f_silent, f_turns, K1.2.1, K1.2.2.1, K1.2.2.2.1, K1.2.2.2.2.1, K1.2.2.2.2.2.1, K1.2.2.2.2.2.2.1, a_version, K1.2.2.2.2.2.2.2.1, K1.2.2.2.2.2.2.2.2.1, K1.2.2.2.2.2.2.2.2.2, a_logOp, a_logKey, a_logA, a_logB, a_state, a_gathered, a_answered, a_watching, a_seen, a_cOp, a_cKey, a_cA, a_cB, a_results, a_taken, a_waitsFor, a_until, a_turn, a_source) p (nI m) s := by
  have kp := (nu_key hp (by omega)).2
  obtain ⟨Gp, h1, h2, h3, ⟨f, hf, h4, h5⟩, g, h6⟩ := hK.2.1 _ kp
  dsimp only at h1 h2 h3 h4 h5 h6
  obtain ⟨hl, hsz, h16⟩ := xo_rsz Gp hk
  obtain ⟨t, et⟩ := Option.ne_none_iff_exists'.mp hr
  have hN12 := ak_Gn Gp
  have hd := ak_n_del hm et
  rw [hsz, hd] at h2
  rw [hd] at h6
  obtain ⟨c, g1, hc, hR1, W1⟩ := xk_leave hp hm (by omega) h2 h6 hr
  obtain ⟨c2, g2, hc2, hR2, W2⟩ := xk_enter (s := s) (a_size := upd a_size p.toNatClampNeg (nI (ak_n (ak_ur (ak_rk (A p.toNatClampNeg)) m none)))) hp hm (by omega) pk_us hR1 (ak_urS _ _ _)
  rw [xo_urur] at hR2
  have hn := ak_n_set (s := s) et
  refine ⟨(f_dues, a_kind, a_first, upd a_size p.toNatClampNeg (nI (ak_n (ak_ur (ak_rk (A p.toNatClampNeg)) m none))), a_number, a_ring, a_score, sh_l a_ranked (12 * p.toNatClampNeg + c) (12 * p.toNatClampNeg + ak_n (ak_ur (ak_rk (A p.toNatClampNeg)) m none)), a_deadline, a_due), (f_dues, upd a_kind p.toNatClampNeg 3, a_first, upd (upd a_size p.toNatClampNeg (nI (ak_n (ak_ur (ak_rk (A p.toNatClampNeg)) m none)))) p.toNatClampNeg (nI (ak_n (ak_ur (ak_rk (A p.toNatClampNeg)) m none) + 1)), a_number, a_ring, upd a_score (16 * p.toNatClampNeg + m) s, upd (sh_r (sh_l a_ranked (12 * p.toNatClampNeg + c) (12 * p.toNatClampNeg + ak_n (ak_ur (ak_rk (A p.toNatClampNeg)) m none))) (12 * p.toNatClampNeg + c2) (12 * p.toNatClampNeg + ak_n (ak_ur (ak_rk (A p.toNatClampNeg)) m none))) (12 * p.toNatClampNeg + c2) (nI m), a_deadline, a_due), ?_, ?_, ?_⟩
  · refine xr_up hK kp (xo_Gr (ak_Gd Gp) (by omega) (by omega) (xo_ur16 hm h16)) ⟨pk_us, by rw [pk_us, xo_szr, hn, hd], fun e => absurd e nu_31, ⟨f, hf, h4, xr_L0⟩, g2, ?_⟩ (fun j _ hne => ⟨pk_un hne, rfl, by rw [pk_un hne, pk_un hne], rfl, fun _ _ => rfl, fun i hi => xr_o16 hm hi hne, fun i hi => by rw [xr_or hc2 (by omega) hi hne, xr_ol (by omega) hi hne]⟩) (by rw [xd_upI rfl]; exact hK.2.2)
    show xr_R p.toNatClampNeg (ak_n (ak_ur (ak_rk (A p.toNatClampNeg)) m (some s))) g2 (ak_ur (ak_rk (A p.toNatClampNeg)) m (some s)) _ _
    rw [hn, hd]; exact hR2
  · intro f_time f_logged f_safe f_broken f_silent f_turns a_version a_logOp a_logKey a_logA a_logB a_state a_gathered a_answered a_watching a_seen a_cOp a_cKey a_cA a_cB a_results a_taken a_waitsFor a_until a_turn a_source post hpost
    exact W1 _ hpost
  · intro f_time f_logged f_safe f_broken f_silent f_turns a_version a_logOp a_logKey a_logA a_logB a_state a_gathered a_answered a_watching a_seen a_cOp a_cKey a_cA a_cB a_results a_taken a_waitsFor a_until a_turn a_source post hpost
    exact W2 _ hpost
/-- a member less -/
theorem xq_del {p : Int32} (hp : vp_in p 8) {m : Nat} (hm : m < 16) {A : Nat → ak_T} {f_dues : Int32} {a_kind a_first a_size a_number a_ring a_score a_ranked a_deadline a_due : Nat → Int32} (hK : xr_K A (f_dues, a_kind, a_first, a_size, a_number, a_ring, a_score, a_ranked, a_deadline, a_due)) (hk : (A p.toNatClampNeg).1 = 3) (hr : ak_rk (A p.toNatClampNeg) m ≠ none) : ∃ K : xk_T, xr_K (ak_up A p.toNatClampNeg (ak_nm (3, 0, [], ak_ur (ak_rk (A p.toNatClampNeg)) m none, ak_dl (A p.toNatClampNeg)))) K ∧ ∀ {f_time f_logged f_safe f_broken f_silent : Int32} {f_turns : Int64} {a_version a_logOp a_logKey a_logA a_logB a_state a_gathered a_answered a_watching a_seen a_cOp a_cKey a_cA a_cB : Nat → Int32} {a_results a_taken : Nat → Int64} {a_waitsFor a_until : Nat → Int32} {a_turn : Nat → Int64} {a_source : Nat → Int32} (post : SX → Prop), post (K.1, f_time, f_logged, f_safe, f_broken, f_silent, f_turns, K.2.1, K.2.2.1, K.2.2.2.1, K.2.2.2.2.1, K.2.2.2.2.2.1, K.2.2.2.2.2.2.1, a_version, K.2.2.2.2.2.2.2.1, K.2.2.2.2.2.2.2.2.1, K.2.2.2.2.2.2.2.2.2, a_logOp, a_logKey, a_logA, a_logB, a_state, a_gathered, a_answered, a_watching, a_seen, a_cOp, a_cKey, a_cA, a_cB, a_results, a_taken, a_waitsFor, a_until, a_turn, a_source) → wpX_strike post (f_dues, f_time, f_logged, f_safe, f_broken, f_silent, f_turns, a_kind, a_first, a_size, a_number, a_ring, a_score, a_version, a_ranked, a_deadline, a_due, a_logOp, a_logKey, a_logA, a_logB, a_state, a_gathered, a_answered, a_watching, a_seen, a_cOp, a_cKey, a_cA, a_cB, a_results, a_taken, a_waitsFor, a_until, a_turn, a_source) p (nI m) := by
  have kp := (nu_key hp (by omega)).2
  obtain ⟨Gp, h1, h2, h3, ⟨f, hf, h4, h5⟩, g, h6⟩ := hK.2.1 _ kp
  dsimp only at h1 h2 h3 h4 h5 h6
  obtain ⟨hl, hsz, h16⟩ := xo_rsz Gp (Or.inr hk)
  obtain ⟨t, et⟩ := Option.ne_none_iff_exists'.mp hr
  have hN12 := ak_Gn Gp
  have hd := ak_n_del hm et
  rw [hsz, hd] at h2
  rw [hd] at h6
  obtain ⟨c, g1, hc, hR1, d, l, q, hdl, W⟩ := xk_strike hp hK.2.2 hm (by omega) h2 h6 hr
  refine ⟨(d, if ak_n (ak_ur (ak_rk (A p.toNatClampNeg)) m none) = 0 then upd a_kind p.toNatClampNeg 0 else a_kind, if ak_n (ak_ur (ak_rk (A p.toNatClampNeg)) m none) = 0 then upd a_first p.toNatClampNeg 0 else a_first, upd a_size p.toNatClampNeg (nI (ak_n (ak_ur (ak_rk (A p.toNatClampNeg)) m none))), a_number, a_ring, a_score, sh_l a_ranked (12 * p.toNatClampNeg + c) (12 * p.toNatClampNeg + ak_n (ak_ur (ak_rk (A p.toNatClampNeg)) m none)), l, q), ?_, ?_⟩
  · have hN : ak_n (ak_ur (ak_rk (A p.toNatClampNeg)) m none) < 12 := by omega
    rcases Nat.eq_zero_or_pos (ak_n (ak_ur (ak_rk (A p.toNatClampNeg)) m none)) with z | z
    · rw [xo_nmE (by rw [xo_szr]; exact z), if_pos z, if_pos z]
      rw [if_pos z] at hdl
      exact xr_up hK kp ak_GE (xr_1E rfl rfl pk_us (by rw [pk_us, z]; rfl) (fun e => absurd e (by decide)) ⟨0, by omega, pk_us⟩) (fun j _ hne => ⟨pk_un hne, pk_un hne, pk_un hne, rfl, fun _ _ => rfl, fun _ _ => rfl, fun i hi => xr_ol hN hi hne⟩) hdl
    · rw [xo_nmN (by rw [xo_szr]; omega), if_neg (by omega), if_neg (by omega)]
      rw [if_neg (by omega)] at hdl
      exact xr_up hK kp (xo_Gr (ak_Gd Gp) z (by omega) (xo_ur16 hm h16)) ⟨by rw [h1, hk], by rw [pk_us, xo_szr], fun e => absurd e nu_31, ⟨f, hf, h4, xr_L0⟩, g1, hR1⟩ (fun j _ hne => ⟨rfl, rfl, pk_un hne, rfl, fun _ _ => rfl, fun _ _ => rfl, fun i hi => xr_ol hN hi hne⟩) (by rw [xd_upI rfl]; exact hdl)
  · intro f_time f_logged f_safe f_broken f_silent f_turns a_version a_logOp a_logKey a_logA a_logB a_state a_gathered a_answered a_watching a_seen a_cOp a_cKey a_cA a_cB a_results a_taken a_waitsFor a_until a_turn a_source post hpost
    exact W _ hpost
/-- nothing changes but where it lies -/
theorem xa_no2 {o p a b : Int32} {A B : Nat → ak_T} {r : Int64} {f_dues f_logged f_broken f_silent f_safe : Int32} {a_kind a_first a_size a_number a_ring a_score a_ranked a_deadline a_due a_logOp a_logKey a_logA a_logB : Nat → Int32} {K : xk_T} (hK : xr_K A K) (hL : lo_R f_silent f_safe (f_logged, f_broken, a_logOp, a_logKey, a_logA, a_logB) A B) (h11 : ¬ o = 11) (h1 : ak_one o a b (A p.toNatClampNeg) = (r, none)) (hW : ∀ {f_time : Int32} {f_turns : Int64} {a_version a_state a_gathered a_answered a_watching a_seen a_cOp a_cKey a_cA a_cB : Nat → Int32} {a_results a_taken : Nat → Int64} {a_waitsFor a_until : Nat → Int32} {a_turn : Nat → Int64} {a_source : Nat → Int32} (post : Int64 → SX → Prop), post r (K.1, f_time, f_logged, f_safe, f_broken, f_silent, f_turns, K.2.1, K.2.2.1, K.2.2.2.1, K.2.2.2.2.1, K.2.2.2.2.2.1, K.2.2.2.2.2.2.1, a_version, K.2.2.2.2.2.2.2.1, K.2.2.2.2.2.2.2.2.1, K.2.2.2.2.2.2.2.2.2, a_logOp, a_logKey, a_logA, a_logB, a_state, a_gathered, a_answered, a_watching, a_seen, a_cOp, a_cKey, a_cA, a_cB, a_results, a_taken, a_waitsFor, a_until, a_turn, a_source) → wpX_apply post (f_dues, f_time, f_logged, f_safe, f_broken, f_silent, f_turns, a_kind, a_first, a_size, a_number, a_ring, a_score, a_version, a_ranked, a_deadline, a_due, a_logOp, a_logKey, a_logA, a_logB, a_state, a_gathered, a_answered, a_watching, a_seen, a_cOp, a_cKey, a_cA, a_cB, a_results, a_taken, a_waitsFor, a_until, a_turn, a_source) o p a b) : xa_P o p a b A B (f_dues := f_dues) (f_logged := f_logged) (f_broken := f_broken) (f_silent := f_silent) (f_safe := f_safe) (a_kind := a_kind) (a_first := a_first) (a_size := a_size) (a_number := a_number) (a_ring := a_ring) (a_score := a_score) (a_ranked := a_ranked) (a_deadline := a_deadline) (a_due := a_due) (a_logOp := a_logOp) (a_logKey := a_logKey) (a_logA := a_logA) (a_logB := a_logB) := by
  obtain ⟨e1, e2, e3⟩ := ak_sn h11 h1
  refine ⟨K, (f_logged, f_broken, a_logOp, a_logKey, a_logA, a_logB), by rw [e1]; exact hK, by rw [e1]; exact hL, fun _ => rfl, ?_⟩
  intro f_time f_turns a_version a_state a_gathered a_answered a_watching a_seen a_cOp a_cKey a_cA a_cB a_results a_taken a_waitsFor a_until a_turn a_source post hpost
  rw [e2, e3, xv_0] at hpost
  exact hW post hpost
theorem xo_f3 {o : Int32} (ho : o = 7 ∨ o = 8 ∨ o = 9 ∨ o = 10) {x : ak_T} (h : ak_G x) : ((x.1 = 0 ∨ x.1 = 3) → ak_fit o x.1 = 1) ∧ (¬ (x.1 = 0 ∨ x.1 = 3) → ak_fit o x.1 = 0) := by
  refine ⟨fun hw => ?_, fun hw => ?_⟩
  · rcases hw with e | e <;> rw [e] <;> rcases ho with e | e | e | e <;> rw [e] <;> decide
  · rcases ak_Gk h with e | e | e | e
    · exact absurd (Or.inl e) hw
    · rw [e]; rcases ho with e | e | e | e <;> rw [e] <;> decide
    · rw [e]; rcases ho with e | e | e | e <;> rw [e] <;> decide
    · exact absurd (Or.inr e) hw
theorem xo_k3 {x : ak_T} (h : ak_G x) {kd : Int32} (e : kd = x.1) : kd = 3 ∨ ak_rk x = ak_0 := by
  rcases h with h | ⟨_, h | h | h⟩
  · rw [h]; exact Or.inr rfl
  · exact Or.inr h.2.2
  · exact Or.inr h.2.2.2.2
  · exact Or.inl (e.trans h.1)
theorem xo_gg {r : Nat → Option Int32} {m : Nat} {t : Int32} (h : r m = some t) : ak_g r m = t := by unfold ak_g; rw [h]; rfl
theorem xo_7 {p b : Int32} (hp : vp_in p 8) {m : Nat} (hm : m < 16) {A B : Nat → ak_T} {f_dues f_logged f_broken f_silent f_safe : Int32} {a_kind a_first a_size a_number a_ring a_score a_ranked a_deadline a_due a_logOp a_logKey a_logA a_logB : Nat → Int32} (hK : xr_K A (f_dues, a_kind, a_first, a_size, a_number, a_ring, a_score, a_ranked, a_deadline, a_due)) (hL : lo_R f_silent f_safe (f_logged, f_broken, a_logOp, a_logKey, a_logA, a_logB) A B) : xa_P 7 p (nI m) b A B (f_dues := f_dues) (f_logged := f_logged) (f_broken := f_broken) (f_silent := f_silent) (f_safe := f_safe) (a_kind := a_kind) (a_first := a_first) (a_size := a_size) (a_number := a_number) (a_ring := a_ring) (a_score := a_score) (a_ranked := a_ranked) (a_deadline := a_deadline) (a_due := a_due) (a_logOp := a_logOp) (a_logKey := a_logKey) (a_logA := a_logA) (a_logB := a_logB) := by
  have kp := (nu_key hp (by omega)).2
  have cm : (nI m).toNatClampNeg = m := nI_clamp (by omega)
  obtain ⟨Gp, h1, h2, h3, ⟨f, hf, h4, h5⟩, g, h6⟩ := hK.2.1 _ kp
  dsimp only at h1 h2 h3 h4 h5 h6
  have hfit := xo_f3 (o := 7) (Or.inl rfl) Gp
  have hok : ak_ok 7 p.toNatClampNeg (nI m) := ⟨⟨7, by omega, rfl⟩, kp, fun h => absurd h (by decide), fun _ => vp_in_nI hm (by omega), fun h => absurd h (by decide)⟩
  by_cases hw : (A p.toNatClampNeg).1 = 0 ∨ (A p.toNatClampNeg).1 = 3
  · obtain ⟨hl, hsz, h16⟩ := xo_rsz Gp hw
    rw [hsz] at h2
    have hN12 := ak_Gn Gp
    by_cases hr : ak_rk (A p.toNatClampNeg) m = none
    · by_cases hfull : ak_n (ak_rk (A p.toNatClampNeg)) = 12
      · have hone : ak_one 7 (nI m) b (A p.toNatClampNeg) = (10000000003, none) := by rw [ak_o7, cm]; unfold ak_c7; rw [if_pos hw, if_pos hr, if_pos hfull]
        refine xa_no hK hL (by decide) hone ?_
        intro f_time f_turns a_version a_state a_gathered a_answered a_watching a_seen a_cOp a_cKey a_cA a_cB a_results a_taken a_waitsFor a_until a_turn a_source post hpost
        unfold wpX_apply
        refine xa_fit1 hp h1 (hfit.1 hw) (br_f (by decide) (br_f (by decide) (br_f (by decide) (br_f (by decide) (xk_is hp hm hN12 (xo_k3 Gp h1) h2 h6 ?_)))))
        rw [if_pos hr]
        exact br_f (by decide) (br_t rfl (And.intro hp (br_t (by rw [h2, hfull]; rfl) hpost)))
      · have hone : ak_one 7 (nI m) b (A p.toNatClampNeg) = (1, some (3, 0, [], ak_ur (ak_rk (A p.toNatClampNeg)) m (some b), ak_dl (A p.toNatClampNeg))) := by rw [ak_o7, cm]; unfold ak_c7; rw [if_pos hw, if_pos hr, if_neg hfull]
        obtain ⟨K, hK', W⟩ := xq_new (s := b) hp hm hK hw hr (by omega)
        refine xa_yes hp (a' := nI m) (b' := b) hok hK' hL (by decide) hone ⟨_, hone⟩ ?_
        intro f_time f_turns a_version a_state a_gathered a_answered a_watching a_seen a_cOp a_cKey a_cA a_cB a_results a_taken a_waitsFor a_until a_turn a_source post hQ
        unfold wpX_apply
        refine xa_fit1 hp h1 (hfit.1 hw) (br_f (by decide) (br_f (by decide) (br_f (by decide) (br_f (by decide) (xk_is hp hm hN12 (xo_k3 Gp h1) h2 h6 ?_)))))
        rw [if_pos hr]
        exact br_f (by decide) (br_t rfl (And.intro hp (br_f (by rw [h2]; intro e; exact hfull ((nI_eq (b := 12) (by omega) (by omega)).mp e)) (And.intro (nu_16x hp hm) (nm_e (br_t rfl (br_t rfl (W _ (br_f (by decide) (br_t rfl (hQ _ (fun L h => br_f (by decide) (br_t rfl h)))))))))))))
    · obtain ⟨t, et⟩ := Option.ne_none_iff_exists'.mp hr
      obtain ⟨K1, K, hK', W1, W2⟩ := xq_set (s := b) hp hm hK hw hr
      have esc : a_score (16 * p.toNatClampNeg + m) = t := by
        obtain ⟨i, hi, ei⟩ := h6.1.2.2 m hm (xr_is et)
        have := (h6.2.2 i hi).2
        rw [ei, et] at this
        exact (Option.some.inj this).symm
      by_cases htb : t = b
      · have hone : ak_one 7 (nI m) b (A p.toNatClampNeg) = (0, none) := by rw [ak_o7, cm]; unfold ak_c7; rw [if_pos hw, if_neg hr, xo_gg et, if_pos htb]
        have hx : ak_up A p.toNatClampNeg (3, 0, [], ak_ur (ak_rk (A p.toNatClampNeg)) m (some b), ak_dl (A p.toNatClampNeg)) = A := by
          have e3 : (A p.toNatClampNeg).1 = 3 := hw.resolve_left (fun e => hr (by rw [ak_G0 Gp e]; rfl))
          have e0 := (ak_G3 Gp e3).1
          have : (3, 0, [], ak_ur (ak_rk (A p.toNatClampNeg)) m (some b), ak_dl (A p.toNatClampNeg)) = A p.toNatClampNeg := by
            rw [← htb, ← et, ak_urI, ← e3, ← e0, ← hl]
          rw [this, ak_upI]
        rw [hx] at hK'
        refine xa_no2 hK' hL (by decide) hone ?_
        intro f_time f_turns a_version a_state a_gathered a_answered a_watching a_seen a_cOp a_cKey a_cA a_cB a_results a_taken a_waitsFor a_until a_turn a_source post hpost
        unfold wpX_apply
        refine xa_fit1 hp h1 (hfit.1 hw) (br_f (by decide) (br_f (by decide) (br_f (by decide) (br_f (by decide) (xk_is hp hm hN12 (xo_k3 Gp h1) h2 h6 ?_)))))
        rw [if_neg hr]
        exact br_f (by decide) (br_f (by decide) (And.intro (nu_16x hp hm) (nm_r (e' := t) (by rw [nu_16c hp hm, esc]) (br_t rfl (br_f (by decide) (W1 _ (W2 _ (br_f (by decide) (br_f (by decide) (br_t htb (br_f (by decide) (br_f (by decide) hpost))))))))))))
      · have hone : ak_one 7 (nI m) b (A p.toNatClampNeg) = (0, some (3, 0, [], ak_ur (ak_rk (A p.toNatClampNeg)) m (some b), ak_dl (A p.toNatClampNeg))) := by rw [ak_o7, cm]; unfold ak_c7; rw [if_pos hw, if_neg hr, xo_gg et, if_neg htb]
        refine xa_yes hp (a' := nI m) (b' := b) hok hK' hL (by decide) hone ⟨_, hone⟩ ?_
        intro f_time f_turns a_version a_state a_gathered a_answered a_watching a_seen a_cOp a_cKey a_cA a_cB a_results a_taken a_waitsFor a_until a_turn a_source post hQ
        unfold wpX_apply
        refine xa_fit1 hp h1 (hfit.1 hw) (br_f (by decide) (br_f (by decide) (br_f (by decide) (br_f (by decide) (xk_is hp hm hN12 (xo_k3 Gp h1) h2 h6 ?_)))))
        rw [if_neg hr]
        exact br_f (by decide) (br_f (by decide) (And.intro (nu_16x hp hm) (nm_r (e' := t) (by rw [nu_16c hp hm, esc]) (br_t rfl (br_f (by decide) (W1 _ (W2 _ (br_f (by decide) (br_f (by decide) (br_f htb (hQ _ (fun L h => br_f (by decide) (br_f (by decide) h)))))))))))))
  · have hone : ak_one 7 (nI m) b (A p.toNatClampNeg) = (10000000001, none) := by rw [ak_o7]; unfold ak_c7; rw [if_neg hw]
    exact xa_no hK hL (by decide) hone (fun post hpost => xa_wrong hp h1 (hfit.2 hw) hpost)
theorem xo_8 {p b : Int32} (hp : vp_in p 8) {m : Nat} (hm : m < 16) {A B : Nat → ak_T} {f_dues f_logged f_broken f_silent f_safe : Int32} {a_kind a_first a_size a_number a_ring a_score a_ranked a_deadline a_due a_logOp a_logKey a_logA a_logB : Nat → Int32} (hK : xr_K A (f_dues, a_kind, a_first, a_size, a_number, a_ring, a_score, a_ranked, a_deadline, a_due)) (hL : lo_R f_silent f_safe (f_logged, f_broken, a_logOp, a_logKey, a_logA, a_logB) A B) : xa_P 8 p (nI m) b A B (f_dues := f_dues) (f_logged := f_logged) (f_broken := f_broken) (f_silent := f_silent) (f_safe := f_safe) (a_kind := a_kind) (a_first := a_first) (a_size := a_size) (a_number := a_number) (a_ring := a_ring) (a_score := a_score) (a_ranked := a_ranked) (a_deadline := a_deadline) (a_due := a_due) (a_logOp := a_logOp) (a_logKey := a_logKey) (a_logA := a_logA) (a_logB := a_logB) := by
  have kp := (nu_key hp (by omega)).2
  have cm : (nI m).toNatClampNeg = m := nI_clamp (by omega)
  obtain ⟨Gp, h1, h2, h3, ⟨f, hf, h4, h5⟩, g, h6⟩ := hK.2.1 _ kp
  dsimp only at h1 h2 h3 h4 h5 h6
  have hfit := xo_f3 (o := 8) (Or.inr (Or.inl rfl)) Gp
  have hok : ak_ok 8 p.toNatClampNeg (nI m) := ⟨⟨8, by omega, rfl⟩, kp, fun h => absurd h (by decide), fun _ => vp_in_nI hm (by omega), fun h => absurd h (by decide)⟩
  by_cases hw : (A p.toNatClampNeg).1 = 0 ∨ (A p.toNatClampNeg).1 = 3
  · obtain ⟨hl, hsz, h16⟩ := xo_rsz Gp hw
    rw [hsz] at h2
    have hN12 := ak_Gn Gp
    by_cases hr : ak_rk (A p.toNatClampNeg) m = none
    · by_cases hfull : ak_n (ak_rk (A p.toNatClampNeg)) = 12
      · have hone : ak_one 8 (nI m) b (A p.toNatClampNeg) = (10000000003, none) := by rw [ak_o8, cm]; unfold ak_c8; rw [if_pos hw, if_pos hr, if_pos hfull]
        refine xa_no hK hL (by decide) hone ?_
        intro f_time f_turns a_version a_state a_gathered a_answered a_watching a_seen a_cOp a_cKey a_cA a_cB a_results a_taken a_waitsFor a_until a_turn a_source post hpost
        unfold wpX_apply
        refine xa_fit1 hp h1 (hfit.1 hw) (br_f (by decide) (br_f (by decide) (br_f (by decide) (br_f (by decide) (xk_is hp hm hN12 (xo_k3 Gp h1) h2 h6 ?_)))))
        rw [if_pos hr]
        exact br_f (by decide) (br_t rfl (And.intro hp (br_t (by rw [h2, hfull]; rfl) hpost)))
      · have hone : ak_one 8 (nI m) b (A p.toNatClampNeg) = (b.toInt64, some (3, 0, [], ak_ur (ak_rk (A p.toNatClampNeg)) m (some b), ak_dl (A p.toNatClampNeg))) := by rw [ak_o8, cm]; unfold ak_c8; rw [if_pos hw, if_pos hr, if_neg hfull]
        obtain ⟨K, hK', W⟩ := xq_new (s := b) hp hm hK hw hr (by omega)
        refine xa_yes hp (a' := nI m) (b' := b) hok hK' hL (by decide) hone ⟨_, hone⟩ ?_
        intro f_time f_turns a_version a_state a_gathered a_answered a_watching a_seen a_cOp a_cKey a_cA a_cB a_results a_taken a_waitsFor a_until a_turn a_source post hQ
        unfold wpX_apply
        refine xa_fit1 hp h1 (hfit.1 hw) (br_f (by decide) (br_f (by decide) (br_f (by decide) (br_f (by decide) (xk_is hp hm hN12 (xo_k3 Gp h1) h2 h6 ?_)))))
        rw [if_pos hr]
        exact br_f (by decide) (br_t rfl (And.intro hp (br_f (by rw [h2]; intro e; exact hfull ((nI_eq (b := 12) (by omega) (by omega)).mp e)) (And.intro (nu_16x hp hm) (nm_e (br_f (by decide) (br_t rfl (br_t rfl (W _ (br_t rfl (hQ _ (fun L h => br_t rfl h))))))))))))
    · obtain ⟨t, et⟩ := Option.ne_none_iff_exists'.mp hr
      obtain ⟨K1, K, hK', W1, W2⟩ := xq_set (s := t + b) hp hm hK hw hr
      have esc : a_score (16 * p.toNatClampNeg + m) = t := by
        obtain ⟨i, hi, ei⟩ := h6.1.2.2 m hm (xr_is et)
        have := (h6.2.2 i hi).2
        rw [ei, et] at this
        exact (Option.some.inj this).symm
      have hone : ak_one 8 (nI m) b (A p.toNatClampNeg) = ((t + b).toInt64, some (3, 0, [], ak_ur (ak_rk (A p.toNatClampNeg)) m (some (t + b)), ak_dl (A p.toNatClampNeg))) := by rw [ak_o8, cm]; unfold ak_c8; rw [if_pos hw, if_neg hr, xo_gg et]
      refine xa_yes hp (a' := nI m) (b' := b) hok hK' hL (by decide) hone ⟨_, hone⟩ ?_
      intro f_time f_turns a_version a_state a_gathered a_answered a_watching a_seen a_cOp a_cKey a_cA a_cB a_results a_taken a_waitsFor a_until a_turn a_source post hQ
      unfold wpX_apply
      refine xa_fit1 hp h1 (hfit.1 hw) (br_f (by decide) (br_f (by decide) (br_f (by decide) (br_f (by decide) (xk_is hp hm hN12 (xo_k3 Gp h1) h2 h6 ?_)))))
      rw [if_neg hr]
      exact br_f (by decide) (br_f (by decide) (And.intro (nu_16x hp hm) (nm_r (e' := t) (by rw [nu_16c hp hm, esc]) (br_f (by decide) (br_f (by decide) (br_f (by decide) (W1 _ (W2 _ (br_t rfl (hQ _ (fun L h => br_t rfl h)))))))))))
  · have hone : ak_one 8 (nI m) b (A p.toNatClampNeg) = (10000000001, none) := by rw [ak_o8]; unfold ak_c8; rw [if_neg hw]
    exact xa_no hK hL (by decide) hone (fun post hpost => xa_wrong hp h1 (hfit.2 hw) hpost)
theorem xo_9 {p b : Int32} (hp : vp_in p 8) {m : Nat} (hm : m < 16) {A B : Nat → ak_T} {f_dues f_logged f_broken f_silent f_safe : Int32} {a_kind a_first a_size a_number a_ring a_score a_ranked a_deadline a_due a_logOp a_logKey a_logA a_logB : Nat → Int32} (hK : xr_K A (f_dues, a_kind, a_first, a_size, a_number, a_ring, a_score, a_ranked, a_deadline, a_due)) (hL : lo_R f_silent f_safe (f_logged, f_broken, a_logOp, a_logKey, a_logA, a_logB) A B) : xa_P 9 p (nI m) b A B (f_dues := f_dues) (f_logged := f_logged) (f_broken := f_broken) (f_silent := f_silent) (f_safe := f_safe) (a_kind := a_kind) (a_first := a_first) (a_size := a_size) (a_number := a_number) (a_ring := a_ring) (a_score := a_score) (a_ranked := a_ranked) (a_deadline := a_deadline) (a_due := a_due) (a_logOp := a_logOp) (a_logKey := a_logKey) (a_logA := a_logA) (a_logB := a_logB) := by
  have kp := (nu_key hp (by omega)).2
  have cm : (nI m).toNatClampNeg = m := nI_clamp (by omega)
  obtain ⟨Gp, h1, h2, h3, ⟨f, hf, h4, h5⟩, g, h6⟩ := hK.2.1 _ kp
  dsimp only at h1 h2 h3 h4 h5 h6
  have hfit := xo_f3 (o := 9) (Or.inr (Or.inr (Or.inl rfl))) Gp
  have hok : ak_ok 9 p.toNatClampNeg (nI m) := ⟨⟨9, by omega, rfl⟩, kp, fun h => absurd h (by decide), fun _ => vp_in_nI hm (by omega), fun h => absurd h (by decide)⟩
  by_cases hw : (A p.toNatClampNeg).1 = 0 ∨ (A p.toNatClampNeg).1 = 3
  · obtain ⟨hl, hsz, h16⟩ := xo_rsz Gp hw
    rw [hsz] at h2
    have hN12 := ak_Gn Gp
    by_cases hr : ak_rk (A p.toNatClampNeg) m = none
    · have hone : ak_one 9 (nI m) b (A p.toNatClampNeg) = (0, none) := by rw [ak_o9, cm]; unfold ak_c9; rw [if_pos hw, if_pos hr]
      refine xa_no hK hL (by decide) hone ?_
      intro f_time f_turns a_version a_state a_gathered a_answered a_watching a_seen a_cOp a_cKey a_cA a_cB a_results a_taken a_waitsFor a_until a_turn a_source post hpost
      unfold wpX_apply
      refine xa_fit1 hp h1 (hfit.1 hw) (br_f (by decide) (br_f (by decide) (br_f (by decide) (br_f (by decide) (xk_is hp hm hN12 (xo_k3 Gp h1) h2 h6 ?_)))))
      rw [if_pos hr]
      exact br_t rfl (br_t rfl hpost)
    · have e3 : (A p.toNatClampNeg).1 = 3 := hw.resolve_left (fun e => hr (by rw [ak_G0 Gp e]; rfl))
      have hone : ∀ b, ak_one 9 (nI m) b (A p.toNatClampNeg) = (1, some (ak_nm (3, 0, [], ak_ur (ak_rk (A p.toNatClampNeg)) m none, ak_dl (A p.toNatClampNeg)))) := fun b => by rw [ak_o9, cm]; unfold ak_c9; rw [if_pos hw, if_neg hr]
      obtain ⟨K, hK', W⟩ := xq_del hp hm hK e3 hr
      refine xa_yes hp (a' := nI m) (b' := 0) hok hK' hL (by decide) (hone b) ⟨_, hone 0⟩ ?_
      intro f_time f_turns a_version a_state a_gathered a_answered a_watching a_seen a_cOp a_cKey a_cA a_cB a_results a_taken a_waitsFor a_until a_turn a_source post hQ
      unfold wpX_apply
      refine xa_fit1 hp h1 (hfit.1 hw) (br_f (by decide) (br_f (by decide) (br_f (by decide) (br_f (by decide) (xk_is hp hm hN12 (xo_k3 Gp h1) h2 h6 ?_)))))
      rw [if_neg hr]
      exact br_t rfl (br_f (by decide) (W _ (hQ _ (fun L h => h))))
  · have hone : ak_one 9 (nI m) b (A p.toNatClampNeg) = (10000000001, none) := by rw [ak_o9]; unfold ak_c9; rw [if_neg hw]
    exact xa_no hK hL (by decide) hone (fun post hpost => xa_wrong hp h1 (hfit.2 hw) hpost)
theorem xo_10 {p a b : Int32} (hp : vp_in p 8) {A B : Nat → ak_T} {f_dues f_logged f_broken f_silent f_safe : Int32} {a_kind a_first a_size a_number a_ring a_score a_ranked a_deadline a_due a_logOp a_logKey a_logA a_logB : Nat → Int32} (hK : xr_K A (f_dues, a_kind, a_first, a_size, a_number, a_ring, a_score, a_ranked, a_deadline, a_due)) (hL : lo_R f_silent f_safe (f_logged, f_broken, a_logOp, a_logKey, a_logA, a_logB) A B) : xa_P 10 p a b A B (f_dues := f_dues) (f_logged := f_logged) (f_broken := f_broken) (f_silent := f_silent) (f_safe := f_safe) (a_kind := a_kind) (a_first := a_first) (a_size := a_size) (a_number := a_number) (a_ring := a_ring) (a_score := a_score) (a_ranked := a_ranked) (a_deadline := a_deadline) (a_due := a_due) (a_logOp := a_logOp) (a_logKey := a_logKey) (a_logA := a_logA) (a_logB := a_logB) := by
  have kp := (nu_key hp (by omega)).2
  obtain ⟨Gp, h1, h2, h3, ⟨f, hf, h4, h5⟩, g, h6⟩ := hK.2.1 _ kp
  dsimp only at h1 h2 h3 h4 h5 h6
  have hfit := xo_f3 (o := 10) (Or.inr (Or.inr (Or.inr rfl))) Gp
  by_cases h0 : (A p.toNatClampNeg).1 = 0
  · have hone : ak_one 10 a b (A p.toNatClampNeg) = (10000000002, none) := by rw [ak_o10]; unfold ak_c10; rw [if_pos h0]
    refine xa_no hK hL (by decide) hone ?_
    intro f_time f_turns a_version a_state a_gathered a_answered a_watching a_seen a_cOp a_cKey a_cA a_cB a_results a_taken a_waitsFor a_until a_turn a_source post hpost
    unfold wpX_apply
    exact xa_fit1 hp h1 (hfit.1 (Or.inl h0)) (br_f (by decide) (br_f (by decide) (br_f (by decide) (br_t rfl (And.intro hp (br_t (h1.trans h0) hpost))))))
  · by_cases hk3 : (A p.toNatClampNeg).1 = 3
    · obtain ⟨_, _, hpos, hle, h16⟩ := ak_G3 Gp hk3
      have hat : ak_at (ak_rk (A p.toNatClampNeg)) 0 (g 0) := ⟨(h6.1.1 0 hpos).1, (h6.1.1 0 hpos).2, ak_nbG h6.1 h6.2.1 hpos⟩
      have hg := ak_leE hat
      have g16 := hat.1
      have hone : ∀ a b, ak_one 10 a b (A p.toNatClampNeg) = ((nI (g 0)).toInt64, some (ak_nm (3, 0, [], ak_ur (ak_rk (A p.toNatClampNeg)) (g 0) none, ak_dl (A p.toNatClampNeg)))) := fun a b => by rw [ak_o10]; unfold ak_c10; rw [if_neg h0, if_pos hk3, hg]
      have hr : ak_rk (A p.toNatClampNeg) (g 0) ≠ none := fun e => by have := hat.2.1; rw [e] at this; exact absurd this (by decide)
      obtain ⟨K, hK', W⟩ := xq_del hp g16 hK hk3 hr
      have p16 := nu_up hp (M := 16) (by omega) (by omega)
      refine xa_yes hp (a' := 0) (b' := 0) (ak_ok0 kp (n := 10) (by omega) rfl (by decide) (by decide) (by decide)) hK' hL (by decide) (hone a b) ⟨_, hone 0 0⟩ ?_
      intro f_time f_turns a_version a_state a_gathered a_answered a_watching a_seen a_cOp a_cKey a_cA a_cB a_results a_taken a_waitsFor a_until a_turn a_source post hQ
      unfold wpX_apply
      refine xa_fit1 hp h1 (hfit.1 (Or.inr hk3)) (br_f (by decide) (br_f (by decide) (br_f (by decide) (br_t rfl (And.intro hp (br_f (fun e => h0 (h1.symm.trans e)) (And.intro ?_ (nm_r (e' := nI (g 0)) ?_ (W _ (hQ _ (fun L h => h)))))))))))
      · rw [nu_12z p16]; exact vp_in_nI (by omega) (by omega)
      · rw [nu_12z p16, nI_clamp (by omega)]; exact (h6.2.2 0 hpos).1
    · have hone : ak_one 10 a b (A p.toNatClampNeg) = (10000000001, none) := by rw [ak_o10]; unfold ak_c10; rw [if_neg h0, if_neg hk3]
      exact xa_no hK hL (by decide) hone (fun post hpost => xa_wrong hp h1 (hfit.2 (fun e => e.elim h0 hk3)) hpost)
theorem xo_11 {p t b : Int32} (hp : vp_in p 8) (ht : vp_in t 8) (hne : t.toNatClampNeg ≠ p.toNatClampNeg) {A B : Nat → ak_T} {f_dues f_logged f_broken f_silent f_safe : Int32} {a_kind a_first a_size a_number a_ring a_score a_ranked a_deadline a_due a_logOp a_logKey a_logA a_logB : Nat → Int32} (hK : xr_K A (f_dues, a_kind, a_first, a_size, a_number, a_ring, a_score, a_ranked, a_deadline, a_due)) (hL : lo_R f_silent f_safe (f_logged, f_broken, a_logOp, a_logKey, a_logA, a_logB) A B) : xa_P 11 p t b A B (f_dues := f_dues) (f_logged := f_logged) (f_broken := f_broken) (f_silent := f_silent) (f_safe := f_safe) (a_kind := a_kind) (a_first := a_first) (a_size := a_size) (a_number := a_number) (a_ring := a_ring) (a_score := a_score) (a_ranked := a_ranked) (a_deadline := a_deadline) (a_due := a_due) (a_logOp := a_logOp) (a_logKey := a_logKey) (a_logA := a_logA) (a_logB := a_logB) := by
  have kp := (nu_key hp (by omega)).2
  have h1 : a_kind p.toNatClampNeg = (A p.toNatClampNeg).1 := (hK.2.1 _ kp).2.1
  by_cases z : (A p.toNatClampNeg).1 = 0
  · have e1 : ak_st 11 p.toNatClampNeg t b A = A := by unfold ak_st; rw [if_pos rfl, if_pos z]
    have e2 : ak_an 11 p.toNatClampNeg t b A = 0 := by unfold ak_an; rw [if_pos rfl, if_pos z]
    have e3 : ak_ch 11 p.toNatClampNeg t b A = fun _ => false := by funext j; unfold ak_ch; rw [if_pos rfl, if_pos z]
    refine ⟨(f_dues, a_kind, a_first, a_size, a_number, a_ring, a_score, a_ranked, a_deadline, a_due), (f_logged, f_broken, a_logOp, a_logKey, a_logA, a_logB), by rw [e1]; exact hK, by rw [e1]; exact hL, fun _ => rfl, ?_⟩
    intro f_time f_turns a_version a_state a_gathered a_answered a_watching a_seen a_cOp a_cKey a_cA a_cB a_results a_taken a_waitsFor a_until a_turn a_source post hpost
    rw [e2, e3, xv_0] at hpost
    exact xa_35 hp h1 rfl (Or.inr (by decide)) (br_f (by decide) (br_f (by decide) (br_f (by decide) (br_f (by decide) (br_f (by decide) (br_f (by decide) (br_f (by decide) (br_f (by decide) (br_f (by decide) (br_f (by decide) (br_f (by decide) (br_f (by decide) (br_f (by decide) (br_t rfl (And.intro hp (br_t (h1.trans z) hpost))))))))))))))))
  · have e1 : ∀ b, ak_st 11 p.toNatClampNeg t b A = ak_up (ak_up A t.toNatClampNeg (A p.toNatClampNeg)) p.toNatClampNeg ak_E := fun b => by unfold ak_st; rw [if_pos rfl, if_neg z]
    have e2 : ak_an 11 p.toNatClampNeg t b A = 1 := by unfold ak_an; rw [if_pos rfl, if_neg z]
    have e3 : ak_ch 11 p.toNatClampNeg t b A = fun j => decide (j = p.toNatClampNeg ∨ j = t.toNatClampNeg) := by funext j; unfold ak_ch; rw [if_pos rfl, if_neg z]
    obtain ⟨K, hK', W⟩ := xn_ren hp ht hne hK z
    obtain ⟨L, hL', hs, Wc⟩ := lo_ch (o := 11) (a := t) (b := 0) hp ⟨⟨11, by omega, rfl⟩, kp, fun h => absurd h (by decide), fun h => absurd h (by decide), fun _ => ⟨ht, hne⟩⟩ (e1 0) hL
    refine ⟨K, L, by rw [e1]; exact hK', by rw [e1]; exact hL', hs, ?_⟩
    intro f_time f_turns a_version a_state a_gathered a_answered a_watching a_seen a_cOp a_cKey a_cA a_cB a_results a_taken a_waitsFor a_until a_turn a_source post hpost
    rw [e2, e3, xv_2 _ hne] at hpost
    exact xa_35 hp h1 rfl (Or.inr (by decide)) (br_f (by decide) (br_f (by decide) (br_f (by decide) (br_f (by decide) (br_f (by decide) (br_f (by decide) (br_f (by decide) (br_f (by decide) (br_f (by decide) (br_f (by decide) (br_f (by decide) (br_f (by decide) (br_f (by decide) (br_t rfl (W _ (And.intro ht (And.intro ht (nm_e (Wc _ hpost)))))))))))))))))))
/-- every command that may be given -/
theorem xa_all {o p a b : Int32} (hp : vp_in p 8) (hok : ak_ok o p.toNatClampNeg a) {A B : Nat → ak_T} {f_dues f_logged f_broken f_silent f_safe : Int32} {a_kind a_first a_size a_number a_ring a_score a_ranked a_deadline a_due a_logOp a_logKey a_logA a_logB : Nat → Int32} (hK : xr_K A (f_dues, a_kind, a_first, a_size, a_number, a_ring, a_score, a_ranked, a_deadline, a_due)) (hL : lo_R f_silent f_safe (f_logged, f_broken, a_logOp, a_logKey, a_logA, a_logB) A B) : xa_P o p a b A B (f_dues := f_dues) (f_logged := f_logged) (f_broken := f_broken) (f_silent := f_silent) (f_safe := f_safe) (a_kind := a_kind) (a_first := a_first) (a_size := a_size) (a_number := a_number) (a_ring := a_ring) (a_score := a_score) (a_ranked := a_ranked) (a_deadline := a_deadline) (a_due := a_due) (a_logOp := a_logOp) (a_logKey := a_logKey) (a_logA := a_logA) (a_logB := a_logB) := by
  obtain ⟨⟨n, hn, rfl⟩, kp, h3, h7, h11⟩ := hok
  rcases (by omega : n = 0 ∨ n = 1 ∨ n = 2 ∨ n = 3 ∨ n = 4 ∨ n = 5 ∨ n = 6 ∨ n = 7 ∨ n = 8 ∨ n = 9 ∨ n = 10 ∨ n = 11) with e | e | e | e | e | e | e | e | e | e | e | e <;> subst e
  · exact xo_0 hp hK hL
  · exact xo_1 hp hK hL
  · exact xo_2 hp hK hL
  · exact xo_3 hp (h3 rfl) hK hL
  · exact xo_4 hp hK hL
  · exact xo_5 hp hK hL
  · exact xo_6 hp hK hL
  · obtain ⟨m, hm, rfl⟩ := vp_in_of (h7 (Or.inl rfl)) (by omega)
    exact xo_7 hp hm hK hL
  · obtain ⟨m, hm, rfl⟩ := vp_in_of (h7 (Or.inr (Or.inl rfl))) (by omega)
    exact xo_8 hp hm hK hL
  · obtain ⟨m, hm, rfl⟩ := vp_in_of (h7 (Or.inr (Or.inr rfl))) (by omega)
    exact xo_9 hp hm hK hL
  · exact xo_10 hp hK hL
  · exact xo_11 hp (h11 rfl).1 (h11 rfl).2 hK hL
end
section
/-! ===== Y: watchers learn of a change ===== -/
abbrev yb_t (w p : Int32) : Prop := ((w >>> (p &&& 31)) &&& 1) = 1
def yv_s (p : Int32) (w d : Nat → Int32) (x : Nat) : Nat → Int32 := fun i => if i < x ∧ yb_t (w i) p then 1 else d i
theorem yv_b1 : vp_nar .boolean 1 = 1 := by rfl
theorem yv_s0 (p : Int32) (w d : Nat → Int32) : yv_s p w d 0 = d := by
  funext i; unfold yv_s; rw [if_neg (fun h => absurd h.1 (Nat.not_lt_zero i))]
theorem yv_sy {p : Int32} {w d : Nat → Int32} {x : Nat} (h : yb_t (w x) p) : upd (yv_s p w d x) x 1 = yv_s p w d (x + 1) := by
  funext i
  by_cases z : i = x
  · subst z; rw [pk_us]; unfold yv_s; rw [if_pos ⟨by omega, h⟩]
  · rw [pk_un z]; unfold yv_s
    by_cases y : i < x ∧ yb_t (w i) p
    · rw [if_pos y, if_pos ⟨by omega, y.2⟩]
    · rw [if_neg y, if_neg (fun q => y ⟨by omega, q.2⟩)]
theorem yv_sn {p : Int32} {w d : Nat → Int32} {x : Nat} (h : ¬ yb_t (w x) p) : yv_s p w d x = yv_s p w d (x + 1) := by
  funext i
  unfold yv_s
  by_cases z : i = x
  · subst z; rw [if_neg (fun q => h q.2), if_neg (fun q => h q.2)]
  · by_cases y : i < x ∧ yb_t (w i) p
    · rw [if_pos y, if_pos ⟨by omega, y.2⟩]
    · rw [if_neg y, if_neg (fun q => y ⟨by omega, q.2⟩)]
theorem yc_2 {p : Int32} {q : Nat → Int32} {f_time : Int32} {f_waited : Int64} {a_kind a_number a_size a_item a_score a_deadline a_state a_first a_second a_until : Nat → Int32} {a_since : Nat → Int64} {a_watched a_op a_opKey a_opA a_opB a_queued : Nat → Int32} {a_answers : Nat → Int64} {a_answered : Nat → Int32} {a_took a_tookFrom : Nat → Int64} {post : SY → Prop} (hpost : post (f_time, f_waited, a_kind, a_number, a_size, a_item, a_score, a_deadline, a_state, a_first, a_second, a_until, a_since, a_watched, yv_s p a_watched q 4, a_op, a_opKey, a_opA, a_opB, a_queued, a_answers, a_answered, a_took, a_tookFrom)) : ∀ k x, x + k = 4 → ∀ n, k < n → wY_changes_2 post p f_time f_waited n (nI x) a_kind a_number a_size a_item a_score a_deadline a_state a_first a_second a_until a_since a_watched (yv_s p a_watched q x) a_op a_opKey a_opA a_opB a_queued a_answers a_answered a_took a_tookFrom := by
  intro k
  induction k with
  | zero =>
    intro x hx n hn
    obtain ⟨n, rfl⟩ := nu_suc hn
    have e : x = 4 := by omega
    subst e
    exact br_t (nI_le (a := 4) (b := 4) (by omega) (by omega)) hpost
  | succ k ih =>
    intro x hx n hn
    obtain ⟨n, rfl⟩ := nu_suc hn
    have cx : (nI x).toNatClampNeg = x := nI_clamp (by omega)
    have hi : vp_in (nI x) 4 := vp_in_nI (by omega) (by omega)
    have go := ih (x + 1) (by omega) n (by omega)
    refine br_f (nI_ge (b := 4) (by omega) (by omega)) (And.intro hi ?_)
    rw [cx]
    by_cases z : yb_t (a_watched x) p
    · exact br_t z (And.intro hi (nm_r (by rw [yv_b1]; exact yv_sy z) (nm_r (nI_1 x) go)))
    · refine br_f z (nm_r (nI_1 x) ?_)
      rw [yv_sn z]; exact go
theorem yc_ch {p : Int32} {f_time : Int32} {f_waited : Int64} {a_kind a_number a_size a_item a_score a_deadline a_state a_first a_second a_until : Nat → Int32} {a_since : Nat → Int64} {a_watched a_deceived a_op a_opKey a_opA a_opB a_queued : Nat → Int32} {a_answers : Nat → Int64} {a_answered : Nat → Int32} {a_took a_tookFrom : Nat → Int64} {post : SY → Prop} (hpost : post (f_time, f_waited, a_kind, a_number, a_size, a_item, a_score, a_deadline, a_state, a_first, a_second, a_until, a_since, a_watched, yv_s p a_watched a_deceived 4, a_op, a_opKey, a_opA, a_opB, a_queued, a_answers, a_answered, a_took, a_tookFrom)) : wpY_changes post (f_time, f_waited, a_kind, a_number, a_size, a_item, a_score, a_deadline, a_state, a_first, a_second, a_until, a_since, a_watched, a_deceived, a_op, a_opKey, a_opA, a_opB, a_queued, a_answers, a_answered, a_took, a_tookFrom) p := by
  have hw := yc_2 (p := p) (q := a_deceived) hpost 4 0 (by omega) 5 (by omega)
  rw [yv_s0] at hw
  exact ⟨5, hw⟩
/-! ===== Y: keys in plain rows ===== -/
theorem yn_no {p : Int32} (hp : vp_in p 16) {f_time : Int32} {f_waited : Int64} {a_kind a_number a_size a_item a_score a_deadline a_state a_first a_second a_until : Nat → Int32} {a_since : Nat → Int64} {a_watched a_deceived a_op a_opKey a_opA a_opB a_queued : Nat → Int32} {a_answers : Nat → Int64} {a_answered : Nat → Int32} {a_took a_tookFrom : Nat → Int64} {post : SY → Prop} (hpost : post (f_time, f_waited, upd a_kind p.toNatClampNeg 0, upd a_number p.toNatClampNeg 0, upd a_size p.toNatClampNeg 0, a_item, a_score, upd a_deadline p.toNatClampNeg 0, a_state, a_first, a_second, a_until, a_since, a_watched, a_deceived, a_op, a_opKey, a_opA, a_opB, a_queued, a_answers, a_answered, a_took, a_tookFrom)) : wpY_nothing post (f_time, f_waited, a_kind, a_number, a_size, a_item, a_score, a_deadline, a_state, a_first, a_second, a_until, a_since, a_watched, a_deceived, a_op, a_opKey, a_opA, a_opB, a_queued, a_answers, a_answered, a_took, a_tookFrom) p :=
  And.intro hp (nm_e (And.intro hp (nm_e (And.intro hp (nm_e (And.intro hp (nm_e hpost)))))))
theorem yo_28 {p v : Int32} (hp : vp_in p 16) {n c : Nat} (hn : n < 12) (hc : c ≤ n) {q1 q2 a_size : Nat → Int32} (hs : a_size p.toNatClampNeg = nI n) {f_time : Int32} {f_waited : Int64} {a_kind a_number a_deadline a_state a_first a_second a_until : Nat → Int32} {a_since : Nat → Int64} {a_watched a_deceived a_op a_opKey a_opA a_opB a_queued : Nat → Int32} {a_answers : Nat → Int64} {a_answered : Nat → Int32} {a_took a_tookFrom : Nat → Int64} {post : Int32 → SY → Prop} (hc0 : ∀ m, wY_out_28 post p v f_time f_waited (m + 1) (nI (12 * p.toNatClampNeg + n)) a_kind a_number a_size (sh_l q1 (12 * p.toNatClampNeg + c) (12 * p.toNatClampNeg + n)) (sh_l q2 (12 * p.toNatClampNeg + c) (12 * p.toNatClampNeg + n)) a_deadline a_state a_first a_second a_until a_since a_watched a_deceived a_op a_opKey a_opA a_opB a_queued a_answers a_answered a_took a_tookFrom) : ∀ k x, x + k = n → c ≤ x → ∀ m, k < m → wY_out_28 post p v f_time f_waited m (nI (12 * p.toNatClampNeg + x)) a_kind a_number a_size (sh_l q1 (12 * p.toNatClampNeg + c) (12 * p.toNatClampNeg + x)) (sh_l q2 (12 * p.toNatClampNeg + c) (12 * p.toNatClampNeg + x)) a_deadline a_state a_first a_second a_until a_since a_watched a_deceived a_op a_opKey a_opA a_opB a_queued a_answers a_answered a_took a_tookFrom := by
  have kp := (nu_key hp (by omega)).2
  intro k
  induction k with
  | zero =>
    intro x hx hcx m hm
    obtain ⟨m, rfl⟩ := nu_suc hm
    have e : x = n := by omega
    subst e
    exact hc0 m
  | succ k ih =>
    intro x hx hcx m hm
    obtain ⟨m, rfl⟩ := nu_suc hm
    have c1 : (nI (12 * p.toNatClampNeg + x)).toNatClampNeg = 12 * p.toNatClampNeg + x := nI_clamp (by omega)
    have e1 : nI (12 * p.toNatClampNeg + x) + 1 = nI (12 * p.toNatClampNeg + x + 1) := nI_1 _
    have c2 : (nI (12 * p.toNatClampNeg + x + 1)).toNatClampNeg = 12 * p.toNatClampNeg + x + 1 := nI_clamp (by omega)
    have v1 : vp_in (nI (12 * p.toNatClampNeg + x) + 1) 192 := by rw [e1]; exact vp_in_nI (by omega) (by omega)
    have v0 : vp_in (nI (12 * p.toNatClampNeg + x)) 192 := vp_in_nI (by omega) (by omega)
    have u : ∀ q : Nat → Int32, upd (sh_l q (12 * p.toNatClampNeg + c) (12 * p.toNatClampNeg + x)) (nI (12 * p.toNatClampNeg + x)).toNatClampNeg (sh_l q (12 * p.toNatClampNeg + c) (12 * p.toNatClampNeg + x) (nI (12 * p.toNatClampNeg + x) + 1).toNatClampNeg) = sh_l q (12 * p.toNatClampNeg + c) (12 * p.toNatClampNeg + (x + 1)) := fun q => by
      rw [e1, c1, c2, sh_lr]; exact sh_ls (by omega)
    refine And.intro hp (br_f ?_ (And.intro v1 (And.intro v0 (nm_r (u q1) (And.intro v1 (And.intro v0 (nm_r (u q2) (nm_r e1 (ih (x + 1) (by omega) (by omega) m (by omega))))))))))
    rw [hs, nu_12 hp]; exact nI_ge (by omega) (by omega)
theorem yo_28z {p v : Int32} (hp : vp_in p 16) {n c : Nat} (hn : n < 12) (hc : c ≤ n) {a_size : Nat → Int32} (hs : a_size p.toNatClampNeg = nI n) {f_time : Int32} {f_waited : Int64} {a_kind a_number a_item a_score a_deadline a_state a_first a_second a_until : Nat → Int32} {a_since : Nat → Int64} {a_watched a_deceived a_op a_opKey a_opA a_opB a_queued : Nat → Int32} {a_answers : Nat → Int64} {a_answered : Nat → Int32} {a_took a_tookFrom : Nat → Int64} {post : Int32 → SY → Prop} (hc0 : ∀ m, wY_out_28 post p v f_time f_waited (m + 1) (nI (12 * p.toNatClampNeg + n)) a_kind a_number a_size (sh_l a_item (12 * p.toNatClampNeg + c) (12 * p.toNatClampNeg + n)) (sh_l a_score (12 * p.toNatClampNeg + c) (12 * p.toNatClampNeg + n)) a_deadline a_state a_first a_second a_until a_since a_watched a_deceived a_op a_opKey a_opA a_opB a_queued a_answers a_answered a_took a_tookFrom) : wY_out_28 post p v f_time f_waited (n - c + 1) (nI (12 * p.toNatClampNeg + c)) a_kind a_number a_size a_item a_score a_deadline a_state a_first a_second a_until a_since a_watched a_deceived a_op a_opKey a_opA a_opB a_queued a_answers a_answered a_took a_tookFrom := by
  have hw := yo_28 hp hn hc (q1 := a_item) (q2 := a_score) hs hc0 (n - c) c (by omega) (by omega) (n - c + 1) (by omega)
  rw [sh_l0, sh_l0] at hw
  exact hw
theorem yo_out {p : Int32} (hp : vp_in p 16) {n c : Nat} (hn : n < 12) (hc : c ≤ n) {a_size : Nat → Int32} (hs : a_size p.toNatClampNeg = nI (n + 1)) {f_time : Int32} {f_waited : Int64} {a_kind a_number a_item a_score a_deadline a_state a_first a_second a_until : Nat → Int32} {a_since : Nat → Int64} {a_watched a_deceived a_op a_opKey a_opA a_opB a_queued : Nat → Int32} {a_answers : Nat → Int64} {a_answered : Nat → Int32} {a_took a_tookFrom : Nat → Int64} {post : Int32 → SY → Prop} (hpost : post (a_item (12 * p.toNatClampNeg + c)) (f_time, f_waited, if n = 0 then upd a_kind p.toNatClampNeg 0 else a_kind, if n = 0 then upd a_number p.toNatClampNeg 0 else a_number, upd a_size p.toNatClampNeg (nI n), sh_l a_item (12 * p.toNatClampNeg + c) (12 * p.toNatClampNeg + n), sh_l a_score (12 * p.toNatClampNeg + c) (12 * p.toNatClampNeg + n), if n = 0 then upd a_deadline p.toNatClampNeg 0 else a_deadline, a_state, a_first, a_second, a_until, a_since, a_watched, yv_s p a_watched a_deceived 4, a_op, a_opKey, a_opA, a_opB, a_queued, a_answers, a_answered, a_took, a_tookFrom)) : wpY_out post (f_time, f_waited, a_kind, a_number, a_size, a_item, a_score, a_deadline, a_state, a_first, a_second, a_until, a_since, a_watched, a_deceived, a_op, a_opKey, a_opA, a_opB, a_queued, a_answers, a_answered, a_took, a_tookFrom) p (nI c) := by
  have kp := (nu_key hp (by omega)).2
  have es : upd a_size p.toNatClampNeg (a_size p.toNatClampNeg - 1) = upd a_size p.toNatClampNeg (nI n) := by rw [hs, nI_pred]
  refine nm_r (nu_12 hp c) (And.intro (vp_in_nI (by omega) (by omega)) (nm_r (e' := a_item (12 * p.toNatClampNeg + c)) (by rw [nI_clamp (by omega)]) (And.intro hp (And.intro hp (nm_r es ⟨n - c + 1, ?_⟩)))))
  refine yo_28z hp hn hc pk_us (fun m => ?_)
  refine And.intro hp (br_t (by rw [pk_us, nu_12 hp]; exact nI_le (by omega) (by omega)) (And.intro hp ?_))
  rcases Nat.eq_zero_or_pos n with z | z
  · subst z
    rw [if_pos rfl, if_pos rfl, if_pos rfl] at hpost
    have e : upd (upd a_size p.toNatClampNeg (nI 0)) p.toNatClampNeg 0 = upd a_size p.toNatClampNeg (nI 0) := xd_upI pk_us
    refine br_t (by rw [pk_us]; rfl) (yn_no hp (yc_ch ?_))
    rw [e]; exact hpost
  · rw [if_neg (by omega), if_neg (by omega), if_neg (by omega)] at hpost
    exact br_f (by rw [pk_us]; exact nI_ne0 z (by omega)) (yc_ch hpost)
theorem yf_2 {p v : Int32} (hp : vp_in p 16) {n i : Nat} (hn : n ≤ 12) {a_size a_item : Nat → Int32} (hs : a_size p.toNatClampNeg = nI n) (hi : i ≤ n) (h1 : ∀ j, j < i → ¬ a_item (12 * p.toNatClampNeg + j) = v) {f_time : Int32} {f_waited : Int64} {a_kind a_number a_score a_deadline a_state a_first a_second a_until : Nat → Int32} {a_since : Nat → Int64} {a_watched a_deceived a_op a_opKey a_opA a_opB a_queued : Nat → Int32} {a_answers : Nat → Int64} {a_answered : Nat → Int32} {a_took a_tookFrom : Nat → Int64} {post : Int32 → Prop} (hpost : (i < n ∧ a_item (12 * p.toNatClampNeg + i) = v ∧ post (nI i)) ∨ (i = n ∧ post (-1))) : ∀ k x, x + k = i → ∀ m, k < m → wY_find_2 post p v f_time f_waited a_kind a_number a_size a_item a_score a_deadline a_state a_first a_second a_until a_since a_watched a_deceived a_op a_opKey a_opA a_opB a_queued a_answers a_answered a_took a_tookFrom m (nI x) := by
  intro k
  induction k with
  | zero =>
    intro x hx m hm
    obtain ⟨m, rfl⟩ := nu_suc hm
    have e : x = i := by omega
    subst e
    refine And.intro hp ?_
    rw [hs]
    rcases hpost with ⟨h2, h3, h4⟩ | ⟨h2, h3⟩
    · exact br_f (nI_ge h2 (by omega)) (And.intro (nu_12y hp (by omega)) (br_t (by rw [nu_12c hp (by omega)]; exact h3) h4))
    · exact br_t (nI_le (by omega) (by omega)) h3
  | succ k ih =>
    intro x hx m hm
    obtain ⟨m, rfl⟩ := nu_suc hm
    refine And.intro hp ?_
    rw [hs]
    exact br_f (nI_ge (by omega) (by omega)) (And.intro (nu_12y hp (by omega)) (br_f (by rw [nu_12c hp (by omega)]; exact h1 x (by omega)) (nm_r (nI_1 x) (ih (x + 1) (by omega) m (by omega)))))
theorem yf_hit {p v : Int32} (hp : vp_in p 16) {n i : Nat} (hn : n ≤ 12) {a_size a_item : Nat → Int32} (hs : a_size p.toNatClampNeg = nI n) (hi : i < n) (h1 : ∀ j, j < i → ¬ a_item (12 * p.toNatClampNeg + j) = v) (h2 : a_item (12 * p.toNatClampNeg + i) = v) {f_time : Int32} {f_waited : Int64} {a_kind a_number a_score a_deadline a_state a_first a_second a_until : Nat → Int32} {a_since : Nat → Int64} {a_watched a_deceived a_op a_opKey a_opA a_opB a_queued : Nat → Int32} {a_answers : Nat → Int64} {a_answered : Nat → Int32} {a_took a_tookFrom : Nat → Int64} {post : Int32 → Prop} (hpost : post (nI i)) : wpY_find post (f_time, f_waited, a_kind, a_number, a_size, a_item, a_score, a_deadline, a_state, a_first, a_second, a_until, a_since, a_watched, a_deceived, a_op, a_opKey, a_opA, a_opB, a_queued, a_answers, a_answered, a_took, a_tookFrom) p v :=
  ⟨i + 1, yf_2 hp hn hs (by omega) h1 (Or.inl ⟨hi, h2, hpost⟩) i 0 (by omega) (i + 1) (by omega)⟩
theorem yf_miss {p v : Int32} (hp : vp_in p 16) {n : Nat} (hn : n ≤ 12) {a_size a_item : Nat → Int32} (hs : a_size p.toNatClampNeg = nI n) (h1 : ∀ j, j < n → ¬ a_item (12 * p.toNatClampNeg + j) = v) {f_time : Int32} {f_waited : Int64} {a_kind a_number a_score a_deadline a_state a_first a_second a_until : Nat → Int32} {a_since : Nat → Int64} {a_watched a_deceived a_op a_opKey a_opA a_opB a_queued : Nat → Int32} {a_answers : Nat → Int64} {a_answered : Nat → Int32} {a_took a_tookFrom : Nat → Int64} {post : Int32 → Prop} (hpost : post (-1)) : wpY_find post (f_time, f_waited, a_kind, a_number, a_size, a_item, a_score, a_deadline, a_state, a_first, a_second, a_until, a_since, a_watched, a_deceived, a_op, a_opKey, a_opA, a_opB, a_queued, a_answers, a_answered, a_took, a_tookFrom) p v :=
  ⟨n + 1, yf_2 hp hn hs (Nat.le_refl n) h1 (Or.inr ⟨rfl, hpost⟩) n 0 (by omega) (n + 1) (by omega)⟩
/-- how many of the first x stand before the one in place c -/
def yr_c (b c : Nat) (it sc : Nat → Int32) (x : Nat) : Nat := (List.range x).countP (fun i => decide (ak_bf (sc (b + i)) (it (b + i)) (sc (b + c)) (it (b + c))))
theorem yr_cs (b c : Nat) (it sc : Nat → Int32) (x : Nat) : yr_c b c it sc (x + 1) = yr_c b c it sc x + if decide (ak_bf (sc (b + x)) (it (b + x)) (sc (b + c)) (it (b + c))) = true then 1 else 0 := by
  unfold yr_c
  rw [List.range_succ, List.countP_append, List.countP_singleton]
theorem yr_cle (b c : Nat) (it sc : Nat → Int32) (x : Nat) : yr_c b c it sc x ≤ x := by
  have := List.countP_le_length (p := fun i => decide (ak_bf (sc (b + i)) (it (b + i)) (sc (b + c)) (it (b + c)))) (l := List.range x)
  rw [List.length_range] at this
  exact this
theorem yr_16 {p : Int32} (hp : vp_in p 16) {n c : Nat} (hn : n ≤ 12) (hc : c < 12) {a_size a_item a_score : Nat → Int32} (hs : a_size p.toNatClampNeg = nI n) {f_time : Int32} {f_waited : Int64} {a_kind a_number a_deadline a_state a_first a_second a_until : Nat → Int32} {a_since : Nat → Int64} {a_watched a_deceived a_op a_opKey a_opA a_opB a_queued : Nat → Int32} {a_answers : Nat → Int64} {a_answered : Nat → Int32} {a_took a_tookFrom : Nat → Int64} {post : Int32 → Prop} (hpost : post (nI (yr_c (12 * p.toNatClampNeg) c a_item a_score n))) : ∀ k x, x + k = n → ∀ m, k < m → wY_rank_16 post p (nI (12 * p.toNatClampNeg + c)) f_time f_waited a_kind a_number a_size a_item a_score a_deadline a_state a_first a_second a_until a_since a_watched a_deceived a_op a_opKey a_opA a_opB a_queued a_answers a_answered a_took a_tookFrom m (nI (yr_c (12 * p.toNatClampNeg) c a_item a_score x)) (nI (12 * p.toNatClampNeg + x)) := by
  have kp := (nu_key hp (by omega)).2
  have hcl : (nI (12 * p.toNatClampNeg + c)).toNatClampNeg = 12 * p.toNatClampNeg + c := nI_clamp (by omega)
  have hcv : vp_in (nI (12 * p.toNatClampNeg + c)) 192 := vp_in_nI (by omega) (by omega)
  intro k
  induction k with
  | zero =>
    intro x hx m hm
    obtain ⟨m, rfl⟩ := nu_suc hm
    have e : x = n := by omega
    subst e
    exact And.intro hp (br_t (by rw [hs, nu_12 hp]; exact nI_le (by omega) (by omega)) hpost)
  | succ k ih =>
    intro x hx m hm
    obtain ⟨m, rfl⟩ := nu_suc hm
    have hxl : (nI (12 * p.toNatClampNeg + x)).toNatClampNeg = 12 * p.toNatClampNeg + x := nI_clamp (by omega)
    have hxv : vp_in (nI (12 * p.toNatClampNeg + x)) 192 := vp_in_nI (by omega) (by omega)
    have go := ih (x + 1) (by omega) m (by omega)
    have e1 : nI (12 * p.toNatClampNeg + x) + 1 = nI (12 * p.toNatClampNeg + (x + 1)) := nI_1 _
    refine And.intro hp (br_f (by rw [hs, nu_12 hp]; exact nI_ge (by omega) (by omega)) (And.intro hxv (And.intro hcv ?_)))
    rw [hxl, hcl]
    by_cases z : ak_bf (a_score (12 * p.toNatClampNeg + x)) (a_item (12 * p.toNatClampNeg + x)) (a_score (12 * p.toNatClampNeg + c)) (a_item (12 * p.toNatClampNeg + c))
    · have ec : yr_c (12 * p.toNatClampNeg) c a_item a_score (x + 1) = yr_c (12 * p.toNatClampNeg) c a_item a_score x + 1 := by rw [yr_cs, if_pos (decide_eq_true z)]
      rw [ec] at go
      refine br_c (fun _ => nm_r (nI_1 _) (nm_r e1 go)) (fun h1 => And.intro hxv (And.intro hcv (br_c (fun h2 => And.intro hxv (And.intro hcv (br_c (fun h3 => ?_) (fun _ => nm_r (nI_1 _) (nm_r e1 go))))) (fun h2 => ?_))))
      · rcases z with z | z
        · exact absurd z h1
        · exact absurd h3 (Int32.not_le.mpr z.2)
      · rcases z with z | z
        · exact absurd z h1
        · exact absurd z.1 h2
    · have ec : yr_c (12 * p.toNatClampNeg) c a_item a_score (x + 1) = yr_c (12 * p.toNatClampNeg) c a_item a_score x := by rw [yr_cs, if_neg (by rw [decide_eq_true_iff]; exact z)]; rfl
      rw [ec] at go
      exact br_f (fun h => z (Or.inl h)) (And.intro hxv (And.intro hcv (br_c (fun h2 => And.intro hxv (And.intro hcv (br_t (Int32.not_lt.mp (fun h => z (Or.inr ⟨h2, h⟩))) (nm_r e1 go)))) (fun _ => nm_r e1 go))))
theorem yr_rank {p : Int32} (hp : vp_in p 16) {n c : Nat} (hn : n ≤ 12) (hc : c < 12) {a_size a_item a_score : Nat → Int32} (hs : a_size p.toNatClampNeg = nI n) {f_time : Int32} {f_waited : Int64} {a_kind a_number a_deadline a_state a_first a_second a_until : Nat → Int32} {a_since : Nat → Int64} {a_watched a_deceived a_op a_opKey a_opA a_opB a_queued : Nat → Int32} {a_answers : Nat → Int64} {a_answered : Nat → Int32} {a_took a_tookFrom : Nat → Int64} {post : Int32 → Prop} (hpost : post (nI (yr_c (12 * p.toNatClampNeg) c a_item a_score n))) : wpY_rank post (f_time, f_waited, a_kind, a_number, a_size, a_item, a_score, a_deadline, a_state, a_first, a_second, a_until, a_since, a_watched, a_deceived, a_op, a_opKey, a_opA, a_opB, a_queued, a_answers, a_answered, a_took, a_tookFrom) p (nI c) :=
  nm_r (nu_12 hp c) (nm_r (nu_12z hp) ⟨n + 1, yr_16 hp hn hc hs hpost n 0 (by omega) (n + 1) (by omega)⟩)
theorem yp_2 {p : Int32} (hp : vp_in p 16) {n c v : Nat} (hn : n ≤ 12) (hc : c < n) (hv : v < 100) {a_size a_item a_score : Nat → Int32} (hs : a_size p.toNatClampNeg = nI n) (h1 : ∀ j, j < c → yr_c (12 * p.toNatClampNeg) j a_item a_score n ≠ v) (h2 : yr_c (12 * p.toNatClampNeg) c a_item a_score n = v) {f_time : Int32} {f_waited : Int64} {a_kind a_number a_deadline a_state a_first a_second a_until : Nat → Int32} {a_since : Nat → Int64} {a_watched a_deceived a_op a_opKey a_opA a_opB a_queued : Nat → Int32} {a_answers : Nat → Int64} {a_answered : Nat → Int32} {a_took a_tookFrom : Nat → Int64} {post : Int32 → Prop} (hpost : post (nI c)) : ∀ k x, x + k = c → ∀ m, k < m → wY_placeOf_2 post p (nI v) f_time f_waited a_kind a_number a_size a_item a_score a_deadline a_state a_first a_second a_until a_since a_watched a_deceived a_op a_opKey a_opA a_opB a_queued a_answers a_answered a_took a_tookFrom m (nI x) := by
  intro k
  induction k with
  | zero =>
    intro x hx m hm
    obtain ⟨m, rfl⟩ := nu_suc hm
    have e : x = c := by omega
    subst e
    exact yr_rank hp hn (by omega) hs (br_t (by rw [h2]) hpost)
  | succ k ih =>
    intro x hx m hm
    obtain ⟨m, rfl⟩ := nu_suc hm
    refine yr_rank hp hn (by omega) hs (br_f (fun e => ?_) (nm_r (nI_1 x) (ih (x + 1) (by omega) m (by omega))))
    have := yr_cle (12 * p.toNatClampNeg) x a_item a_score n
    exact h1 x (by omega) ((nI_eq (by omega) (by omega)).mp e)
theorem yp_place {p : Int32} (hp : vp_in p 16) {n v : Nat} (hn : n ≤ 12) (hv : v < 100) {a_size a_item a_score : Nat → Int32} (hs : a_size p.toNatClampNeg = nI n) (hx : ∃ c, c < n ∧ yr_c (12 * p.toNatClampNeg) c a_item a_score n = v) : ∃ c, c < n ∧ yr_c (12 * p.toNatClampNeg) c a_item a_score n = v ∧ ∀ {f_time : Int32} {f_waited : Int64} {a_kind a_number a_deadline a_state a_first a_second a_until : Nat → Int32} {a_since : Nat → Int64} {a_watched a_deceived a_op a_opKey a_opA a_opB a_queued : Nat → Int32} {a_answers : Nat → Int64} {a_answered : Nat → Int32} {a_took a_tookFrom : Nat → Int64} (post : Int32 → Prop), post (nI c) → wpY_placeOf post (f_time, f_waited, a_kind, a_number, a_size, a_item, a_score, a_deadline, a_state, a_first, a_second, a_until, a_since, a_watched, a_deceived, a_op, a_opKey, a_opA, a_opB, a_queued, a_answers, a_answered, a_took, a_tookFrom) p (nI v) := by
  obtain ⟨c, ⟨hc, ec⟩, hl⟩ := en_least (fun c => c < n ∧ yr_c (12 * p.toNatClampNeg) c a_item a_score n = v) hx
  refine ⟨c, hc, ec, ?_⟩
  intro f_time f_waited a_kind a_number a_deadline a_state a_first a_second a_until a_since a_watched a_deceived a_op a_opKey a_opA a_opB a_queued a_answers a_answered a_took a_tookFrom post hpost
  exact ⟨c + 1, yp_2 hp hn hc hv hs (fun j hj e => hl j hj ⟨by omega, e⟩) ec hpost c 0 (by omega) (c + 1) (by omega)⟩
end
section
/-! ===== Y: an element, a copy ===== -/
theorem yu_75 {p v x : Int32} (hp : vp_in p 16) {n j : Nat} (hj : j < 192) (ex : x = nI j) {a_size : Nat → Int32} (hs : a_size p.toNatClampNeg = nI n) {f_time : Int32} {f_waited : Int64} {a_kind a_number a_item a_score a_deadline a_state a_first a_second a_until : Nat → Int32} {a_since : Nat → Int64} {a_watched a_deceived a_op a_opKey a_opA a_opB a_queued : Nat → Int32} {a_answers : Nat → Int64} {a_answered : Nat → Int32} {a_took a_tookFrom : Nat → Int64} {post : Int64 → SY → Prop} (hpost : post (nI n).toInt64 (f_time, f_waited, a_kind, a_number, a_size, upd a_item j v, a_score, a_deadline, a_state, a_first, a_second, a_until, a_since, a_watched, yv_s p a_watched a_deceived 4, a_op, a_opKey, a_opA, a_opB, a_queued, a_answers, a_answered, a_took, a_tookFrom)) : wY_put_75 post p v x f_time f_waited a_kind a_number a_size a_item a_score a_deadline a_state a_first a_second a_until a_since a_watched a_deceived a_op a_opKey a_opA a_opB a_queued a_answers a_answered a_took a_tookFrom := by
  subst ex
  refine And.intro (vp_in_nI hj (by omega)) (nm_r (e' := upd a_item j v) (by rw [nI_clamp (by omega)]) (yc_ch (And.intro hp ?_)))
  rw [hs]; exact hpost
theorem yu_40 {p v : Int32} (hp : vp_in p 16) {n N : Nat} (hn : n < 12) {q a_size : Nat → Int32} (hs : a_size p.toNatClampNeg = nI N) {f_time : Int32} {f_waited : Int64} {a_kind a_number a_score a_deadline a_state a_first a_second a_until : Nat → Int32} {a_since : Nat → Int64} {a_watched a_deceived a_op a_opKey a_opA a_opB a_queued : Nat → Int32} {a_answers : Nat → Int64} {a_answered : Nat → Int32} {a_took a_tookFrom : Nat → Int64} {post : Int64 → SY → Prop} (hpost : post (nI N).toInt64 (f_time, f_waited, a_kind, a_number, a_size, upd (sh_r q (12 * p.toNatClampNeg) (12 * p.toNatClampNeg + n)) (12 * p.toNatClampNeg) v, a_score, a_deadline, a_state, a_first, a_second, a_until, a_since, a_watched, yv_s p a_watched a_deceived 4, a_op, a_opKey, a_opA, a_opB, a_queued, a_answers, a_answered, a_took, a_tookFrom)) : ∀ x, x ≤ n → ∀ m, x < m → wY_put_40 post p 1 v f_time f_waited m (nI (12 * p.toNatClampNeg + x)) a_kind a_number a_size (sh_r q (12 * p.toNatClampNeg + x) (12 * p.toNatClampNeg + n)) a_score a_deadline a_state a_first a_second a_until a_since a_watched a_deceived a_op a_opKey a_opA a_opB a_queued a_answers a_answered a_took a_tookFrom := by
  have kp := (nu_key hp (by omega)).2
  intro x
  induction x with
  | zero =>
    intro hx m hm
    obtain ⟨m, rfl⟩ := nu_suc hm
    exact br_f (by decide) (br_t (by rw [nu_12z hp]; exact nI_le (by omega) (by omega)) (yu_75 hp (by omega) rfl hs hpost))
  | succ x ih =>
    intro hx m hm
    obtain ⟨m, rfl⟩ := nu_suc hm
    have em : nI (12 * p.toNatClampNeg + (x + 1)) - 1 = nI (12 * p.toNatClampNeg + x) := nI_pred _
    have ep : nI (12 * p.toNatClampNeg + (x + 1)) + (-1) = nI (12 * p.toNatClampNeg + x) := pk_m1 _
    have c1 : (nI (12 * p.toNatClampNeg + (x + 1))).toNatClampNeg = 12 * p.toNatClampNeg + x + 1 := nI_clamp (by omega)
    have c0 : (nI (12 * p.toNatClampNeg + x)).toNatClampNeg = 12 * p.toNatClampNeg + x := nI_clamp (by omega)
    have eu : upd (sh_r q (12 * p.toNatClampNeg + (x + 1)) (12 * p.toNatClampNeg + n)) (nI (12 * p.toNatClampNeg + (x + 1))).toNatClampNeg (sh_r q (12 * p.toNatClampNeg + (x + 1)) (12 * p.toNatClampNeg + n) (nI (12 * p.toNatClampNeg + (x + 1)) - 1).toNatClampNeg) = sh_r q (12 * p.toNatClampNeg + x) (12 * p.toNatClampNeg + n) := by
      rw [em, c1, c0]
      have := sh_rr (q := q) (x := 12 * p.toNatClampNeg + x) (e := 12 * p.toNatClampNeg + n)
      rw [show 12 * p.toNatClampNeg + (x + 1) = 12 * p.toNatClampNeg + x + 1 from rfl, this]; exact sh_rs (by omega)
    exact br_f (by decide) (br_f (by rw [nu_12z hp]; exact nI_ge (by omega) (by omega)) (And.intro (by rw [em]; exact vp_in_nI (by omega) (by omega)) (And.intro (vp_in_nI (by omega) (by omega)) (nm_r eu (nm_r ep (ih (by omega) m (by omega)))))))
theorem yu_F {p v : Int32} (hp : vp_in p 16) {n : Nat} (hn : n < 12) {a_size : Nat → Int32} (hs : a_size p.toNatClampNeg = nI n) {f_time : Int32} {f_waited : Int64} {a_kind a_number a_item a_score a_deadline a_state a_first a_second a_until : Nat → Int32} {a_since : Nat → Int64} {a_watched a_deceived a_op a_opKey a_opA a_opB a_queued : Nat → Int32} {a_answers : Nat → Int64} {a_answered : Nat → Int32} {a_took a_tookFrom : Nat → Int64} {post : Int64 → SY → Prop} (hpost : post (nI (n + 1)).toInt64 (f_time, f_waited, upd a_kind p.toNatClampNeg 2, a_number, upd a_size p.toNatClampNeg (nI (n + 1)), upd (sh_r a_item (12 * p.toNatClampNeg) (12 * p.toNatClampNeg + n)) (12 * p.toNatClampNeg) v, a_score, a_deadline, a_state, a_first, a_second, a_until, a_since, a_watched, yv_s p a_watched a_deceived 4, a_op, a_opKey, a_opA, a_opB, a_queued, a_answers, a_answered, a_took, a_tookFrom)) : wpY_put post (f_time, f_waited, a_kind, a_number, a_size, a_item, a_score, a_deadline, a_state, a_first, a_second, a_until, a_since, a_watched, a_deceived, a_op, a_opKey, a_opA, a_opB, a_queued, a_answers, a_answered, a_took, a_tookFrom) p 1 v := by
  have kp := (nu_key hp (by omega)).2
  have hw := yu_40 (v := v) hp hn (q := a_item) (a_size := upd a_size p.toNatClampNeg (nI (n + 1))) pk_us hpost n (Nat.le_refl n) (n + 1) (by omega)
  rw [sh_r0] at hw
  refine And.intro hp (br_f (by rw [hs]; exact fun e => absurd ((nI_eq (b := 12) (by omega) (by omega)).mp e) (by omega)) (And.intro hp (nm_e (And.intro hp (And.intro hp (nm_r (e' := upd a_size p.toNatClampNeg (nI (n + 1))) (by rw [hs, nI_1]) (nm_r (e' := nI (12 * p.toNatClampNeg + n)) (by rw [hs, nu_12 hp]) ⟨n + 1, hw⟩)))))))
theorem yu_B {p v : Int32} (hp : vp_in p 16) {n : Nat} (hn : n < 12) {a_size : Nat → Int32} (hs : a_size p.toNatClampNeg = nI n) {f_time : Int32} {f_waited : Int64} {a_kind a_number a_item a_score a_deadline a_state a_first a_second a_until : Nat → Int32} {a_since : Nat → Int64} {a_watched a_deceived a_op a_opKey a_opA a_opB a_queued : Nat → Int32} {a_answers : Nat → Int64} {a_answered : Nat → Int32} {a_took a_tookFrom : Nat → Int64} {post : Int64 → SY → Prop} (hpost : post (nI (n + 1)).toInt64 (f_time, f_waited, upd a_kind p.toNatClampNeg 2, a_number, upd a_size p.toNatClampNeg (nI (n + 1)), upd a_item (12 * p.toNatClampNeg + n) v, a_score, a_deadline, a_state, a_first, a_second, a_until, a_since, a_watched, yv_s p a_watched a_deceived 4, a_op, a_opKey, a_opA, a_opB, a_queued, a_answers, a_answered, a_took, a_tookFrom)) : wpY_put post (f_time, f_waited, a_kind, a_number, a_size, a_item, a_score, a_deadline, a_state, a_first, a_second, a_until, a_since, a_watched, a_deceived, a_op, a_opKey, a_opA, a_opB, a_queued, a_answers, a_answered, a_took, a_tookFrom) p 0 v := by
  have kp := (nu_key hp (by omega)).2
  refine And.intro hp (br_f (by rw [hs]; exact fun e => absurd ((nI_eq (b := 12) (by omega) (by omega)).mp e) (by omega)) (And.intro hp (nm_e (And.intro hp (And.intro hp (nm_r (e' := upd a_size p.toNatClampNeg (nI (n + 1))) (by rw [hs, nI_1]) (nm_r (e' := nI (12 * p.toNatClampNeg + n)) (by rw [hs, nu_12 hp]) ⟨1, br_t rfl (yu_75 hp (by omega) rfl pk_us hpost)⟩)))))))
theorem yy_50 {p t : Int32} (hp : vp_in p 16) (ht : vp_in t 16) (hne : t.toNatClampNeg ≠ p.toNatClampNeg) {q1 q2 : Nat → Int32} {f_time : Int32} {f_waited : Int64} {a_kind a_number a_size a_deadline a_state a_first a_second a_until : Nat → Int32} {a_since : Nat → Int64} {a_watched a_deceived a_op a_opKey a_opA a_opB a_queued : Nat → Int32} {a_answers : Nat → Int64} {a_answered : Nat → Int32} {a_took a_tookFrom : Nat → Int64} {post : SY → Prop} (hpost : post (f_time, f_waited, a_kind, a_number, a_size, sh_c (fun x => x) q1 (12 * p.toNatClampNeg) (12 * t.toNatClampNeg) 12, sh_c (fun x => x) q2 (12 * p.toNatClampNeg) (12 * t.toNatClampNeg) 12, a_deadline, a_state, a_first, a_second, a_until, a_since, a_watched, a_deceived, a_op, a_opKey, a_opA, a_opB, a_queued, a_answers, a_answered, a_took, a_tookFrom)) : ∀ k x, x + k = 12 → ∀ n, k < n → wY_copy_50 post p t f_time f_waited n (nI x) a_kind a_number a_size (sh_c (fun x => x) q1 (12 * p.toNatClampNeg) (12 * t.toNatClampNeg) x) (sh_c (fun x => x) q2 (12 * p.toNatClampNeg) (12 * t.toNatClampNeg) x) a_deadline a_state a_first a_second a_until a_since a_watched a_deceived a_op a_opKey a_opA a_opB a_queued a_answers a_answered a_took a_tookFrom := by
  have kp := (nu_key hp (by omega)).2
  have kt := (nu_key ht (by omega)).2
  intro k
  induction k with
  | zero =>
    intro x hx n hn
    obtain ⟨n, rfl⟩ := nu_suc hn
    have e : x = 12 := by omega
    subst e
    exact br_t (nI_le (a := 12) (b := 12) (by omega) (by omega)) hpost
  | succ k ih =>
    intro x hx n hn
    obtain ⟨n, rfl⟩ := nu_suc hn
    have e1 : ∀ q : Nat → Int32, upd (sh_c (fun x => x) q (12 * p.toNatClampNeg) (12 * t.toNatClampNeg) x) (12 * t + nI x).toNatClampNeg (sh_c (fun x => x) q (12 * p.toNatClampNeg) (12 * t.toNatClampNeg) x (12 * p + nI x).toNatClampNeg) = sh_c (fun x => x) q (12 * p.toNatClampNeg) (12 * t.toNatClampNeg) (x + 1) := fun q => by
      rw [nu_12c hp (by omega), nu_12c ht (by omega), sh_cr (n := 12) (by omega) (by omega)]; exact sh_cs (f := fun x => x)
    exact br_f (nI_ge (b := 12) (by omega) (by omega)) (And.intro (nu_12y hp (by omega)) (And.intro (nu_12y ht (by omega)) (nm_r (e1 q1) (And.intro (nu_12y hp (by omega)) (And.intro (nu_12y ht (by omega)) (nm_r (e1 q2) (nm_r (nI_1 x) (ih (x + 1) (by omega) n (by omega)))))))))
theorem yy_copy {p t : Int32} (hp : vp_in p 16) (ht : vp_in t 16) (hne : t.toNatClampNeg ≠ p.toNatClampNeg) {f_time : Int32} {f_waited : Int64} {a_kind a_number a_size a_item a_score a_deadline a_state a_first a_second a_until : Nat → Int32} {a_since : Nat → Int64} {a_watched a_deceived a_op a_opKey a_opA a_opB a_queued : Nat → Int32} {a_answers : Nat → Int64} {a_answered : Nat → Int32} {a_took a_tookFrom : Nat → Int64} {post : SY → Prop} (hpost : post (f_time, f_waited, upd a_kind t.toNatClampNeg (a_kind p.toNatClampNeg), upd a_number t.toNatClampNeg (a_number p.toNatClampNeg), upd a_size t.toNatClampNeg (a_size p.toNatClampNeg), sh_c (fun x => x) a_item (12 * p.toNatClampNeg) (12 * t.toNatClampNeg) 12, sh_c (fun x => x) a_score (12 * p.toNatClampNeg) (12 * t.toNatClampNeg) 12, upd a_deadline t.toNatClampNeg (a_deadline p.toNatClampNeg), a_state, a_first, a_second, a_until, a_since, a_watched, a_deceived, a_op, a_opKey, a_opA, a_opB, a_queued, a_answers, a_answered, a_took, a_tookFrom)) : wpY_copy post (f_time, f_waited, a_kind, a_number, a_size, a_item, a_score, a_deadline, a_state, a_first, a_second, a_until, a_since, a_watched, a_deceived, a_op, a_opKey, a_opA, a_opB, a_queued, a_answers, a_answered, a_took, a_tookFrom) p t := by
  have hw := yy_50 hp ht hne (q1 := a_item) (q2 := a_score) hpost 12 0 (by omega) 13 (by omega)
  rw [sh_c0, sh_c0] at hw
  exact And.intro hp (And.intro ht (nm_e (And.intro hp (And.intro ht (nm_e (And.intro hp (And.intro ht (nm_e (And.intro hp (And.intro ht (nm_e ⟨13, hw⟩)))))))))))
/-! ===== Y: what its arrays say of a key ===== -/
abbrev yk_T : Type := (Nat → Int32) × (Nat → Int32) × (Nat → Int32) × (Nat → Int32) × (Nat → Int32) × (Nat → Int32)
def yr_d (d : Int32) : Int32 := if d = -1 then 0 else d
def yr_R (k n : Nat) (g : Nat → Nat) (r : Nat → Option Int32) (it sc : Nat → Int32) : Prop := en_E n 16 g (fun m => (r m).isSome) ∧ ∀ i, i < n → it (12 * k + i) = nI (g i) ∧ r (g i) = some (sc (12 * k + i))
def yr_L (k : Nat) (l : List Int32) (it : Nat → Int32) : Prop := ∀ i, i < l.length → it (12 * k + i) = l.getD i 0
def yr_1 (k : Nat) (x : ak_T) (kd nu sz it sc dl : Nat → Int32) : Prop :=
  kd k = x.1 ∧ nu k = x.2.1 ∧ sz k = nI (ak_sz x) ∧ dl k = yr_d (ak_dl x) ∧ yr_L k (ak_ls x) it ∧ ∃ g, yr_R k (ak_n (ak_rk x)) g (ak_rk x) it sc
/-- kind number size item score deadline -/
def yr_K (C : Nat → ak_T) (K : yk_T) : Prop := ∀ k, k < 16 → ak_G (C k) ∧ yr_1 k (C k) K.1 K.2.1 K.2.2.1 K.2.2.2.1 K.2.2.2.2.1 K.2.2.2.2.2
def yr_ag (j : Nat) (kd nu sz it sc dl kd' nu' sz' it' sc' dl' : Nat → Int32) : Prop :=
  kd' j = kd j ∧ nu' j = nu j ∧ sz' j = sz j ∧ dl' j = dl j ∧ (∀ i, i < 12 → it' (12 * j + i) = it (12 * j + i)) ∧ (∀ i, i < 12 → sc' (12 * j + i) = sc (12 * j + i))
theorem yr_cg {k : Nat} {x : ak_T} {kd nu sz it sc dl kd' nu' sz' it' sc' dl' : Nat → Int32} (hG : ak_G x) (h : yr_1 k x kd nu sz it sc dl) (a : yr_ag k kd nu sz it sc dl kd' nu' sz' it' sc' dl') : yr_1 k x kd' nu' sz' it' sc' dl' := by
  obtain ⟨h1, h2, h3, h4, h5, g, hE, h6⟩ := h
  obtain ⟨a1, a2, a3, a4, a5, a6⟩ := a
  refine ⟨a1.trans h1, a2.trans h2, a3.trans h3, a4.trans h4, fun i hi => ?_, g, hE, fun i hi => ?_⟩
  · have := ak_Gls hG
    rw [a5 i (by omega)]; exact h5 i hi
  · have := ak_Gn hG
    rw [a5 i (by omega), a6 i (by omega)]; exact h6 i hi
theorem yr_up {C : Nat → ak_T} {k : Nat} {x : ak_T} {kd nu sz it sc dl kd' nu' sz' it' sc' dl' : Nat → Int32} (h : yr_K C (kd, nu, sz, it, sc, dl)) (hx : ak_G x) (h1 : yr_1 k x kd' nu' sz' it' sc' dl') (ag : ∀ j, j < 16 → j ≠ k → yr_ag j kd nu sz it sc dl kd' nu' sz' it' sc' dl') : yr_K (ak_up C k x) (kd', nu', sz', it', sc', dl') := by
  intro j hj
  by_cases z : j = k
  · rw [z, ak_upS]; exact ⟨hx, h1⟩
  · rw [ak_upN z]
    exact ⟨(h j hj).1, yr_cg (h j hj).1 (h j hj).2 (ag j hj z)⟩
theorem yr_R0 {k : Nat} {r : Nat → Option Int32} {it sc : Nat → Int32} (h : r = ak_0) : ∃ g, yr_R k (ak_n r) g r it sc := by
  subst h
  rw [ak_n0]
  exact ⟨fun _ => 0, en_0 (fun _ _ => rfl), fun i hi => by omega⟩
theorem yr_L0 {k : Nat} {it : Nat → Int32} : yr_L k [] it := fun i hi => absurd hi (Nat.not_lt_zero i)
theorem yr_1E {k : Nat} {x : ak_T} {kd nu sz it sc dl : Nat → Int32} (hl : ak_ls x = []) (hr : ak_rk x = ak_0) (h1 : kd k = x.1) (h2 : nu k = x.2.1) (h3 : sz k = 0) (h4 : dl k = yr_d (ak_dl x)) : yr_1 k x kd nu sz it sc dl := by
  refine ⟨h1, h2, ?_, h4, ?_, yr_R0 hr⟩
  · rw [h3, ak_c_size hl hr]; rfl
  · rw [hl]; exact yr_L0
theorem yr_ol {a : Nat → Int32} {k j c n i : Nat} (hn : n < 12) (hi : i < 12) (h : j ≠ k) : sh_l a (12 * k + c) (12 * k + n) (12 * j + i) = a (12 * j + i) := xr_ol hn hi h
theorem yr_or {a : Nat → Int32} {k j n i : Nat} {v : Int32} (hn : n < 12) (hi : i < 12) (h : j ≠ k) : upd (sh_r a (12 * k) (12 * k + n)) (12 * k) v (12 * j + i) = a (12 * j + i) := by
  rw [pk_un (by omega)]; unfold sh_r; rw [if_neg (by omega)]
/-! lists and rankings, as rows -/
theorem yl_cons {k : Nat} {v : Int32} {l : List Int32} {it : Nat → Int32} (h : yr_L k l it) : yr_L k (v :: l) (upd (sh_r it (12 * k) (12 * k + l.length)) (12 * k) v) := by
  intro i hi
  cases i with
  | zero => rw [Nat.add_zero, pk_us]; rfl
  | succ j =>
    have hj : j < l.length := by simpa using hi
    rw [pk_un (by omega), List.getD_cons_succ]
    unfold sh_r
    rw [if_pos (by omega)]; exact h j hj
theorem yl_snoc {k : Nat} {v : Int32} {l : List Int32} {it : Nat → Int32} (h : yr_L k l it) : yr_L k (l ++ [v]) (upd it (12 * k + l.length) v) := by
  intro i hi
  rw [List.length_append, List.length_singleton] at hi
  rcases Nat.lt_or_ge i l.length with z | z
  · rw [pk_un (by omega), List.getD_eq_getElem?_getD, List.getElem?_append_left z, ← List.getD_eq_getElem?_getD]; exact h i z
  · have e : i = l.length := by omega
    subst e
    rw [pk_us, List.getD_eq_getElem?_getD, List.getElem?_append_right (Nat.le_refl _)]; simp
theorem yl_tail {k n : Nat} {l : List Int32} {it : Nat → Int32} (hn : l.length = n + 1) (h : yr_L k l it) : yr_L k l.tail (sh_l it (12 * k + 0) (12 * k + n)) := by
  intro i hi
  cases l with
  | nil => exact absurd hi (by simp)
  | cons a t =>
    have ht : i < t.length := hi
    have hn' : t.length = n := by simpa using hn
    have := h (i + 1) (by simpa using ht)
    rw [List.getD_cons_succ] at this
    unfold sh_l
    rw [if_pos (by omega)]; exact this
theorem yl_drop {k n : Nat} {l : List Int32} {it : Nat → Int32} (hn : l.length = n + 1) (h : yr_L k l it) : yr_L k l.dropLast (sh_l it (12 * k + n) (12 * k + n)) := by
  intro i hi
  rw [List.length_dropLast] at hi
  rw [sh_l0, h i (by omega), List.getD_eq_getElem?_getD, List.getD_eq_getElem?_getD, List.getElem?_dropLast, if_pos hi]
theorem yl_del {k n c m : Nat} {g : Nat → Nat} {r : Nat → Option Int32} {it sc : Nat → Int32} (h : yr_R k (n + 1) g r it sc) (hc : c ≤ n) (ec : g c = m) : yr_R k n (fun i => if i < c then g i else g (i + 1)) (ak_ur r m none) (sh_l it (12 * k + c) (12 * k + n)) (sh_l sc (12 * k + c) (12 * k + n)) := by
  obtain ⟨hE, h⟩ := h
  refine ⟨?_, fun i hi => ?_⟩
  · refine en_del hE (c := c) (by omega) _ _ (fun i _ => rfl) (fun j hj => ?_)
    rw [ec]
    by_cases y : j = m
    · rw [y, ak_urS]; simp
    · rw [ak_urN y]; simp [y]
  · have hne : (if i < c then g i else g (i + 1)) ≠ m := fun w => by
      by_cases y : i < c
      · rw [if_pos y, ← ec] at w; have := hE.2.1 i c (by omega) (by omega) w; omega
      · rw [if_neg y, ← ec] at w; have := hE.2.1 (i + 1) c (by omega) (by omega) w; omega
    dsimp only
    rw [ak_urN hne]
    unfold sh_l
    by_cases y : i < c
    · have hx : ¬ (12 * k + c ≤ 12 * k + i ∧ 12 * k + i < 12 * k + n) := by omega
      rw [if_neg hx, if_neg hx, if_pos y]; exact h i (by omega)
    · have hx : 12 * k + c ≤ 12 * k + i ∧ 12 * k + i < 12 * k + n := by omega
      rw [if_pos hx, if_pos hx, if_neg y]; exact h (i + 1) (by omega)
theorem yl_add {k n m : Nat} {s : Int32} (hm : m < 16) {g : Nat → Nat} {r : Nat → Option Int32} {it sc : Nat → Int32} (h : yr_R k n g r it sc) (hr : r m = none) : yr_R k (n + 1) (fun i => if i < n then g i else if i = n then m else g (i - 1)) (ak_ur r m (some s)) (upd it (12 * k + n) (nI m)) (upd sc (12 * k + n) s) := by
  obtain ⟨hE, h⟩ := h
  have hne : ∀ i, i < n → g i ≠ m := fun i hi e => by
    have := (hE.1 i hi).2
    dsimp only at this
    rw [e, hr] at this
    exact absurd this (by decide)
  refine ⟨?_, fun i hi => ?_⟩
  · refine en_ins hE (Nat.le_refl n) hm (by rw [hr]; rfl) _ _ (fun i _ => rfl) (fun j hj => ?_)
    by_cases y : j = m
    · rw [y, ak_urS]; simp
    · rw [ak_urN y]; simp [y]
  · dsimp only
    rcases Nat.lt_or_ge i n with z | z
    · rw [if_pos z, ak_urN (hne i z), pk_un (by omega), pk_un (by omega)]; exact h i z
    · have e : i = n := by omega
      subst e
      rw [if_neg (by omega), if_pos rfl, ak_urS, pk_us, pk_us]; exact ⟨rfl, rfl⟩
theorem yl_set {k n c m : Nat} {s t : Int32} {g : Nat → Nat} {r : Nat → Option Int32} {it sc : Nat → Int32} (h : yr_R k n g r it sc) (hc : c < n) (ec : g c = m) (hr : r m = some t) : yr_R k n g (ak_ur r m (some s)) it (upd sc (12 * k + c) s) := by
  obtain ⟨hE, h⟩ := h
  refine ⟨en_cg hE (fun _ _ => rfl) (fun j _ => ?_), fun i hi => ?_⟩
  · by_cases y : j = m
    · rw [y, ak_urS, hr]; rfl
    · rw [ak_urN y]
  · by_cases z : i = c
    · subst z
      rw [ec, ak_urS, pk_us, ← ec]; exact ⟨(h i hi).1, rfl⟩
    · have hne : g i ≠ m := fun w => z (hE.2.1 i c hi hc (w.trans ec.symm))
      rw [ak_urN hne, pk_un (by omega)]; exact h i hi
end
section
/-! ===== Y: a command ===== -/
/-- one of the keys that c takes is watched -/
def yv_h (c : Nat → Bool) (w : Int32) : Bool := (List.range 8).any (fun j => c j && decide (yb_t w (nI j)))
theorem yv_hT {c : Nat → Bool} {w : Int32} : yv_h c w = true ↔ ∃ j, j < 8 ∧ c j = true ∧ yb_t w (nI j) := by
  unfold yv_h
  rw [List.any_eq_true]
  constructor
  · intro ⟨j, hj, h⟩
    rw [Bool.and_eq_true, decide_eq_true_iff] at h
    exact ⟨j, List.mem_range.mp hj, h⟩
  · intro ⟨j, hj, h1, h2⟩
    exact ⟨j, List.mem_range.mpr hj, by rw [h1, decide_eq_true h2]; rfl⟩
def yv_u (c : Nat → Bool) (w d : Nat → Int32) : Nat → Int32 := fun i => if i < 4 ∧ yv_h c (w i) = true then 1 else d i
theorem yv_0 (w d : Nat → Int32) : yv_u (fun _ => false) w d = d := by
  funext i
  unfold yv_u
  rw [if_neg (fun h => ?_)]
  obtain ⟨j, _, h2, _⟩ := yv_hT.mp h.2
  exact absurd h2 (by decide)
theorem yv_1 {p : Int32} (hp : vp_in p 8) (w d : Nat → Int32) : yv_u (fun j => decide (j = p.toNatClampNeg)) w d = yv_s p w d 4 := by
  obtain ⟨ep, kp⟩ := nu_key hp (by omega)
  funext i
  unfold yv_u yv_s
  by_cases z : i < 4 ∧ yb_t (w i) p
  · rw [if_pos z, if_pos ⟨z.1, yv_hT.mpr ⟨p.toNatClampNeg, kp, decide_eq_true rfl, by rw [← ep]; exact z.2⟩⟩]
  · rw [if_neg z, if_neg (fun h => ?_)]
    obtain ⟨j, _, h2, h3⟩ := yv_hT.mp h.2
    rw [decide_eq_true_iff] at h2
    rw [h2, ← ep] at h3
    exact z ⟨h.1, h3⟩
theorem yv_2 {p t : Int32} (hp : vp_in p 8) (ht : vp_in t 8) (w d : Nat → Int32) : yv_u (fun j => decide (j = p.toNatClampNeg ∨ j = t.toNatClampNeg)) w d = yv_s p w (yv_s t w d 4) 4 := by
  obtain ⟨ep, kp⟩ := nu_key hp (by omega)
  obtain ⟨et, kt⟩ := nu_key ht (by omega)
  funext i
  unfold yv_u yv_s
  by_cases z : i < 4 ∧ yb_t (w i) p
  · rw [if_pos z, if_pos ⟨z.1, yv_hT.mpr ⟨p.toNatClampNeg, kp, decide_eq_true (Or.inl rfl), by rw [← ep]; exact z.2⟩⟩]
  · rw [if_neg z]
    by_cases y : i < 4 ∧ yb_t (w i) t
    · rw [if_pos y, if_pos ⟨y.1, yv_hT.mpr ⟨t.toNatClampNeg, kt, decide_eq_true (Or.inr rfl), by rw [← et]; exact y.2⟩⟩]
    · rw [if_neg y, if_neg (fun h => ?_)]
      obtain ⟨j, _, h2, h3⟩ := yv_hT.mp h.2
      rw [decide_eq_true_iff] at h2
      rcases h2 with h2 | h2
      · rw [h2, ← ep] at h3; exact z ⟨h.1, h3⟩
      · rw [h2, ← et] at h3; exact y ⟨h.1, h3⟩
theorem yw_wr {o p kd : Int32} (hp : vp_in p 16) (ho : ∃ n : Nat, n < 12 ∧ o = nI n) {a_kind : Nat → Int32} (hk : a_kind p.toNatClampNeg = kd) (hkd : kd = 0 ∨ kd = 1 ∨ kd = 2 ∨ kd = 3) {f_time : Int32} {f_waited : Int64} {a_number a_size a_item a_score a_deadline a_state a_first a_second a_until : Nat → Int32} {a_since : Nat → Int64} {a_watched a_deceived a_op a_opKey a_opA a_opB a_queued : Nat → Int32} {a_answers : Nat → Int64} {a_answered : Nat → Int32} {a_took a_tookFrom : Nat → Int64} {post : Int32 → Prop} (hpost : post (if ak_fit o kd = 1 then 0 else 1)) : wpY_wrong post (f_time, f_waited, a_kind, a_number, a_size, a_item, a_score, a_deadline, a_state, a_first, a_second, a_until, a_since, a_watched, a_deceived, a_op, a_opKey, a_opA, a_opB, a_queued, a_answers, a_answered, a_took, a_tookFrom) o p := by
  refine And.intro hp (nm_r hk ?_)
  obtain ⟨n, hn, rfl⟩ := ho
  have one : ∀ o kd : Int32, (kd = 0 ∨ kd = 1 ∨ kd = 2 ∨ kd = 3) → post (if ak_fit o kd = 1 then 0 else 1) → (o = 0 ∨ o = 1 ∨ o = 2 ∨ o = 3 ∨ o = 4 ∨ o = 5 ∨ o = 6 ∨ o = 7 ∨ o = 8 ∨ o = 9 ∨ o = 10 ∨ o = 11) → ((kd = 0 → (post 0)) ∧ (¬ kd = 0 → (((o = 1 → (((kd = 1 → (wY_wrong_21 post o kd f_time f_waited a_kind a_number a_size a_item a_score a_deadline a_state a_first a_second a_until a_since a_watched a_deceived a_op a_opKey a_opA a_opB a_queued a_answers a_answered a_took a_tookFrom)) ∧ (¬ kd = 1 → (post 1))))) ∧ (¬ o = 1 → (wY_wrong_21 post o kd f_time f_waited a_kind a_number a_size a_item a_score a_deadline a_state a_first a_second a_until a_since a_watched a_deceived a_op a_opKey a_opA a_opB a_queued a_answers a_answered a_took a_tookFrom)))))) := by
    intro o kd hkd hpost ho
    rcases hkd with rfl | rfl | rfl | rfl <;> rcases ho with rfl | rfl | rfl | rfl | rfl | rfl | rfl | rfl | rfl | rfl | rfl | rfl <;> (repeat (first | refine br_t (by decide) ?_ | refine br_f (by decide) ?_)) <;> exact hpost
  refine one (nI n) kd hkd hpost ?_
  rcases (by omega : n = 0 ∨ n = 1 ∨ n = 2 ∨ n = 3 ∨ n = 4 ∨ n = 5 ∨ n = 6 ∨ n = 7 ∨ n = 8 ∨ n = 9 ∨ n = 10 ∨ n = 11) with e | e | e | e | e | e | e | e | e | e | e | e <;> subst e <;> decide
theorem yw_no {o p a b kd : Int32} (hp : vp_in p 16) (ho : ∃ n : Nat, n < 12 ∧ o = nI n) {a_kind : Nat → Int32} (hk : a_kind p.toNatClampNeg = kd) (hkd : kd = 0 ∨ kd = 1 ∨ kd = 2 ∨ kd = 3) (hf : ak_fit o kd = 0) {f_time : Int32} {f_waited : Int64} {a_number a_size a_item a_score a_deadline a_state a_first a_second a_until : Nat → Int32} {a_since : Nat → Int64} {a_watched a_deceived a_op a_opKey a_opA a_opB a_queued : Nat → Int32} {a_answers : Nat → Int64} {a_answered : Nat → Int32} {a_took a_tookFrom : Nat → Int64} {post : Int64 → SY → Prop} (hpost : post 10000000001 (f_time, f_waited, a_kind, a_number, a_size, a_item, a_score, a_deadline, a_state, a_first, a_second, a_until, a_since, a_watched, a_deceived, a_op, a_opKey, a_opA, a_opB, a_queued, a_answers, a_answered, a_took, a_tookFrom)) : wpY_carryOut post (f_time, f_waited, a_kind, a_number, a_size, a_item, a_score, a_deadline, a_state, a_first, a_second, a_until, a_since, a_watched, a_deceived, a_op, a_opKey, a_opA, a_opB, a_queued, a_answers, a_answered, a_took, a_tookFrom) o p a b := by
  unfold wpY_carryOut
  refine yw_wr hp ho hk hkd ?_
  rw [hf, if_neg (by decide)]
  exact br_f (by decide) hpost
theorem yw_41 {o p a b kd : Int32} (hp : vp_in p 16) (ho : ∃ n : Nat, n < 12 ∧ o = nI n) {a_kind : Nat → Int32} (hk : a_kind p.toNatClampNeg = kd) (hkd : kd = 0 ∨ kd = 1 ∨ kd = 2 ∨ kd = 3) (hf : ak_fit o kd = 1) (h46 : o ≤ 3 ∨ 6 ≤ o) {f_time : Int32} {f_waited : Int64} {a_number a_size a_item a_score a_deadline a_state a_first a_second a_until : Nat → Int32} {a_since : Nat → Int64} {a_watched a_deceived a_op a_opKey a_opA a_opB a_queued : Nat → Int32} {a_answers : Nat → Int64} {a_answered : Nat → Int32} {a_took a_tookFrom : Nat → Int64} {post : Int64 → SY → Prop} (h : wY_carryOut_41 post o p a b f_time f_waited a_kind a_number a_size a_item a_score a_deadline a_state a_first a_second a_until a_since a_watched a_deceived a_op a_opKey a_opA a_opB a_queued a_answers a_answered a_took a_tookFrom) : wpY_carryOut post (f_time, f_waited, a_kind, a_number, a_size, a_item, a_score, a_deadline, a_state, a_first, a_second, a_until, a_since, a_watched, a_deceived, a_op, a_opKey, a_opA, a_opB, a_queued, a_answers, a_answered, a_took, a_tookFrom) o p a b := by
  unfold wpY_carryOut
  refine yw_wr hp ho hk hkd ?_
  rw [hf, if_pos rfl]
  refine br_t rfl ?_
  by_cases z : o ≤ 3
  · exact br_t z h
  · exact br_f z (br_t (h46.resolve_left z) h)
theorem yw_4 {p a b kd : Int32} (hp : vp_in p 16) {a_kind : Nat → Int32} (hk : a_kind p.toNatClampNeg = kd) (hkd : kd = 0 ∨ kd = 1 ∨ kd = 2 ∨ kd = 3) (hf : ak_fit 4 kd = 1) {f_time : Int32} {f_waited : Int64} {a_number a_size a_item a_score a_deadline a_state a_first a_second a_until : Nat → Int32} {a_since : Nat → Int64} {a_watched a_deceived a_op a_opKey a_opA a_opB a_queued : Nat → Int32} {a_answers : Nat → Int64} {a_answered : Nat → Int32} {a_took a_tookFrom : Nat → Int64} {post : Int64 → SY → Prop} (h : wY_carryOut_36 post a 1 p f_time f_waited a_kind a_number a_size a_item a_score a_deadline a_state a_first a_second a_until a_since a_watched a_deceived a_op a_opKey a_opA a_opB a_queued a_answers a_answered a_took a_tookFrom) : wpY_carryOut post (f_time, f_waited, a_kind, a_number, a_size, a_item, a_score, a_deadline, a_state, a_first, a_second, a_until, a_since, a_watched, a_deceived, a_op, a_opKey, a_opA, a_opB, a_queued, a_answers, a_answered, a_took, a_tookFrom) 4 p a b := by
  unfold wpY_carryOut
  refine yw_wr (o := 4) hp ⟨4, by omega, rfl⟩ hk hkd ?_
  rw [hf, if_pos rfl]
  exact br_t rfl (br_f (by decide) (br_f (by decide) (br_t rfl h)))
theorem yw_5 {p a b kd : Int32} (hp : vp_in p 16) {a_kind : Nat → Int32} (hk : a_kind p.toNatClampNeg = kd) (hkd : kd = 0 ∨ kd = 1 ∨ kd = 2 ∨ kd = 3) (hf : ak_fit 5 kd = 1) {f_time : Int32} {f_waited : Int64} {a_number a_size a_item a_score a_deadline a_state a_first a_second a_until : Nat → Int32} {a_since : Nat → Int64} {a_watched a_deceived a_op a_opKey a_opA a_opB a_queued : Nat → Int32} {a_answers : Nat → Int64} {a_answered : Nat → Int32} {a_took a_tookFrom : Nat → Int64} {post : Int64 → SY → Prop} (h : wY_carryOut_36 post a 0 p f_time f_waited a_kind a_number a_size a_item a_score a_deadline a_state a_first a_second a_until a_since a_watched a_deceived a_op a_opKey a_opA a_opB a_queued a_answers a_answered a_took a_tookFrom) : wpY_carryOut post (f_time, f_waited, a_kind, a_number, a_size, a_item, a_score, a_deadline, a_state, a_first, a_second, a_until, a_since, a_watched, a_deceived, a_op, a_opKey, a_opA, a_opB, a_queued, a_answers, a_answered, a_took, a_tookFrom) 5 p a b := by
  unfold wpY_carryOut
  refine yw_wr (o := 5) hp ⟨5, by omega, rfl⟩ hk hkd ?_
  rw [hf, if_pos rfl]
  exact br_t rfl (br_f (by decide) (br_f (by decide) (br_f (by decide) h)))
/-- what a command does to Y; a' is a, or for EXPIRE the time itself -/
def ya_P (o p a b a' : Int32) (C : Nat → ak_T) {f_time : Int32} {a_kind a_number a_size a_item a_score a_deadline : Nat → Int32} : Prop := ∃ K : yk_T, yr_K (ak_st o p.toNatClampNeg a' b C) K ∧ ∀ {f_waited : Int64} {a_state a_first a_second a_until : Nat → Int32} {a_since : Nat → Int64} {a_watched a_deceived a_op a_opKey a_opA a_opB a_queued : Nat → Int32} {a_answers : Nat → Int64} {a_answered : Nat → Int32} {a_took a_tookFrom : Nat → Int64} (post : Int64 → SY → Prop), post (ak_an o p.toNatClampNeg a' b C) (f_time, f_waited, K.1, K.2.1, K.2.2.1, K.2.2.2.1, K.2.2.2.2.1, K.2.2.2.2.2, a_state, a_first, a_second, a_until, a_since, a_watched, yv_u (ak_ch o p.toNatClampNeg a' b C) a_watched a_deceived, a_op, a_opKey, a_opA, a_opB, a_queued, a_answers, a_answered, a_took, a_tookFrom) → wpY_carryOut post (f_time, f_waited, a_kind, a_number, a_size, a_item, a_score, a_deadline, a_state, a_first, a_second, a_until, a_since, a_watched, a_deceived, a_op, a_opKey, a_opA, a_opB, a_queued, a_answers, a_answered, a_took, a_tookFrom) o p a b
theorem ya_no {o p a b a' : Int32} {C : Nat → ak_T} {r : Int64} {f_time : Int32} {a_kind a_number a_size a_item a_score a_deadline : Nat → Int32} (hK : yr_K C (a_kind, a_number, a_size, a_item, a_score, a_deadline)) (h11 : ¬ o = 11) (h1 : ak_one o a' b (C p.toNatClampNeg) = (r, none)) (hW : ∀ {f_waited : Int64} {a_state a_first a_second a_until : Nat → Int32} {a_since : Nat → Int64} {a_watched a_deceived a_op a_opKey a_opA a_opB a_queued : Nat → Int32} {a_answers : Nat → Int64} {a_answered : Nat → Int32} {a_took a_tookFrom : Nat → Int64} (post : Int64 → SY → Prop), post r (f_time, f_waited, a_kind, a_number, a_size, a_item, a_score, a_deadline, a_state, a_first, a_second, a_until, a_since, a_watched, a_deceived, a_op, a_opKey, a_opA, a_opB, a_queued, a_answers, a_answered, a_took, a_tookFrom) → wpY_carryOut post (f_time, f_waited, a_kind, a_number, a_size, a_item, a_score, a_deadline, a_state, a_first, a_second, a_until, a_since, a_watched, a_deceived, a_op, a_opKey, a_opA, a_opB, a_queued, a_answers, a_answered, a_took, a_tookFrom) o p a b) : ya_P o p a b a' C (f_time := f_time) (a_kind := a_kind) (a_number := a_number) (a_size := a_size) (a_item := a_item) (a_score := a_score) (a_deadline := a_deadline) := by
  obtain ⟨e1, e2, e3⟩ := ak_sn h11 h1
  refine ⟨(a_kind, a_number, a_size, a_item, a_score, a_deadline), by rw [e1]; exact hK, ?_⟩
  intro f_waited a_state a_first a_second a_until a_since a_watched a_deceived a_op a_opKey a_opA a_opB a_queued a_answers a_answered a_took a_tookFrom post hpost
  rw [e2, e3, yv_0] at hpost
  exact hW post hpost
theorem ya_yes {o p a b a' : Int32} (hp : vp_in p 8) {C : Nat → ak_T} {r : Int64} {x : ak_T} {f_time : Int32} {a_kind a_number a_size a_item a_score a_deadline : Nat → Int32} {K : yk_T} (hK : yr_K (ak_up C p.toNatClampNeg x) K) (h11 : ¬ o = 11) (h1 : ak_one o a' b (C p.toNatClampNeg) = (r, some x)) (hW : ∀ {f_waited : Int64} {a_state a_first a_second a_until : Nat → Int32} {a_since : Nat → Int64} {a_watched a_deceived a_op a_opKey a_opA a_opB a_queued : Nat → Int32} {a_answers : Nat → Int64} {a_answered : Nat → Int32} {a_took a_tookFrom : Nat → Int64} (post : Int64 → SY → Prop), post r (f_time, f_waited, K.1, K.2.1, K.2.2.1, K.2.2.2.1, K.2.2.2.2.1, K.2.2.2.2.2, a_state, a_first, a_second, a_until, a_since, a_watched, yv_s p a_watched a_deceived 4, a_op, a_opKey, a_opA, a_opB, a_queued, a_answers, a_answered, a_took, a_tookFrom) → wpY_carryOut post (f_time, f_waited, a_kind, a_number, a_size, a_item, a_score, a_deadline, a_state, a_first, a_second, a_until, a_since, a_watched, a_deceived, a_op, a_opKey, a_opA, a_opB, a_queued, a_answers, a_answered, a_took, a_tookFrom) o p a b) : ya_P o p a b a' C (f_time := f_time) (a_kind := a_kind) (a_number := a_number) (a_size := a_size) (a_item := a_item) (a_score := a_score) (a_deadline := a_deadline) := by
  obtain ⟨e1, e2, e3⟩ := ak_so h11 h1
  refine ⟨K, by rw [e1]; exact hK, ?_⟩
  intro f_waited a_state a_first a_second a_until a_since a_watched a_deceived a_op a_opKey a_opA a_opB a_queued a_answers a_answered a_took a_tookFrom post hpost
  rw [e2, e3, yv_1 hp] at hpost
  exact hW post hpost
theorem yo_0 {p a b : Int32} (hp : vp_in p 8) {C : Nat → ak_T} {f_time : Int32} {a_kind a_number a_size a_item a_score a_deadline : Nat → Int32} (hK : yr_K C (a_kind, a_number, a_size, a_item, a_score, a_deadline)) : ya_P 0 p a b a C (f_time := f_time) (a_kind := a_kind) (a_number := a_number) (a_size := a_size) (a_item := a_item) (a_score := a_score) (a_deadline := a_deadline) := by
  have p16 := nu_up hp (M := 16) (by omega) (by omega)
  have kp := (nu_key p16 (by omega)).2
  obtain ⟨Gp, h1, h2, h3, h4, h5, g, h6⟩ := hK _ kp
  dsimp only at h1 h2 h3 h4 h5 h6
  have hG : ak_G (1, a, [], ak_0, -1) := Or.inr ⟨Or.inl rfl, Or.inl ⟨rfl, rfl, rfl⟩⟩
  have hK' : yr_K (ak_up C p.toNatClampNeg (1, a, [], ak_0, -1)) (upd (upd a_kind p.toNatClampNeg 0) p.toNatClampNeg 1, upd (upd a_number p.toNatClampNeg 0) p.toNatClampNeg a, upd a_size p.toNatClampNeg 0, a_item, a_score, upd a_deadline p.toNatClampNeg 0) :=
    yr_up hK hG (yr_1E rfl rfl pk_us pk_us pk_us pk_us) (fun j _ hne => ⟨by rw [pk_un hne, pk_un hne], by rw [pk_un hne, pk_un hne], pk_un hne, pk_un hne, fun _ _ => rfl, fun _ _ => rfl⟩)
  refine ya_yes hp hK' (by decide) (r := 0) rfl ?_
  intro f_waited a_state a_first a_second a_until a_since a_watched a_deceived a_op a_opKey a_opA a_opB a_queued a_answers a_answered a_took a_tookFrom post hpost
  exact yw_41 p16 ⟨0, by omega, rfl⟩ h1 (ak_Gk Gp) rfl (Or.inl (by decide)) (br_f (by decide) (br_f (by decide) (br_f (by decide) (br_f (by decide) (br_t rfl (yn_no p16 (And.intro p16 (nm_e (And.intro p16 (nm_e (yc_ch hpost)))))))))))
theorem yo_1 {p a b : Int32} (hp : vp_in p 8) {C : Nat → ak_T} {f_time : Int32} {a_kind a_number a_size a_item a_score a_deadline : Nat → Int32} (hK : yr_K C (a_kind, a_number, a_size, a_item, a_score, a_deadline)) : ya_P 1 p a b a C (f_time := f_time) (a_kind := a_kind) (a_number := a_number) (a_size := a_size) (a_item := a_item) (a_score := a_score) (a_deadline := a_deadline) := by
  have p16 := nu_up hp (M := 16) (by omega) (by omega)
  have kp := (nu_key p16 (by omega)).2
  obtain ⟨Gp, h1, h2, h3, h4, h5, g, h6⟩ := hK _ kp
  dsimp only at h1 h2 h3 h4 h5 h6
  by_cases hw : (C p.toNatClampNeg).1 = 0 ∨ (C p.toNatClampNeg).1 = 1
  · have hls : ak_ls (C p.toNatClampNeg) = [] ∧ ak_rk (C p.toNatClampNeg) = ak_0 := hw.elim (fun e => by rw [ak_G0 Gp e]; exact ⟨rfl, rfl⟩) (fun e => ak_G1 Gp e)
    have hone : ak_one 1 a b (C p.toNatClampNeg) = (((C p.toNatClampNeg).2.1 + a).toInt64, some (1, (C p.toNatClampNeg).2.1 + a, [], ak_0, ak_dl (C p.toNatClampNeg))) := by rw [ak_o1]; unfold ak_c1; rw [if_pos hw]
    have hs : a_size p.toNatClampNeg = 0 := by rw [h3, ak_c_size hls.1 hls.2]; rfl
    have hG : ak_G (1, (C p.toNatClampNeg).2.1 + a, [], ak_0, ak_dl (C p.toNatClampNeg)) := by
      have hd := ak_Gd Gp
      exact Or.inr ⟨hd, Or.inl ⟨rfl, rfl, rfl⟩⟩
    have hK' : yr_K (ak_up C p.toNatClampNeg (1, (C p.toNatClampNeg).2.1 + a, [], ak_0, ak_dl (C p.toNatClampNeg))) (upd a_kind p.toNatClampNeg 1, upd a_number p.toNatClampNeg ((C p.toNatClampNeg).2.1 + a), a_size, a_item, a_score, a_deadline) :=
      yr_up hK hG (yr_1E rfl rfl pk_us pk_us hs h4) (fun j _ hne => ⟨pk_un hne, pk_un hne, rfl, rfl, fun _ _ => rfl, fun _ _ => rfl⟩)
    refine ya_yes hp hK' (by decide) hone ?_
    intro f_waited a_state a_first a_second a_until a_since a_watched a_deceived a_op a_opKey a_opA a_opB a_queued a_answers a_answered a_took a_tookFrom post hpost
    have hfit : ak_fit 1 (C p.toNatClampNeg).1 = 1 := by rcases hw with e | e <;> rw [e] <;> decide
    refine yw_41 p16 ⟨1, by omega, rfl⟩ h1 (ak_Gk Gp) hfit (Or.inl (by decide)) (br_f (by decide) (br_f (by decide) (br_f (by decide) (br_f (by decide) (br_f (by decide) (br_t rfl (And.intro p16 (nm_e (And.intro p16 (And.intro p16 (nm_r (e' := upd a_number p.toNatClampNeg ((C p.toNatClampNeg).2.1 + a)) (by rw [h2]) (yc_ch (And.intro p16 ?_)))))))))))))
    rw [pk_us]; exact hpost
  · have hone : ak_one 1 a b (C p.toNatClampNeg) = (10000000001, none) := by rw [ak_o1]; unfold ak_c1; rw [if_neg hw]
    have hfit : ak_fit 1 (C p.toNatClampNeg).1 = 0 := by
      rcases ak_Gk Gp with e | e | e | e
      · exact absurd (Or.inl e) hw
      · exact absurd (Or.inr e) hw
      · rw [e]; decide
      · rw [e]; decide
    exact ya_no hK (by decide) hone (fun post hpost => yw_no p16 ⟨1, by omega, rfl⟩ h1 (ak_Gk Gp) hfit hpost)
theorem yo_2 {p a b : Int32} (hp : vp_in p 8) {C : Nat → ak_T} {f_time : Int32} {a_kind a_number a_size a_item a_score a_deadline : Nat → Int32} (hK : yr_K C (a_kind, a_number, a_size, a_item, a_score, a_deadline)) : ya_P 2 p a b a C (f_time := f_time) (a_kind := a_kind) (a_number := a_number) (a_size := a_size) (a_item := a_item) (a_score := a_score) (a_deadline := a_deadline) := by
  have p16 := nu_up hp (M := 16) (by omega) (by omega)
  have kp := (nu_key p16 (by omega)).2
  obtain ⟨Gp, h1, h2, h3, h4, h5, g, h6⟩ := hK _ kp
  dsimp only at h1 h2 h3 h4 h5 h6
  by_cases z : (C p.toNatClampNeg).1 = 0
  · have hone : ak_one 2 a b (C p.toNatClampNeg) = (0, none) := by rw [ak_o2]; unfold ak_c2; rw [if_pos z]
    refine ya_no hK (by decide) hone ?_
    intro f_waited a_state a_first a_second a_until a_since a_watched a_deceived a_op a_opKey a_opA a_opB a_queued a_answers a_answered a_took a_tookFrom post hpost
    exact yw_41 p16 ⟨2, by omega, rfl⟩ h1 (ak_Gk Gp) rfl (Or.inl (by decide)) (br_f (by decide) (br_f (by decide) (br_f (by decide) (br_f (by decide) (br_f (by decide) (br_f (by decide) (br_t rfl (And.intro p16 (br_t (h1.trans z) hpost)))))))))
  · have hone : ak_one 2 a b (C p.toNatClampNeg) = (1, some ak_E) := by rw [ak_o2]; unfold ak_c2; rw [if_neg z]
    have hK' : yr_K (ak_up C p.toNatClampNeg ak_E) (upd a_kind p.toNatClampNeg 0, upd a_number p.toNatClampNeg 0, upd a_size p.toNatClampNeg 0, a_item, a_score, upd a_deadline p.toNatClampNeg 0) :=
      yr_up hK ak_GE (yr_1E rfl rfl pk_us pk_us pk_us pk_us) (fun j _ hne => ⟨pk_un hne, pk_un hne, pk_un hne, pk_un hne, fun _ _ => rfl, fun _ _ => rfl⟩)
    refine ya_yes hp hK' (by decide) hone ?_
    intro f_waited a_state a_first a_second a_until a_since a_watched a_deceived a_op a_opKey a_opA a_opB a_queued a_answers a_answered a_took a_tookFrom post hpost
    exact yw_41 p16 ⟨2, by omega, rfl⟩ h1 (ak_Gk Gp) rfl (Or.inl (by decide)) (br_f (by decide) (br_f (by decide) (br_f (by decide) (br_f (by decide) (br_f (by decide) (br_f (by decide) (br_t rfl (And.intro p16 (br_f (fun e => z (h1.symm.trans e)) (br_f (by decide) (br_f (by decide) (yn_no p16 (yc_ch hpost)))))))))))))
theorem yo_3 {p a b : Int32} (hp : vp_in p 8) {C : Nat → ak_T} {f_time : Int32} {a_kind a_number a_size a_item a_score a_deadline : Nat → Int32} (ha : a = 0 ∨ 0 < f_time + a) (hK : yr_K C (a_kind, a_number, a_size, a_item, a_score, a_deadline)) : ya_P 3 p a b (if a = 0 then -1 else f_time + a) C (f_time := f_time) (a_kind := a_kind) (a_number := a_number) (a_size := a_size) (a_item := a_item) (a_score := a_score) (a_deadline := a_deadline) := by
  have p16 := nu_up hp (M := 16) (by omega) (by omega)
  have kp := (nu_key p16 (by omega)).2
  obtain ⟨Gp, h1, h2, h3, h4, h5, g, h6⟩ := hK _ kp
  dsimp only at h1 h2 h3 h4 h5 h6
  generalize hv : (if a = 0 then -1 else f_time + a) = v
  have hv1 : v = -1 ∨ 0 < v := by
    by_cases y : a = 0
    · rw [if_pos y] at hv; exact Or.inl hv.symm
    · rw [if_neg y] at hv; rw [← hv]; exact Or.inr (ha.resolve_left y)
  by_cases z : (C p.toNatClampNeg).1 = 0
  · have hone : ak_one 3 v b (C p.toNatClampNeg) = (0, none) := by rw [ak_o3]; unfold ak_c3; rw [if_pos z]
    refine ya_no hK (by decide) hone ?_
    intro f_waited a_state a_first a_second a_until a_since a_watched a_deceived a_op a_opKey a_opA a_opB a_queued a_answers a_answered a_took a_tookFrom post hpost
    exact yw_41 p16 ⟨3, by omega, rfl⟩ h1 (ak_Gk Gp) rfl (Or.inl (by decide)) (br_f (by decide) (br_f (by decide) (br_f (by decide) (br_f (by decide) (br_f (by decide) (br_f (by decide) (br_f (by decide) (br_t rfl (And.intro p16 (br_t (h1.trans z) hpost))))))))))
  · have hone : ak_one 3 v b (C p.toNatClampNeg) = (1, some ((C p.toNatClampNeg).1, (C p.toNatClampNeg).2.1, ak_ls (C p.toNatClampNeg), ak_rk (C p.toNatClampNeg), v)) := by rw [ak_o3]; unfold ak_c3; rw [if_neg z]
    have hG : ak_G ((C p.toNatClampNeg).1, (C p.toNatClampNeg).2.1, ak_ls (C p.toNatClampNeg), ak_rk (C p.toNatClampNeg), v) := by
      rcases Gp with e | e
      · rw [e] at z; exact absurd rfl z
      · exact Or.inr ⟨hv1, e.2⟩
    have hK' : yr_K (ak_up C p.toNatClampNeg ((C p.toNatClampNeg).1, (C p.toNatClampNeg).2.1, ak_ls (C p.toNatClampNeg), ak_rk (C p.toNatClampNeg), v)) (a_kind, a_number, a_size, a_item, a_score, upd a_deadline p.toNatClampNeg (yr_d v)) :=
      yr_up hK hG ⟨h1, h2, h3, pk_us, h5, g, h6⟩ (fun j _ hne => ⟨rfl, rfl, rfl, pk_un hne, fun _ _ => rfl, fun _ _ => rfl⟩)
    refine ya_yes hp hK' (by decide) hone ?_
    intro f_waited a_state a_first a_second a_until a_since a_watched a_deceived a_op a_opKey a_opA a_opB a_queued a_answers a_answered a_took a_tookFrom post hpost
    refine yw_41 p16 ⟨3, by omega, rfl⟩ h1 (ak_Gk Gp) rfl (Or.inl (by decide)) (br_f (by decide) (br_f (by decide) (br_f (by decide) (br_f (by decide) (br_f (by decide) (br_f (by decide) (br_f (by decide) (br_t rfl (And.intro p16 (br_f (fun e => z (h1.symm.trans e)) (br_f (by decide) (br_t rfl ?_))))))))))))
    by_cases y : a = 0
    · refine br_t y (And.intro p16 (nm_r (e' := upd a_deadline p.toNatClampNeg (yr_d v)) ?_ (yc_ch hpost)))
      rw [← hv, if_pos y]; rfl
    · refine br_f y (And.intro p16 (nm_r (e' := upd a_deadline p.toNatClampNeg (yr_d v)) ?_ (yc_ch hpost)))
      have : ¬ v = -1 := fun e => by
        rcases ha with h | h
        · exact y h
        · rw [if_neg y] at hv; rw [hv, e] at h; exact absurd h (by decide)
      unfold yr_d
      rw [if_neg this, ← hv, if_neg y]
theorem yo_11 {p t b : Int32} (hp : vp_in p 8) (ht : vp_in t 8) (hne : t.toNatClampNeg ≠ p.toNatClampNeg) {C : Nat → ak_T} {f_time : Int32} {a_kind a_number a_size a_item a_score a_deadline : Nat → Int32} (hK : yr_K C (a_kind, a_number, a_size, a_item, a_score, a_deadline)) : ya_P 11 p t b t C (f_time := f_time) (a_kind := a_kind) (a_number := a_number) (a_size := a_size) (a_item := a_item) (a_score := a_score) (a_deadline := a_deadline) := by
  have p16 := nu_up hp (M := 16) (by omega) (by omega)
  have t16 := nu_up ht (M := 16) (by omega) (by omega)
  have kp := (nu_key p16 (by omega)).2
  have kt := (nu_key t16 (by omega)).2
  have hpt : p.toNatClampNeg ≠ t.toNatClampNeg := fun e => hne e.symm
  obtain ⟨Gp, h1, h2, h3, h4, h5, g, h6⟩ := hK _ kp
  dsimp only at h1 h2 h3 h4 h5 h6
  by_cases z : (C p.toNatClampNeg).1 = 0
  · have e1 : ak_st 11 p.toNatClampNeg t b C = C := by unfold ak_st; rw [if_pos rfl, if_pos z]
    have e2 : ak_an 11 p.toNatClampNeg t b C = 0 := by unfold ak_an; rw [if_pos rfl, if_pos z]
    have e3 : ak_ch 11 p.toNatClampNeg t b C = fun _ => false := by funext j; unfold ak_ch; rw [if_pos rfl, if_pos z]
    refine ⟨(a_kind, a_number, a_size, a_item, a_score, a_deadline), by rw [e1]; exact hK, ?_⟩
    intro f_waited a_state a_first a_second a_until a_since a_watched a_deceived a_op a_opKey a_opA a_opB a_queued a_answers a_answered a_took a_tookFrom post hpost
    rw [e2, e3, yv_0] at hpost
    exact yw_41 p16 ⟨11, by omega, rfl⟩ h1 (ak_Gk Gp) rfl (Or.inr (by decide)) (br_f (by decide) (br_f (by decide) (br_f (by decide) (br_f (by decide) (br_f (by decide) (br_f (by decide) (br_f (by decide) (br_f (by decide) (br_f (by decide) (br_f (by decide) (br_f (by decide) (br_f (by decide) (br_f (by decide) (br_f (by decide) (br_f (by decide) (br_t rfl (And.intro p16 (br_t (h1.trans z) hpost))))))))))))))))))
  · have e1 : ak_st 11 p.toNatClampNeg t b C = ak_up (ak_up C t.toNatClampNeg (C p.toNatClampNeg)) p.toNatClampNeg ak_E := by unfold ak_st; rw [if_pos rfl, if_neg z]
    have e2 : ak_an 11 p.toNatClampNeg t b C = 1 := by unfold ak_an; rw [if_pos rfl, if_neg z]
    have e3 : ak_ch 11 p.toNatClampNeg t b C = fun j => decide (j = p.toNatClampNeg ∨ j = t.toNatClampNeg) := by funext j; unfold ak_ch; rw [if_pos rfl, if_neg z]
    have hK1 : yr_K (ak_up C t.toNatClampNeg (C p.toNatClampNeg)) (upd a_kind t.toNatClampNeg (a_kind p.toNatClampNeg), upd a_number t.toNatClampNeg (a_number p.toNatClampNeg), upd a_size t.toNatClampNeg (a_size p.toNatClampNeg), sh_c (fun x => x) a_item (12 * p.toNatClampNeg) (12 * t.toNatClampNeg) 12, sh_c (fun x => x) a_score (12 * p.toNatClampNeg) (12 * t.toNatClampNeg) 12, upd a_deadline t.toNatClampNeg (a_deadline p.toNatClampNeg)) := by
      refine yr_up hK Gp ⟨by rw [pk_us]; exact h1, by rw [pk_us]; exact h2, by rw [pk_us]; exact h3, by rw [pk_us]; exact h4, fun i hi => ?_, g, h6.1, fun i hi => ?_⟩ (fun j _ hj => ⟨pk_un hj, pk_un hj, pk_un hj, pk_un hj, fun i hi => sh_co (by omega), fun i hi => sh_co (by omega)⟩)
      · have := ak_Gls Gp
        rw [sh_ci (by omega)]; exact h5 i hi
      · have := ak_Gn Gp
        rw [sh_ci (by omega), sh_ci (by omega)]; exact h6.2 i hi
    have hK2 : yr_K (ak_up (ak_up C t.toNatClampNeg (C p.toNatClampNeg)) p.toNatClampNeg ak_E) (upd (upd a_kind t.toNatClampNeg (a_kind p.toNatClampNeg)) p.toNatClampNeg 0, upd (upd a_number t.toNatClampNeg (a_number p.toNatClampNeg)) p.toNatClampNeg 0, upd (upd a_size t.toNatClampNeg (a_size p.toNatClampNeg)) p.toNatClampNeg 0, sh_c (fun x => x) a_item (12 * p.toNatClampNeg) (12 * t.toNatClampNeg) 12, sh_c (fun x => x) a_score (12 * p.toNatClampNeg) (12 * t.toNatClampNeg) 12, upd (upd a_deadline t.toNatClampNeg (a_deadline p.toNatClampNeg)) p.toNatClampNeg 0) :=
      yr_up hK1 ak_GE (yr_1E rfl rfl pk_us pk_us pk_us pk_us) (fun j _ hne => ⟨pk_un hne, pk_un hne, pk_un hne, pk_un hne, fun _ _ => rfl, fun _ _ => rfl⟩)
    refine ⟨_, by rw [e1]; exact hK2, ?_⟩
    intro f_waited a_state a_first a_second a_until a_since a_watched a_deceived a_op a_opKey a_opA a_opB a_queued a_answers a_answered a_took a_tookFrom post hpost
    rw [e2, e3, yv_2 hp ht] at hpost
    exact yw_41 p16 ⟨11, by omega, rfl⟩ h1 (ak_Gk Gp) rfl (Or.inr (by decide)) (br_f (by decide) (br_f (by decide) (br_f (by decide) (br_f (by decide) (br_f (by decide) (br_f (by decide) (br_f (by decide) (br_f (by decide) (br_f (by decide) (br_f (by decide) (br_f (by decide) (br_f (by decide) (br_f (by decide) (br_f (by decide) (br_f (by decide) (br_t rfl (And.intro p16 (br_f (fun e => z (h1.symm.trans e)) (br_t rfl (yy_copy p16 t16 hne (yc_ch (br_f (by decide) (yn_no p16 (yc_ch hpost))))))))))))))))))))))))
end
section
/-! ===== Y: elements and members ===== -/
theorem yq_uu (a : Nat → Int32) (j : Nat) (v w : Int32) : upd (upd a j v) j w = upd a j w := by
  funext i
  by_cases z : i = j
  · rw [z, pk_us, pk_us]
  · rw [pk_un z, pk_un z, pk_un z]
theorem yo_4 {p a b : Int32} (hp : vp_in p 8) {C : Nat → ak_T} {f_time : Int32} {a_kind a_number a_size a_item a_score a_deadline : Nat → Int32} (hK : yr_K C (a_kind, a_number, a_size, a_item, a_score, a_deadline)) : ya_P 4 p a b a C (f_time := f_time) (a_kind := a_kind) (a_number := a_number) (a_size := a_size) (a_item := a_item) (a_score := a_score) (a_deadline := a_deadline) := by
  have p16 := nu_up hp (M := 16) (by omega) (by omega)
  have kp := (nu_key p16 (by omega)).2
  obtain ⟨Gp, h1, h2, h3, h4, h5, g, h6⟩ := hK _ kp
  dsimp only at h1 h2 h3 h4 h5 h6
  by_cases hw : (C p.toNatClampNeg).1 = 0 ∨ (C p.toNatClampNeg).1 = 2
  · obtain ⟨hr, hsz⟩ := xo_lsz Gp hw
    rw [hsz] at h3
    have hfit : ak_fit 4 (C p.toNatClampNeg).1 = 1 := by rcases hw with e | e <;> rw [e] <;> decide
    have hle := ak_Gls Gp
    by_cases hfull : (ak_ls (C p.toNatClampNeg)).length = 12
    · have hone : ak_one 4 a b (C p.toNatClampNeg) = (10000000003, none) := by rw [ak_o4]; unfold ak_c4; rw [if_pos hw, if_pos hfull]
      refine ya_no hK (by decide) hone ?_
      intro f_waited a_state a_first a_second a_until a_since a_watched a_deceived a_op a_opKey a_opA a_opB a_queued a_answers a_answered a_took a_tookFrom post hpost
      exact yw_4 p16 h1 (ak_Gk Gp) hfit (And.intro p16 (br_t (by rw [h3, hfull]; rfl) hpost))
    · have hone : ak_one 4 a b (C p.toNatClampNeg) = ((nI ((ak_ls (C p.toNatClampNeg)).length + 1)).toInt64, some (2, 0, a :: ak_ls (C p.toNatClampNeg), ak_0, ak_dl (C p.toNatClampNeg))) := by rw [ak_o4]; unfold ak_c4; rw [if_pos hw, if_neg hfull]
      have hn0 : (C p.toNatClampNeg).2.1 = 0 := hw.elim (fun e => by rw [ak_G0 Gp e]; rfl) (fun e => (ak_G2 Gp e).1)
      have hK' : yr_K (ak_up C p.toNatClampNeg (2, 0, a :: ak_ls (C p.toNatClampNeg), ak_0, ak_dl (C p.toNatClampNeg))) (upd a_kind p.toNatClampNeg 2, a_number, upd a_size p.toNatClampNeg (nI ((ak_ls (C p.toNatClampNeg)).length + 1)), upd (sh_r a_item (12 * p.toNatClampNeg) (12 * p.toNatClampNeg + (ak_ls (C p.toNatClampNeg)).length)) (12 * p.toNatClampNeg) a, a_score, a_deadline) :=
        yr_up hK (xo_Gl (ak_Gd Gp) (by simp) (by simp; omega)) ⟨pk_us, h2.trans hn0, by rw [pk_us, xo_szc]; rfl, h4, yl_cons h5, yr_R0 rfl⟩ (fun j _ hne => ⟨pk_un hne, rfl, pk_un hne, rfl, fun i hi => yr_or (by omega) hi hne, fun _ _ => rfl⟩)
      refine ya_yes hp hK' (by decide) hone ?_
      intro f_waited a_state a_first a_second a_until a_since a_watched a_deceived a_op a_opKey a_opA a_opB a_queued a_answers a_answered a_took a_tookFrom post hpost
      exact yw_4 p16 h1 (ak_Gk Gp) hfit (yu_F p16 (by omega) h3 hpost)
  · have hone : ak_one 4 a b (C p.toNatClampNeg) = (10000000001, none) := by rw [ak_o4]; unfold ak_c4; rw [if_neg hw]
    have hfit : ak_fit 4 (C p.toNatClampNeg).1 = 0 := by
      rcases ak_Gk Gp with e | e | e | e
      · exact absurd (Or.inl e) hw
      · rw [e]; decide
      · exact absurd (Or.inr e) hw
      · rw [e]; decide
    exact ya_no hK (by decide) hone (fun post hpost => yw_no p16 ⟨4, by omega, rfl⟩ h1 (ak_Gk Gp) hfit hpost)
theorem yo_5 {p a b : Int32} (hp : vp_in p 8) {C : Nat → ak_T} {f_time : Int32} {a_kind a_number a_size a_item a_score a_deadline : Nat → Int32} (hK : yr_K C (a_kind, a_number, a_size, a_item, a_score, a_deadline)) : ya_P 5 p a b a C (f_time := f_time) (a_kind := a_kind) (a_number := a_number) (a_size := a_size) (a_item := a_item) (a_score := a_score) (a_deadline := a_deadline) := by
  have p16 := nu_up hp (M := 16) (by omega) (by omega)
  have kp := (nu_key p16 (by omega)).2
  obtain ⟨Gp, h1, h2, h3, h4, h5, g, h6⟩ := hK _ kp
  dsimp only at h1 h2 h3 h4 h5 h6
  by_cases hw : (C p.toNatClampNeg).1 = 0 ∨ (C p.toNatClampNeg).1 = 2
  · obtain ⟨hr, hsz⟩ := xo_lsz Gp hw
    rw [hsz] at h3
    have hfit : ak_fit 5 (C p.toNatClampNeg).1 = 1 := by rcases hw with e | e <;> rw [e] <;> decide
    have hle := ak_Gls Gp
    by_cases hfull : (ak_ls (C p.toNatClampNeg)).length = 12
    · have hone : ak_one 5 a b (C p.toNatClampNeg) = (10000000003, none) := by rw [ak_o5]; unfold ak_c5; rw [if_pos hw, if_pos hfull]
      refine ya_no hK (by decide) hone ?_
      intro f_waited a_state a_first a_second a_until a_since a_watched a_deceived a_op a_opKey a_opA a_opB a_queued a_answers a_answered a_took a_tookFrom post hpost
      exact yw_5 p16 h1 (ak_Gk Gp) hfit (And.intro p16 (br_t (by rw [h3, hfull]; rfl) hpost))
    · have hone : ak_one 5 a b (C p.toNatClampNeg) = ((nI ((ak_ls (C p.toNatClampNeg)).length + 1)).toInt64, some (2, 0, ak_ls (C p.toNatClampNeg) ++ [a], ak_0, ak_dl (C p.toNatClampNeg))) := by rw [ak_o5]; unfold ak_c5; rw [if_pos hw, if_neg hfull]
      have hn0 : (C p.toNatClampNeg).2.1 = 0 := hw.elim (fun e => by rw [ak_G0 Gp e]; rfl) (fun e => (ak_G2 Gp e).1)
      have hK' : yr_K (ak_up C p.toNatClampNeg (2, 0, ak_ls (C p.toNatClampNeg) ++ [a], ak_0, ak_dl (C p.toNatClampNeg))) (upd a_kind p.toNatClampNeg 2, a_number, upd a_size p.toNatClampNeg (nI ((ak_ls (C p.toNatClampNeg)).length + 1)), upd a_item (12 * p.toNatClampNeg + (ak_ls (C p.toNatClampNeg)).length) a, a_score, a_deadline) :=
        yr_up hK (xo_Gl (ak_Gd Gp) (by simp) (by simp; omega)) ⟨pk_us, h2.trans hn0, by rw [pk_us, xo_szc, List.length_append]; rfl, h4, yl_snoc h5, yr_R0 rfl⟩ (fun j _ hne => ⟨pk_un hne, rfl, pk_un hne, rfl, fun i hi => xr_o12 (by omega) hi hne, fun _ _ => rfl⟩)
      refine ya_yes hp hK' (by decide) hone ?_
      intro f_waited a_state a_first a_second a_until a_since a_watched a_deceived a_op a_opKey a_opA a_opB a_queued a_answers a_answered a_took a_tookFrom post hpost
      exact yw_5 p16 h1 (ak_Gk Gp) hfit (yu_B p16 (by omega) h3 hpost)
  · have hone : ak_one 5 a b (C p.toNatClampNeg) = (10000000001, none) := by rw [ak_o5]; unfold ak_c5; rw [if_neg hw]
    have hfit : ak_fit 5 (C p.toNatClampNeg).1 = 0 := by
      rcases ak_Gk Gp with e | e | e | e
      · exact absurd (Or.inl e) hw
      · rw [e]; decide
      · exact absurd (Or.inr e) hw
      · rw [e]; decide
    exact ya_no hK (by decide) hone (fun post hpost => yw_no p16 ⟨5, by omega, rfl⟩ h1 (ak_Gk Gp) hfit hpost)
/-- a key after one was taken out -/
theorem yq_out {C : Nat → ak_T} {k n c : Nat} {y : ak_T} (hk : k < 16) (hn12 : n < 12) {a_kind a_number a_size a_item a_score a_deadline : Nat → Int32} (hK : yr_K C (a_kind, a_number, a_size, a_item, a_score, a_deadline)) (e1 : (C k).1 = y.1) (e2 : (C k).2.1 = y.2.1) (e3 : ak_dl (C k) = ak_dl y) (hn : ak_sz y = n) (hG : 0 < n → ak_G y) (hl : yr_L k (ak_ls y) (sh_l a_item (12 * k + c) (12 * k + n))) (hr : ∃ g, yr_R k (ak_n (ak_rk y)) g (ak_rk y) (sh_l a_item (12 * k + c) (12 * k + n)) (sh_l a_score (12 * k + c) (12 * k + n))) : yr_K (ak_up C k (ak_nm y)) (if n = 0 then upd a_kind k 0 else a_kind, if n = 0 then upd a_number k 0 else a_number, upd a_size k (nI n), sh_l a_item (12 * k + c) (12 * k + n), sh_l a_score (12 * k + c) (12 * k + n), if n = 0 then upd a_deadline k 0 else a_deadline) := by
  obtain ⟨Gp, h1, h2, h3, h4, h5, g, h6⟩ := hK _ hk
  dsimp only at h1 h2 h3 h4 h5 h6
  rcases Nat.eq_zero_or_pos n with z | z
  · subst z
    rw [xo_nmE hn, if_pos rfl, if_pos rfl, if_pos rfl]
    exact yr_up hK ak_GE (yr_1E rfl rfl pk_us pk_us pk_us pk_us) (fun j _ hne => ⟨pk_un hne, pk_un hne, pk_un hne, pk_un hne, fun i hi => yr_ol hn12 hi hne, fun i hi => yr_ol hn12 hi hne⟩)
  · rw [xo_nmN (by omega), if_neg (by omega), if_neg (by omega), if_neg (by omega)]
    exact yr_up hK (hG z) ⟨h1.trans e1, h2.trans e2, by rw [pk_us, hn], by rw [h4, e3], hl, hr⟩ (fun j _ hne => ⟨rfl, rfl, pk_un hne, rfl, fun i hi => yr_ol hn12 hi hne, fun i hi => yr_ol hn12 hi hne⟩)
theorem yo_6l {p : Int32} (hp : vp_in p 8) {C : Nat → ak_T} {n c : Nat} {l' : List Int32} {a_kind a_number a_size a_item a_score a_deadline : Nat → Int32} (hK : yr_K C (a_kind, a_number, a_size, a_item, a_score, a_deadline)) (hk2 : (C p.toNatClampNeg).1 = 2) (hn : (ak_ls (C p.toNatClampNeg)).length = n + 1) (hl' : l'.length = n) (hl : yr_L p.toNatClampNeg l' (sh_l a_item (12 * p.toNatClampNeg + c) (12 * p.toNatClampNeg + n))) : yr_K (ak_up C p.toNatClampNeg (ak_nm (2, 0, l', ak_0, ak_dl (C p.toNatClampNeg)))) (if n = 0 then upd a_kind p.toNatClampNeg 0 else a_kind, if n = 0 then upd a_number p.toNatClampNeg 0 else a_number, upd a_size p.toNatClampNeg (nI n), sh_l a_item (12 * p.toNatClampNeg + c) (12 * p.toNatClampNeg + n), sh_l a_score (12 * p.toNatClampNeg + c) (12 * p.toNatClampNeg + n), if n = 0 then upd a_deadline p.toNatClampNeg 0 else a_deadline) := by
  have p16 := nu_up hp (M := 16) (by omega) (by omega)
  have kp := (nu_key p16 (by omega)).2
  have Gp := (hK _ kp).1
  have hle := ak_Gls Gp
  exact yq_out kp (by omega) hK hk2 (ak_G2 Gp hk2).1 rfl (by rw [xo_szc]; exact hl') (fun z => xo_Gl (ak_Gd Gp) (by omega) (by omega)) hl (yr_R0 rfl)
theorem yo_6 {p a b : Int32} (hp : vp_in p 8) {C : Nat → ak_T} {f_time : Int32} {a_kind a_number a_size a_item a_score a_deadline : Nat → Int32} (hK : yr_K C (a_kind, a_number, a_size, a_item, a_score, a_deadline)) : ya_P 6 p a b a C (f_time := f_time) (a_kind := a_kind) (a_number := a_number) (a_size := a_size) (a_item := a_item) (a_score := a_score) (a_deadline := a_deadline) := by
  have p16 := nu_up hp (M := 16) (by omega) (by omega)
  have kp := (nu_key p16 (by omega)).2
  obtain ⟨Gp, h1, h2, h3, h4, h5, g, h6⟩ := hK _ kp
  dsimp only at h1 h2 h3 h4 h5 h6
  by_cases h0 : (C p.toNatClampNeg).1 = 0
  · have hone : ak_one 6 a b (C p.toNatClampNeg) = (10000000002, none) := by rw [ak_o6]; unfold ak_c6; rw [if_pos h0]
    refine ya_no hK (by decide) hone ?_
    intro f_waited a_state a_first a_second a_until a_since a_watched a_deceived a_op a_opKey a_opA a_opB a_queued a_answers a_answered a_took a_tookFrom post hpost
    have hs : a_size p.toNatClampNeg = 0 := by rw [h3, ak_G0 Gp h0, ak_szE]; rfl
    exact yw_41 p16 ⟨6, by omega, rfl⟩ h1 (ak_Gk Gp) (by rw [h0]; decide) (Or.inr (by decide)) (br_f (by decide) (br_f (by decide) (br_f (by decide) (br_f (by decide) (br_f (by decide) (br_f (by decide) (br_f (by decide) (br_f (by decide) (br_f (by decide) (br_f (by decide) (br_t rfl (And.intro p16 (br_t hs hpost)))))))))))))
  · by_cases hk2 : (C p.toNatClampNeg).1 = 2
    · obtain ⟨hr, hsz⟩ := xo_lsz Gp (Or.inr hk2)
      rw [hsz] at h3
      have hle := ak_Gls Gp
      obtain ⟨_, hpos, _, _⟩ := ak_G2 Gp hk2
      obtain ⟨n, hn⟩ : ∃ n, (ak_ls (C p.toNatClampNeg)).length = n + 1 := ⟨_, (Nat.sub_add_cancel hpos).symm⟩
      have hfit : ak_fit 6 (C p.toNatClampNeg).1 = 1 := by rw [hk2]; decide
      rw [hn] at h3
      have hs0 : ¬ a_size p.toNatClampNeg = 0 := by rw [h3]; exact nI_ne0 (by omega) (by omega)
      by_cases ha : a = 0
      · subst ha
        have hone : ak_one 6 0 b (C p.toNatClampNeg) = (((ak_ls (C p.toNatClampNeg)).getD 0 0).toInt64, some (ak_nm (2, 0, (ak_ls (C p.toNatClampNeg)).tail, ak_0, ak_dl (C p.toNatClampNeg)))) := by rw [ak_o6]; unfold ak_c6; rw [if_neg h0, if_pos hk2, if_pos rfl]
        have hK' := yo_6l (n := n) (c := 0) (l' := (ak_ls (C p.toNatClampNeg)).tail) hp hK hk2 hn (by rw [List.length_tail]; omega) (yl_tail hn h5)
        refine ya_yes hp hK' (by decide) hone ?_
        intro f_waited a_state a_first a_second a_until a_since a_watched a_deceived a_op a_opKey a_opA a_opB a_queued a_answers a_answered a_took a_tookFrom post hpost
        refine yw_41 p16 ⟨6, by omega, rfl⟩ h1 (ak_Gk Gp) hfit (Or.inr (by decide)) (br_f (by decide) (br_f (by decide) (br_f (by decide) (br_f (by decide) (br_f (by decide) (br_f (by decide) (br_f (by decide) (br_f (by decide) (br_f (by decide) (br_f (by decide) (br_t rfl (And.intro p16 (br_f hs0 (br_t rfl (yo_out (c := 0) p16 (by omega) (by omega) h3 ?_)))))))))))))))
        have ev : a_item (12 * p.toNatClampNeg + 0) = (ak_ls (C p.toNatClampNeg)).getD 0 0 := h5 0 (by omega)
        rw [ev]; exact hpost
      · have hone : ak_one 6 a b (C p.toNatClampNeg) = (((ak_ls (C p.toNatClampNeg)).getD ((ak_ls (C p.toNatClampNeg)).length - 1) 0).toInt64, some (ak_nm (2, 0, (ak_ls (C p.toNatClampNeg)).dropLast, ak_0, ak_dl (C p.toNatClampNeg)))) := by rw [ak_o6]; unfold ak_c6; rw [if_neg h0, if_pos hk2, if_neg ha]
        have hK' := yo_6l (n := n) (c := n) (l' := (ak_ls (C p.toNatClampNeg)).dropLast) hp hK hk2 hn (by rw [List.length_dropLast]; omega) (yl_drop hn h5)
        refine ya_yes hp hK' (by decide) hone ?_
        intro f_waited a_state a_first a_second a_until a_since a_watched a_deceived a_op a_opKey a_opA a_opB a_queued a_answers a_answered a_took a_tookFrom post hpost
        refine yw_41 p16 ⟨6, by omega, rfl⟩ h1 (ak_Gk Gp) hfit (Or.inr (by decide)) (br_f (by decide) (br_f (by decide) (br_f (by decide) (br_f (by decide) (br_f (by decide) (br_f (by decide) (br_f (by decide) (br_f (by decide) (br_f (by decide) (br_f (by decide) (br_t rfl (And.intro p16 (br_f hs0 (br_f ha (And.intro p16 ?_)))))))))))))))
        have es : a_size p.toNatClampNeg - 1 = nI n := by rw [h3, nI_pred]
        rw [es]
        refine yo_out (c := n) p16 (by omega) (by omega) h3 ?_
        have ev : a_item (12 * p.toNatClampNeg + n) = (ak_ls (C p.toNatClampNeg)).getD ((ak_ls (C p.toNatClampNeg)).length - 1) 0 := by rw [hn]; exact h5 n (by omega)
        rw [ev]; exact hpost
    · have hone : ak_one 6 a b (C p.toNatClampNeg) = (10000000001, none) := by rw [ak_o6]; unfold ak_c6; rw [if_neg h0, if_neg hk2]
      have hfit : ak_fit 6 (C p.toNatClampNeg).1 = 0 := by
        rcases ak_Gk Gp with e | e | e | e
        · exact absurd e h0
        · rw [e]; decide
        · exact absurd e hk2
        · rw [e]; decide
      exact ya_no hK (by decide) hone (fun post hpost => yw_no p16 ⟨6, by omega, rfl⟩ h1 (ak_Gk Gp) hfit hpost)
/-! members -/
theorem yf_mem {p : Int32} (hp : vp_in p 16) {m n : Nat} {t : Int32} (hm : m < 16) (hn : n ≤ 12) {g : Nat → Nat} {r : Nat → Option Int32} {a_size a_item a_score : Nat → Int32} (hs : a_size p.toNatClampNeg = nI n) (h : yr_R p.toNatClampNeg n g r a_item a_score) (hr : r m = some t) : ∃ c, c < n ∧ g c = m ∧ a_score (12 * p.toNatClampNeg + c) = t ∧ ∀ {f_time : Int32} {f_waited : Int64} {a_kind a_number a_deadline a_state a_first a_second a_until : Nat → Int32} {a_since : Nat → Int64} {a_watched a_deceived a_op a_opKey a_opA a_opB a_queued : Nat → Int32} {a_answers : Nat → Int64} {a_answered : Nat → Int32} {a_took a_tookFrom : Nat → Int64} (post : Int32 → Prop), post (nI c) → wpY_find post (f_time, f_waited, a_kind, a_number, a_size, a_item, a_score, a_deadline, a_state, a_first, a_second, a_until, a_since, a_watched, a_deceived, a_op, a_opKey, a_opA, a_opB, a_queued, a_answers, a_answered, a_took, a_tookFrom) p (nI m) := by
  obtain ⟨c, hc, ec⟩ := h.1.2.2 m hm (xr_is hr)
  refine ⟨c, hc, ec, ?_, ?_⟩
  · have := (h.2 c hc).2
    rw [ec, hr] at this
    exact (Option.some.inj this).symm
  · intro f_time f_waited a_kind a_number a_deadline a_state a_first a_second a_until a_since a_watched a_deceived a_op a_opKey a_opA a_opB a_queued a_answers a_answered a_took a_tookFrom post hpost
    refine yf_hit hp hn hs hc (fun j hj e => ?_) (by rw [(h.2 c hc).1, ec]) hpost
    rw [(h.2 j (by omega)).1] at e
    have g16 := (h.1.1 j (by omega)).1
    have := (nI_eq (by omega) (by omega)).mp e
    have := h.1.2.1 j c (by omega) hc (this.trans ec.symm)
    omega
theorem yf_non {p : Int32} (hp : vp_in p 16) {m n : Nat} (hm : m < 16) (hn : n ≤ 12) {g : Nat → Nat} {r : Nat → Option Int32} {a_size a_item a_score : Nat → Int32} (hs : a_size p.toNatClampNeg = nI n) (h : yr_R p.toNatClampNeg n g r a_item a_score) (hr : r m = none) {f_time : Int32} {f_waited : Int64} {a_kind a_number a_deadline a_state a_first a_second a_until : Nat → Int32} {a_since : Nat → Int64} {a_watched a_deceived a_op a_opKey a_opA a_opB a_queued : Nat → Int32} {a_answers : Nat → Int64} {a_answered : Nat → Int32} {a_took a_tookFrom : Nat → Int64} {post : Int32 → Prop} (hpost : post (-1)) : wpY_find post (f_time, f_waited, a_kind, a_number, a_size, a_item, a_score, a_deadline, a_state, a_first, a_second, a_until, a_since, a_watched, a_deceived, a_op, a_opKey, a_opA, a_opB, a_queued, a_answers, a_answered, a_took, a_tookFrom) p (nI m) := by
  refine yf_miss hp hn hs (fun j hj e => ?_) hpost
  rw [(h.2 j hj).1] at e
  have g16 := (h.1.1 j hj).1
  have e2 := (nI_eq (by omega) (by omega)).mp e
  have := (h.1.1 j hj).2
  dsimp only at this
  rw [e2, hr] at this
  exact absurd this (by decide)
theorem yr_cnb {k n c : Nat} {g : Nat → Nat} {r : Nat → Option Int32} {it sc : Nat → Int32} (h : yr_R k n g r it sc) (hc : c < n) : yr_c (12 * k) c it sc n = ak_nb r (ak_g r (g c)) (nI (g c)) := by
  have hsc : ∀ i, i < n → ak_g r (g i) = sc (12 * k + i) := fun i hi => xo_gg (h.2 i hi).2
  have := en_cnt h.1 (fun j => decide (ak_bf (ak_g r j) (nI j) (ak_g r (g c)) (nI (g c))))
  unfold ak_nb yr_c
  rw [← this]
  refine List.countP_congr (fun i hi => ?_)
  have hi' := List.mem_range.mp hi
  rw [hsc i hi', hsc c hc, (h.2 i hi').1, (h.2 c hc).1]
theorem yq_new {p s : Int32} (hp : vp_in p 8) {m : Nat} (hm : m < 16) {C : Nat → ak_T} {a_kind a_number a_size a_item a_score a_deadline : Nat → Int32} (hK : yr_K C (a_kind, a_number, a_size, a_item, a_score, a_deadline)) (hw : (C p.toNatClampNeg).1 = 0 ∨ (C p.toNatClampNeg).1 = 3) (hr : ak_rk (C p.toNatClampNeg) m = none) (hN : ak_n (ak_rk (C p.toNatClampNeg)) < 12) : yr_K (ak_up C p.toNatClampNeg (3, 0, [], ak_ur (ak_rk (C p.toNatClampNeg)) m (some s), ak_dl (C p.toNatClampNeg))) (upd a_kind p.toNatClampNeg 3, a_number, upd a_size p.toNatClampNeg (nI (ak_n (ak_rk (C p.toNatClampNeg)) + 1)), upd a_item (12 * p.toNatClampNeg + ak_n (ak_rk (C p.toNatClampNeg))) (nI m), upd a_score (12 * p.toNatClampNeg + ak_n (ak_rk (C p.toNatClampNeg))) s, a_deadline) := by
  have p16 := nu_up hp (M := 16) (by omega) (by omega)
  have kp := (nu_key p16 (by omega)).2
  obtain ⟨Gp, h1, h2, h3, h4, h5, g, h6⟩ := hK _ kp
  dsimp only at h1 h2 h3 h4 h5 h6
  obtain ⟨hl, hsz, h16⟩ := xo_rsz Gp hw
  have hn0 : (C p.toNatClampNeg).2.1 = 0 := hw.elim (fun e => by rw [ak_G0 Gp e]; rfl) (fun e => (ak_G3 Gp e).1)
  have hn := ak_n_add (s := s) hm hr
  refine yr_up hK (xo_Gr (ak_Gd Gp) (by omega) (by omega) (xo_ur16 hm h16)) ⟨pk_us, h2.trans hn0, by rw [pk_us, xo_szr, hn], h4, yr_L0, fun i => if i < ak_n (ak_rk (C p.toNatClampNeg)) then g i else if i = ak_n (ak_rk (C p.toNatClampNeg)) then m else g (i - 1), ?_⟩ (fun j _ hne => ⟨pk_un hne, rfl, pk_un hne, rfl, fun i hi => xr_o12 hN hi hne, fun i hi => xr_o12 hN hi hne⟩)
  show yr_R p.toNatClampNeg (ak_n (ak_ur (ak_rk (C p.toNatClampNeg)) m (some s))) _ (ak_ur (ak_rk (C p.toNatClampNeg)) m (some s)) _ _
  rw [hn]; exact yl_add hm h6 hr
theorem yq_set {p s t : Int32} (hp : vp_in p 8) {m c : Nat} (hm : m < 16) {C : Nat → ak_T} {a_kind a_number a_size a_item a_score a_deadline : Nat → Int32} (hK : yr_K C (a_kind, a_number, a_size, a_item, a_score, a_deadline)) (hk3 : (C p.toNatClampNeg).1 = 3) (hr : ak_rk (C p.toNatClampNeg) m = some t) {g : Nat → Nat} (h6 : yr_R p.toNatClampNeg (ak_n (ak_rk (C p.toNatClampNeg))) g (ak_rk (C p.toNatClampNeg)) a_item a_score) (hc : c < ak_n (ak_rk (C p.toNatClampNeg))) (ec : g c = m) : yr_K (ak_up C p.toNatClampNeg (3, 0, [], ak_ur (ak_rk (C p.toNatClampNeg)) m (some s), ak_dl (C p.toNatClampNeg))) (a_kind, a_number, a_size, a_item, upd a_score (12 * p.toNatClampNeg + c) s, a_deadline) := by
  have p16 := nu_up hp (M := 16) (by omega) (by omega)
  have kp := (nu_key p16 (by omega)).2
  obtain ⟨Gp, h1, h2, h3, h4, h5, _, _⟩ := hK _ kp
  dsimp only at h1 h2 h3 h4 h5
  obtain ⟨hl, hsz, h16⟩ := xo_rsz Gp (Or.inr hk3)
  have hN := ak_Gn Gp
  have hn := ak_n_set (s := s) hr
  refine yr_up hK (xo_Gr (ak_Gd Gp) (by omega) (by omega) (xo_ur16 hm h16)) ⟨h1.trans hk3, h2.trans (ak_G3 Gp hk3).1, by rw [h3, hsz, xo_szr, hn], h4, yr_L0, g, ?_⟩ (fun j _ hne => ⟨rfl, rfl, rfl, rfl, fun _ _ => rfl, fun i hi => xr_o12 (by omega) hi hne⟩)
  show yr_R p.toNatClampNeg (ak_n (ak_ur (ak_rk (C p.toNatClampNeg)) m (some s))) g (ak_ur (ak_rk (C p.toNatClampNeg)) m (some s)) _ _
  rw [hn]; exact yl_set h6 hc ec hr
theorem ya_no2 {o p a b a' : Int32} {C : Nat → ak_T} {r : Int64} {f_time : Int32} {a_kind a_number a_size a_item a_score a_deadline : Nat → Int32} {K : yk_T} (hK : yr_K C K) (h11 : ¬ o = 11) (h1 : ak_one o a' b (C p.toNatClampNeg) = (r, none)) (hW : ∀ {f_waited : Int64} {a_state a_first a_second a_until : Nat → Int32} {a_since : Nat → Int64} {a_watched a_deceived a_op a_opKey a_opA a_opB a_queued : Nat → Int32} {a_answers : Nat → Int64} {a_answered : Nat → Int32} {a_took a_tookFrom : Nat → Int64} (post : Int64 → SY → Prop), post r (f_time, f_waited, K.1, K.2.1, K.2.2.1, K.2.2.2.1, K.2.2.2.2.1, K.2.2.2.2.2, a_state, a_first, a_second, a_until, a_since, a_watched, a_deceived, a_op, a_opKey, a_opA, a_opB, a_queued, a_answers, a_answered, a_took, a_tookFrom) → wpY_carryOut post (f_time, f_waited, a_kind, a_number, a_size, a_item, a_score, a_deadline, a_state, a_first, a_second, a_until, a_since, a_watched, a_deceived, a_op, a_opKey, a_opA, a_opB, a_queued, a_answers, a_answered, a_took, a_tookFrom) o p a b) : ya_P o p a b a' C (f_time := f_time) (a_kind := a_kind) (a_number := a_number) (a_size := a_size) (a_item := a_item) (a_score := a_score) (a_deadline := a_deadline) := by
  obtain ⟨e1, e2, e3⟩ := ak_sn h11 h1
  refine ⟨K, by rw [e1]; exact hK, ?_⟩
  intro f_waited a_state a_first a_second a_until a_since a_watched a_deceived a_op a_opKey a_opA a_opB a_queued a_answers a_answered a_took a_tookFrom post hpost
  rw [e2, e3, yv_0] at hpost
  exact hW post hpost
theorem yo_7 {p b : Int32} (hp : vp_in p 8) {m : Nat} (hm : m < 16) {C : Nat → ak_T} {f_time : Int32} {a_kind a_number a_size a_item a_score a_deadline : Nat → Int32} (hK : yr_K C (a_kind, a_number, a_size, a_item, a_score, a_deadline)) : ya_P 7 p (nI m) b (nI m) C (f_time := f_time) (a_kind := a_kind) (a_number := a_number) (a_size := a_size) (a_item := a_item) (a_score := a_score) (a_deadline := a_deadline) := by
  have p16 := nu_up hp (M := 16) (by omega) (by omega)
  have kp := (nu_key p16 (by omega)).2
  have cm : (nI m).toNatClampNeg = m := nI_clamp (by omega)
  obtain ⟨Gp, h1, h2, h3, h4, h5, g, h6⟩ := hK _ kp
  dsimp only at h1 h2 h3 h4 h5 h6
  have hfit := xo_f3 (o := 7) (Or.inl rfl) Gp
  by_cases hw : (C p.toNatClampNeg).1 = 0 ∨ (C p.toNatClampNeg).1 = 3
  · obtain ⟨hl, hsz, h16⟩ := xo_rsz Gp hw
    rw [hsz] at h3
    have hN12 := ak_Gn Gp
    by_cases hr : ak_rk (C p.toNatClampNeg) m = none
    · by_cases hfull : ak_n (ak_rk (C p.toNatClampNeg)) = 12
      · have hone : ak_one 7 (nI m) b (C p.toNatClampNeg) = (10000000003, none) := by rw [ak_o7, cm]; unfold ak_c7; rw [if_pos hw, if_pos hr, if_pos hfull]
        refine ya_no hK (by decide) hone ?_
        intro f_waited a_state a_first a_second a_until a_since a_watched a_deceived a_op a_opKey a_opA a_opB a_queued a_answers a_answered a_took a_tookFrom post hpost
        exact yw_41 p16 ⟨7, by omega, rfl⟩ h1 (ak_Gk Gp) (hfit.1 hw) (Or.inr (by decide)) (br_t rfl (br_f (by decide) (yf_non p16 hm hN12 h3 h6 hr (br_f (by decide) (br_f (by decide) (And.intro p16 (br_t (by rw [h3, hfull]; rfl) hpost)))))))
      · have hone : ak_one 7 (nI m) b (C p.toNatClampNeg) = (1, some (3, 0, [], ak_ur (ak_rk (C p.toNatClampNeg)) m (some b), ak_dl (C p.toNatClampNeg))) := by rw [ak_o7, cm]; unfold ak_c7; rw [if_pos hw, if_pos hr, if_neg hfull]
        have hK' := yq_new (s := b) hp hm hK hw hr (by omega)
        refine ya_yes hp hK' (by decide) hone ?_
        intro f_waited a_state a_first a_second a_until a_since a_watched a_deceived a_op a_opKey a_opA a_opB a_queued a_answers a_answered a_took a_tookFrom post hpost
        have hi : vp_in (12 * p + nI (ak_n (ak_rk (C p.toNatClampNeg)))) 192 := nu_12y p16 (by omega)
        have ci : (12 * p + nI (ak_n (ak_rk (C p.toNatClampNeg)))).toNatClampNeg = 12 * p.toNatClampNeg + ak_n (ak_rk (C p.toNatClampNeg)) := nu_12c p16 (by omega)
        refine yw_41 p16 ⟨7, by omega, rfl⟩ h1 (ak_Gk Gp) (hfit.1 hw) (Or.inr (by decide)) (br_t rfl (br_f (by decide) (yf_non p16 hm hN12 h3 h6 hr (br_f (by decide) (br_f (by decide) (And.intro p16 (br_f (by rw [h3]; intro e; exact hfull ((nI_eq (b := 12) (by omega) (by omega)).mp e)) (br_f (by decide) (And.intro p16 (nm_e (And.intro p16 (And.intro p16 (nm_r (e' := upd a_size p.toNatClampNeg (nI (ak_n (ak_rk (C p.toNatClampNeg)) + 1))) (by rw [h3, nI_1]) (nm_r h3 (And.intro hi (nm_r (e' := upd a_item (12 * p.toNatClampNeg + ak_n (ak_rk (C p.toNatClampNeg))) (nI m)) (by rw [ci]) (And.intro hi (nm_r (e' := upd a_score (12 * p.toNatClampNeg + ak_n (ak_rk (C p.toNatClampNeg))) 0) (by rw [ci]) (nm_e (br_t rfl (br_f (by decide) (And.intro hi (nm_r (e' := upd a_score (12 * p.toNatClampNeg + ak_n (ak_rk (C p.toNatClampNeg))) b) ?_ (br_f (by decide) (yc_ch (br_t rfl (br_f (by decide) hpost)))))))))))))))))))))))))))
        rw [ci, yq_uu]
    · obtain ⟨t, et⟩ := Option.ne_none_iff_exists'.mp hr
      have hk3 : (C p.toNatClampNeg).1 = 3 := hw.resolve_left (fun e => hr (by rw [ak_G0 Gp e]; rfl))
      obtain ⟨c, hc, ec, esc, W⟩ := yf_mem p16 hm hN12 h3 h6 et
      have hK' := yq_set (s := b) hp hm hK hk3 et h6 hc ec
      have hi : vp_in (12 * p + nI c) 192 := nu_12y p16 (by omega)
      have ci : (12 * p + nI c).toNatClampNeg = 12 * p.toNatClampNeg + c := nu_12c p16 (by omega)
      by_cases htb : t = b
      · have hone : ak_one 7 (nI m) b (C p.toNatClampNeg) = (0, none) := by rw [ak_o7, cm]; unfold ak_c7; rw [if_pos hw, if_neg hr, xo_gg et, if_pos htb]
        refine ya_no hK (by decide) hone ?_
        intro f_waited a_state a_first a_second a_until a_since a_watched a_deceived a_op a_opKey a_opA a_opB a_queued a_answers a_answered a_took a_tookFrom post hpost
        refine yw_41 p16 ⟨7, by omega, rfl⟩ h1 (ak_Gk Gp) (hfit.1 hw) (Or.inr (by decide)) (br_t rfl (br_f (by decide) (W _ (br_t (nI_pos' (by omega)) (br_t rfl (br_t rfl (nm_e (br_t rfl (br_t rfl (br_t rfl (And.intro hi (br_t (by rw [ci, esc, htb]) (And.intro hi (nm_r (e' := a_score) ?_ (br_t rfl (br_t rfl (br_t rfl hpost)))))))))))))))))
        rw [ci]; exact xd_upI (by rw [esc, htb])
      · have hone : ak_one 7 (nI m) b (C p.toNatClampNeg) = (0, some (3, 0, [], ak_ur (ak_rk (C p.toNatClampNeg)) m (some b), ak_dl (C p.toNatClampNeg))) := by rw [ak_o7, cm]; unfold ak_c7; rw [if_pos hw, if_neg hr, xo_gg et, if_neg htb]
        refine ya_yes hp hK' (by decide) hone ?_
        intro f_waited a_state a_first a_second a_until a_since a_watched a_deceived a_op a_opKey a_opA a_opB a_queued a_answers a_answered a_took a_tookFrom post hpost
        exact yw_41 p16 ⟨7, by omega, rfl⟩ h1 (ak_Gk Gp) (hfit.1 hw) (Or.inr (by decide)) (br_t rfl (br_f (by decide) (W _ (br_t (nI_pos' (by omega)) (br_t rfl (br_t rfl (nm_e (br_t rfl (br_t rfl (br_t rfl (And.intro hi (br_f (by rw [ci, esc]; exact fun e => htb e.symm) (And.intro hi (nm_r (e' := upd a_score (12 * p.toNatClampNeg + c) b) (by rw [ci]) (br_f (by decide) (yc_ch (br_t rfl (br_t rfl hpost))))))))))))))))))
  · have hone : ak_one 7 (nI m) b (C p.toNatClampNeg) = (10000000001, none) := by rw [ak_o7]; unfold ak_c7; rw [if_neg hw]
    exact ya_no hK (by decide) hone (fun post hpost => yw_no p16 ⟨7, by omega, rfl⟩ h1 (ak_Gk Gp) (hfit.2 hw) hpost)
theorem yo_8 {p b : Int32} (hp : vp_in p 8) {m : Nat} (hm : m < 16) {C : Nat → ak_T} {f_time : Int32} {a_kind a_number a_size a_item a_score a_deadline : Nat → Int32} (hK : yr_K C (a_kind, a_number, a_size, a_item, a_score, a_deadline)) : ya_P 8 p (nI m) b (nI m) C (f_time := f_time) (a_kind := a_kind) (a_number := a_number) (a_size := a_size) (a_item := a_item) (a_score := a_score) (a_deadline := a_deadline) := by
  have p16 := nu_up hp (M := 16) (by omega) (by omega)
  have kp := (nu_key p16 (by omega)).2
  have cm : (nI m).toNatClampNeg = m := nI_clamp (by omega)
  obtain ⟨Gp, h1, h2, h3, h4, h5, g, h6⟩ := hK _ kp
  dsimp only at h1 h2 h3 h4 h5 h6
  have hfit := xo_f3 (o := 8) (Or.inr (Or.inl rfl)) Gp
  by_cases hw : (C p.toNatClampNeg).1 = 0 ∨ (C p.toNatClampNeg).1 = 3
  · obtain ⟨hl, hsz, h16⟩ := xo_rsz Gp hw
    rw [hsz] at h3
    have hN12 := ak_Gn Gp
    by_cases hr : ak_rk (C p.toNatClampNeg) m = none
    · by_cases hfull : ak_n (ak_rk (C p.toNatClampNeg)) = 12
      · have hone : ak_one 8 (nI m) b (C p.toNatClampNeg) = (10000000003, none) := by rw [ak_o8, cm]; unfold ak_c8; rw [if_pos hw, if_pos hr, if_pos hfull]
        refine ya_no hK (by decide) hone ?_
        intro f_waited a_state a_first a_second a_until a_since a_watched a_deceived a_op a_opKey a_opA a_opB a_queued a_answers a_answered a_took a_tookFrom post hpost
        exact yw_41 p16 ⟨8, by omega, rfl⟩ h1 (ak_Gk Gp) (hfit.1 hw) (Or.inr (by decide)) (br_f (by decide) (br_t rfl (br_t rfl (yf_non p16 hm hN12 h3 h6 hr (br_f (by decide) (br_f (by decide) (And.intro p16 (br_t (by rw [h3, hfull]; rfl) hpost))))))))
      · have hone : ak_one 8 (nI m) b (C p.toNatClampNeg) = (b.toInt64, some (3, 0, [], ak_ur (ak_rk (C p.toNatClampNeg)) m (some b), ak_dl (C p.toNatClampNeg))) := by rw [ak_o8, cm]; unfold ak_c8; rw [if_pos hw, if_pos hr, if_neg hfull]
        have hK' := yq_new (s := b) hp hm hK hw hr (by omega)
        refine ya_yes hp hK' (by decide) hone ?_
        intro f_waited a_state a_first a_second a_until a_since a_watched a_deceived a_op a_opKey a_opA a_opB a_queued a_answers a_answered a_took a_tookFrom post hpost
        have hi : vp_in (12 * p + nI (ak_n (ak_rk (C p.toNatClampNeg)))) 192 := nu_12y p16 (by omega)
        have ci : (12 * p + nI (ak_n (ak_rk (C p.toNatClampNeg)))).toNatClampNeg = 12 * p.toNatClampNeg + ak_n (ak_rk (C p.toNatClampNeg)) := nu_12c p16 (by omega)
        refine yw_41 p16 ⟨8, by omega, rfl⟩ h1 (ak_Gk Gp) (hfit.1 hw) (Or.inr (by decide)) (br_f (by decide) (br_t rfl (br_t rfl (yf_non p16 hm hN12 h3 h6 hr (br_f (by decide) (br_f (by decide) (And.intro p16 (br_f (by rw [h3]; intro e; exact hfull ((nI_eq (b := 12) (by omega) (by omega)).mp e)) (br_f (by decide) (And.intro p16 (nm_e (And.intro p16 (And.intro p16 (nm_r (e' := upd a_size p.toNatClampNeg (nI (ak_n (ak_rk (C p.toNatClampNeg)) + 1))) (by rw [h3, nI_1]) (nm_r h3 (And.intro hi (nm_r (e' := upd a_item (12 * p.toNatClampNeg + ak_n (ak_rk (C p.toNatClampNeg))) (nI m)) (by rw [ci]) (And.intro hi (nm_r (e' := upd a_score (12 * p.toNatClampNeg + ak_n (ak_rk (C p.toNatClampNeg))) 0) (by rw [ci]) (nm_e (br_f (by decide) (And.intro hi ?_))))))))))))))))))))))
        have e0 : upd a_score (12 * p.toNatClampNeg + ak_n (ak_rk (C p.toNatClampNeg))) 0 (12 * p + nI (ak_n (ak_rk (C p.toNatClampNeg)))).toNatClampNeg + b = b := by rw [ci, pk_us]; exact Int32.zero_add b
        rw [e0]
        refine br_f (by decide) (And.intro hi (nm_r (e' := upd a_score (12 * p.toNatClampNeg + ak_n (ak_rk (C p.toNatClampNeg))) b) ?_ (br_f (by decide) (yc_ch (br_f (by decide) hpost)))))
        rw [ci, yq_uu]
    · obtain ⟨t, et⟩ := Option.ne_none_iff_exists'.mp hr
      have hk3 : (C p.toNatClampNeg).1 = 3 := hw.resolve_left (fun e => hr (by rw [ak_G0 Gp e]; rfl))
      obtain ⟨c, hc, ec, esc, W⟩ := yf_mem p16 hm hN12 h3 h6 et
      have hK' := yq_set (s := t + b) hp hm hK hk3 et h6 hc ec
      have hi : vp_in (12 * p + nI c) 192 := nu_12y p16 (by omega)
      have ci : (12 * p + nI c).toNatClampNeg = 12 * p.toNatClampNeg + c := nu_12c p16 (by omega)
      have hone : ak_one 8 (nI m) b (C p.toNatClampNeg) = ((t + b).toInt64, some (3, 0, [], ak_ur (ak_rk (C p.toNatClampNeg)) m (some (t + b)), ak_dl (C p.toNatClampNeg))) := by rw [ak_o8, cm]; unfold ak_c8; rw [if_pos hw, if_neg hr, xo_gg et]
      refine ya_yes hp hK' (by decide) hone ?_
      intro f_waited a_state a_first a_second a_until a_since a_watched a_deceived a_op a_opKey a_opA a_opB a_queued a_answers a_answered a_took a_tookFrom post hpost
      refine yw_41 p16 ⟨8, by omega, rfl⟩ h1 (ak_Gk Gp) (hfit.1 hw) (Or.inr (by decide)) (br_f (by decide) (br_t rfl (br_t rfl (W _ (br_t (nI_pos' (by omega)) (br_t rfl (br_t rfl (nm_e (br_f (by decide) (And.intro hi ?_))))))))))
      rw [ci, esc]
      exact br_t rfl (br_f (by decide) (And.intro hi (nm_r (e' := upd a_score (12 * p.toNatClampNeg + c) (t + b)) (by rw [ci]) (br_f (by decide) (yc_ch (br_f (by decide) hpost))))))
  · have hone : ak_one 8 (nI m) b (C p.toNatClampNeg) = (10000000001, none) := by rw [ak_o8]; unfold ak_c8; rw [if_neg hw]
    exact ya_no hK (by decide) hone (fun post hpost => yw_no p16 ⟨8, by omega, rfl⟩ h1 (ak_Gk Gp) (hfit.2 hw) hpost)
/-- a member less -/
theorem yq_del {p t : Int32} (hp : vp_in p 8) {m n c : Nat} (hm : m < 16) {C : Nat → ak_T} {a_kind a_number a_size a_item a_score a_deadline : Nat → Int32} (hK : yr_K C (a_kind, a_number, a_size, a_item, a_score, a_deadline)) (hk3 : (C p.toNatClampNeg).1 = 3) (hr : ak_rk (C p.toNatClampNeg) m = some t) (hn : ak_n (ak_ur (ak_rk (C p.toNatClampNeg)) m none) = n) {g : Nat → Nat} (h6 : yr_R p.toNatClampNeg (ak_n (ak_rk (C p.toNatClampNeg))) g (ak_rk (C p.toNatClampNeg)) a_item a_score) (hc : c < ak_n (ak_rk (C p.toNatClampNeg))) (ec : g c = m) : yr_K (ak_up C p.toNatClampNeg (ak_nm (3, 0, [], ak_ur (ak_rk (C p.toNatClampNeg)) m none, ak_dl (C p.toNatClampNeg)))) (if n = 0 then upd a_kind p.toNatClampNeg 0 else a_kind, if n = 0 then upd a_number p.toNatClampNeg 0 else a_number, upd a_size p.toNatClampNeg (nI n), sh_l a_item (12 * p.toNatClampNeg + c) (12 * p.toNatClampNeg + n), sh_l a_score (12 * p.toNatClampNeg + c) (12 * p.toNatClampNeg + n), if n = 0 then upd a_deadline p.toNatClampNeg 0 else a_deadline) := by
  have p16 := nu_up hp (M := 16) (by omega) (by omega)
  have kp := (nu_key p16 (by omega)).2
  have Gp := (hK _ kp).1
  have hN := ak_Gn Gp
  have hd := ak_n_del hm hr
  obtain ⟨hl, hsz, h16⟩ := xo_rsz Gp (Or.inr hk3)
  rw [hd, hn] at h6 hc
  refine yq_out kp (by omega) hK hk3 (ak_G3 Gp hk3).1 rfl (by rw [xo_szr]; exact hn) (fun z => xo_Gr (ak_Gd Gp) (by omega) (by omega) (xo_ur16 hm h16)) yr_L0 ⟨fun i => if i < c then g i else g (i + 1), ?_⟩
  show yr_R p.toNatClampNeg (ak_n (ak_ur (ak_rk (C p.toNatClampNeg)) m none)) _ (ak_ur (ak_rk (C p.toNatClampNeg)) m none) _ _
  rw [hn]; exact yl_del h6 (by omega) ec
theorem yo_9 {p b : Int32} (hp : vp_in p 8) {m : Nat} (hm : m < 16) {C : Nat → ak_T} {f_time : Int32} {a_kind a_number a_size a_item a_score a_deadline : Nat → Int32} (hK : yr_K C (a_kind, a_number, a_size, a_item, a_score, a_deadline)) : ya_P 9 p (nI m) b (nI m) C (f_time := f_time) (a_kind := a_kind) (a_number := a_number) (a_size := a_size) (a_item := a_item) (a_score := a_score) (a_deadline := a_deadline) := by
  have p16 := nu_up hp (M := 16) (by omega) (by omega)
  have kp := (nu_key p16 (by omega)).2
  have cm : (nI m).toNatClampNeg = m := nI_clamp (by omega)
  obtain ⟨Gp, h1, h2, h3, h4, h5, g, h6⟩ := hK _ kp
  dsimp only at h1 h2 h3 h4 h5 h6
  have hfit := xo_f3 (o := 9) (Or.inr (Or.inr (Or.inl rfl))) Gp
  by_cases hw : (C p.toNatClampNeg).1 = 0 ∨ (C p.toNatClampNeg).1 = 3
  · obtain ⟨hl, hsz, h16⟩ := xo_rsz Gp hw
    rw [hsz] at h3
    have hN12 := ak_Gn Gp
    by_cases hr : ak_rk (C p.toNatClampNeg) m = none
    · have hone : ak_one 9 (nI m) b (C p.toNatClampNeg) = (0, none) := by rw [ak_o9, cm]; unfold ak_c9; rw [if_pos hw, if_pos hr]
      refine ya_no hK (by decide) hone ?_
      intro f_waited a_state a_first a_second a_until a_since a_watched a_deceived a_op a_opKey a_opA a_opB a_queued a_answers a_answered a_took a_tookFrom post hpost
      exact yw_41 p16 ⟨9, by omega, rfl⟩ h1 (ak_Gk Gp) (hfit.1 hw) (Or.inr (by decide)) (br_f (by decide) (br_f (by decide) (br_f (by decide) (br_f (by decide) (br_f (by decide) (br_f (by decide) (br_f (by decide) (br_f (by decide) (br_f (by decide) (br_f (by decide) (br_f (by decide) (br_f (by decide) (br_f (by decide) (br_t rfl (yf_non p16 hm hN12 h3 h6 hr (br_t (by decide) (br_f (by decide) hpost)))))))))))))))))
    · obtain ⟨t, et⟩ := Option.ne_none_iff_exists'.mp hr
      have hk3 : (C p.toNatClampNeg).1 = 3 := hw.resolve_left (fun e => hr (by rw [ak_G0 Gp e]; rfl))
      obtain ⟨c, hc, ec, esc, W⟩ := yf_mem p16 hm hN12 h3 h6 et
      have hd := ak_n_del hm et
      have hone : ak_one 9 (nI m) b (C p.toNatClampNeg) = (1, some (ak_nm (3, 0, [], ak_ur (ak_rk (C p.toNatClampNeg)) m none, ak_dl (C p.toNatClampNeg)))) := by rw [ak_o9, cm]; unfold ak_c9; rw [if_pos hw, if_neg hr]
      have hK' := yq_del hp hm hK hk3 et rfl h6 hc ec
      rw [hd] at h3 hc
      refine ya_yes hp hK' (by decide) hone ?_
      intro f_waited a_state a_first a_second a_until a_since a_watched a_deceived a_op a_opKey a_opA a_opB a_queued a_answers a_answered a_took a_tookFrom post hpost
      exact yw_41 p16 ⟨9, by omega, rfl⟩ h1 (ak_Gk Gp) (hfit.1 hw) (Or.inr (by decide)) (br_f (by decide) (br_f (by decide) (br_f (by decide) (br_f (by decide) (br_f (by decide) (br_f (by decide) (br_f (by decide) (br_f (by decide) (br_f (by decide) (br_f (by decide) (br_f (by decide) (br_f (by decide) (br_f (by decide) (br_t rfl (W _ (br_f (nI_pos (by omega)) (yo_out p16 (by omega) (by omega) h3 (br_t (nI_pos' (by omega)) hpost))))))))))))))))))
  · have hone : ak_one 9 (nI m) b (C p.toNatClampNeg) = (10000000001, none) := by rw [ak_o9]; unfold ak_c9; rw [if_neg hw]
    exact ya_no hK (by decide) hone (fun post hpost => yw_no p16 ⟨9, by omega, rfl⟩ h1 (ak_Gk Gp) (hfit.2 hw) hpost)
theorem yo_10 {p a b : Int32} (hp : vp_in p 8) {C : Nat → ak_T} {f_time : Int32} {a_kind a_number a_size a_item a_score a_deadline : Nat → Int32} (hx : (C p.toNatClampNeg).1 = 3 → ∃ m, ak_at (ak_rk (C p.toNatClampNeg)) 0 m) (hK : yr_K C (a_kind, a_number, a_size, a_item, a_score, a_deadline)) : ya_P 10 p a b a C (f_time := f_time) (a_kind := a_kind) (a_number := a_number) (a_size := a_size) (a_item := a_item) (a_score := a_score) (a_deadline := a_deadline) := by
  have p16 := nu_up hp (M := 16) (by omega) (by omega)
  have kp := (nu_key p16 (by omega)).2
  obtain ⟨Gp, h1, h2, h3, h4, h5, g, h6⟩ := hK _ kp
  dsimp only at h1 h2 h3 h4 h5 h6
  have hfit := xo_f3 (o := 10) (Or.inr (Or.inr (Or.inr rfl))) Gp
  by_cases h0 : (C p.toNatClampNeg).1 = 0
  · have hone : ak_one 10 a b (C p.toNatClampNeg) = (10000000002, none) := by rw [ak_o10]; unfold ak_c10; rw [if_pos h0]
    refine ya_no hK (by decide) hone ?_
    intro f_waited a_state a_first a_second a_until a_since a_watched a_deceived a_op a_opKey a_opA a_opB a_queued a_answers a_answered a_took a_tookFrom post hpost
    have hs : a_size p.toNatClampNeg = 0 := by rw [h3, ak_G0 Gp h0, ak_szE]; rfl
    exact yw_41 p16 ⟨10, by omega, rfl⟩ h1 (ak_Gk Gp) (hfit.1 (Or.inl h0)) (Or.inr (by decide)) (br_f (by decide) (br_f (by decide) (br_f (by decide) (br_f (by decide) (br_f (by decide) (br_f (by decide) (br_f (by decide) (br_f (by decide) (br_f (by decide) (br_f (by decide) (br_f (by decide) (br_f (by decide) (br_f (by decide) (br_f (by decide) (br_t rfl (And.intro p16 (br_t hs hpost)))))))))))))))))
  · by_cases hk3 : (C p.toNatClampNeg).1 = 3
    · obtain ⟨hl, hsz, h16⟩ := xo_rsz Gp (Or.inr hk3)
      rw [hsz] at h3
      have hN12 := ak_Gn Gp
      obtain ⟨m0, hm0⟩ := hx hk3
      have hex : ∃ c, c < ak_n (ak_rk (C p.toNatClampNeg)) ∧ yr_c (12 * p.toNatClampNeg) c a_item a_score (ak_n (ak_rk (C p.toNatClampNeg))) = 0 := by
        obtain ⟨c, hc, ec⟩ := h6.1.2.2 m0 hm0.1 hm0.2.1
        refine ⟨c, hc, ?_⟩
        rw [yr_cnb h6 hc, ec]; exact hm0.2.2
      obtain ⟨c, hc, ec, W⟩ := yp_place (v := 0) p16 hN12 (by omega) h3 hex
      have hat : ak_at (ak_rk (C p.toNatClampNeg)) 0 (g c) := ⟨(h6.1.1 c hc).1, (h6.1.1 c hc).2, by rw [← yr_cnb h6 hc]; exact ec⟩
      have hg := ak_leE hat
      obtain ⟨t, et⟩ := Option.isSome_iff_exists.mp hat.2.1
      have hd := ak_n_del hat.1 et
      have hone : ak_one 10 a b (C p.toNatClampNeg) = ((nI (g c)).toInt64, some (ak_nm (3, 0, [], ak_ur (ak_rk (C p.toNatClampNeg)) (g c) none, ak_dl (C p.toNatClampNeg)))) := by rw [ak_o10]; unfold ak_c10; rw [if_neg h0, if_pos hk3, hg]
      have hK' := yq_del hp hat.1 hK hk3 et rfl h6 hc rfl
      have hs0 : ¬ a_size p.toNatClampNeg = 0 := by rw [h3]; exact nI_ne0 (by omega) (by omega)
      have ei := (h6.2 c hc).1
      rw [hd] at h3 hc
      refine ya_yes hp hK' (by decide) hone ?_
      intro f_waited a_state a_first a_second a_until a_since a_watched a_deceived a_op a_opKey a_opA a_opB a_queued a_answers a_answered a_took a_tookFrom post hpost
      refine yw_41 p16 ⟨10, by omega, rfl⟩ h1 (ak_Gk Gp) (hfit.1 (Or.inr hk3)) (Or.inr (by decide)) (br_f (by decide) (br_f (by decide) (br_f (by decide) (br_f (by decide) (br_f (by decide) (br_f (by decide) (br_f (by decide) (br_f (by decide) (br_f (by decide) (br_f (by decide) (br_f (by decide) (br_f (by decide) (br_f (by decide) (br_f (by decide) (br_t rfl (And.intro p16 (br_f hs0 (W _ (yo_out p16 (by omega) (by omega) h3 ?_)))))))))))))))))))
      rw [ei]; exact hpost
    · have hone : ak_one 10 a b (C p.toNatClampNeg) = (10000000001, none) := by rw [ak_o10]; unfold ak_c10; rw [if_neg h0, if_neg hk3]
      exact ya_no hK (by decide) hone (fun post hpost => yw_no p16 ⟨10, by omega, rfl⟩ h1 (ak_Gk Gp) (hfit.2 (fun e => e.elim h0 hk3)) hpost)
/-- a client's argument as the log holds it -/
def ya_a (o a f_time : Int32) : Int32 := if o = 3 then (if a = 0 then -1 else f_time + a) else a
theorem ya_all {o p a b : Int32} (hp : vp_in p 8) {C : Nat → ak_T} {f_time : Int32} {a_kind a_number a_size a_item a_score a_deadline : Nat → Int32} (hok : ak_ok o p.toNatClampNeg (ya_a o a f_time)) (ha : o = 3 → a = 0 ∨ 0 < f_time + a) (hx : (C p.toNatClampNeg).1 = 3 → ∃ m, ak_at (ak_rk (C p.toNatClampNeg)) 0 m) (hK : yr_K C (a_kind, a_number, a_size, a_item, a_score, a_deadline)) : ya_P o p a b (ya_a o a f_time) C (f_time := f_time) (a_kind := a_kind) (a_number := a_number) (a_size := a_size) (a_item := a_item) (a_score := a_score) (a_deadline := a_deadline) := by
  obtain ⟨⟨n, hn, rfl⟩, kp, h3, h7, h11⟩ := hok
  rcases (by omega : n = 0 ∨ n = 1 ∨ n = 2 ∨ n = 3 ∨ n = 4 ∨ n = 5 ∨ n = 6 ∨ n = 7 ∨ n = 8 ∨ n = 9 ∨ n = 10 ∨ n = 11) with e | e | e | e | e | e | e | e | e | e | e | e <;> subst e
  · exact yo_0 hp hK
  · exact yo_1 hp hK
  · exact yo_2 hp hK
  · exact yo_3 hp (ha rfl) hK
  · exact yo_4 hp hK
  · exact yo_5 hp hK
  · exact yo_6 hp hK
  · obtain ⟨m, hm, e⟩ := vp_in_of (h7 (Or.inl rfl)) (by omega)
    have e : a = nI m := e
    subst e
    exact yo_7 hp hm hK
  · obtain ⟨m, hm, e⟩ := vp_in_of (h7 (Or.inr (Or.inl rfl))) (by omega)
    have e : a = nI m := e
    subst e
    exact yo_8 hp hm hK
  · obtain ⟨m, hm, e⟩ := vp_in_of (h7 (Or.inr (Or.inr rfl))) (by omega)
    have e : a = nI m := e
    subst e
    exact yo_9 hp hm hK
  · exact yo_10 hp hx hK
  · exact yo_11 hp (h11 rfl).1 (h11 rfl).2 hK
end
section
/-! ===== both sides: current keys A, safe keys B ===== -/
def ab_c (A B : Nat → ak_T) : Nat → ak_T := fun k => if k < 8 then A k else B (k - 8)
theorem ab_lo {A B : Nat → ak_T} {k : Nat} (h : k < 8) : ab_c A B k = A k := if_pos h
theorem ab_hi {A B : Nat → ak_T} {k : Nat} (h : 8 ≤ k) : ab_c A B k = B (k - 8) := if_neg (by omega)
theorem ab_up {A B : Nat → ak_T} {k : Nat} {x : ak_T} (h : k < 8) : ak_up (ab_c A B) k x = ab_c (ak_up A k x) B := by
  funext j
  by_cases z : j = k
  · rw [z, ak_upS, ab_lo h, ak_upS]
  · rw [ak_upN z]
    unfold ab_c
    by_cases w : j < 8
    · rw [if_pos w, if_pos w, ak_upN z]
    · rw [if_neg w, if_neg w]
theorem ab_st {o a b : Int32} {k : Nat} {A B : Nat → ak_T} (hk : k < 8) (h11 : o = 11 → a.toNatClampNeg < 8) : ak_st o k a b (ab_c A B) = ab_c (ak_st o k a b A) B := by
  unfold ak_st
  rw [ab_lo hk]
  by_cases z : o = 11
  · rw [if_pos z, if_pos z]
    by_cases w : (A k).1 = 0
    · rw [if_pos w, if_pos w]
    · rw [if_neg w, if_neg w, ab_up (h11 z), ab_up hk]
  · rw [if_neg z, if_neg z]
    cases h : (ak_one o a b (A k)).2 with
    | none => rfl
    | some x => exact ab_up hk
theorem ab_an {o a b : Int32} {k : Nat} {A B : Nat → ak_T} (hk : k < 8) : ak_an o k a b (ab_c A B) = ak_an o k a b A := by
  unfold ak_an; rw [ab_lo hk]
theorem ab_ch {o a b : Int32} {k : Nat} {A B : Nat → ak_T} (hk : k < 8) : ak_ch o k a b (ab_c A B) = ak_ch o k a b A := by
  funext j; unfold ak_ch; rw [ab_lo hk]
/-! ===== versions (X) and deceived (Y) ===== -/
def rl_V (bd : Nat) (V sn wx wy D : Nat → Int32) : Prop :=
  (∀ j, j < 8 → ∃ n : Nat, n ≤ bd ∧ V j = nI n) ∧ ∀ c, c < 4 → (∀ j, j < 8 → (yb_t (wx c) (nI j) ↔ yb_t (wy c) (nI j))) ∧ (∀ j, j < 8 → yb_t (wy c) (nI j) → ∃ s n : Nat, s ≤ n ∧ n ≤ bd ∧ sn (8 * c + j) = nI s ∧ V j = nI n) ∧ (D c = 0 ∨ D c = 1) ∧ (D c = 1 ↔ ∃ j, j < 8 ∧ yb_t (wy c) (nI j) ∧ sn (8 * c + j) ≠ V j)
theorem rl_Vb {bd bd' : Nat} {V sn wx wy D : Nat → Int32} (h : rl_V bd V sn wx wy D) (hb : bd ≤ bd') : rl_V bd' V sn wx wy D := by
  obtain ⟨h1, h2⟩ := h
  refine ⟨fun j hj => ?_, fun c hc => ?_⟩
  · obtain ⟨n, hn, e⟩ := h1 j hj
    exact ⟨n, by omega, e⟩
  · obtain ⟨a1, a2, a3, a4⟩ := h2 c hc
    refine ⟨a1, fun j hj hw => ?_, a3, a4⟩
    obtain ⟨s, n, h1, h2, h3⟩ := a2 j hj hw
    exact ⟨s, n, h1, by omega, h3⟩
theorem rl_V1 {bd : Nat} (hbd : bd < 1000000) {V sn wx wy D : Nat → Int32} (h : rl_V bd V sn wx wy D) (ch : Nat → Bool) : rl_V (bd + 1) (xv_u ch V) sn wx wy (yv_u ch wy D) := by
  obtain ⟨h1, h2⟩ := h
  have hv : ∀ j n, V j = nI n → xv_u ch V j = nI (if ch j = true then n + 1 else n) := fun j n e => by
    unfold xv_u
    by_cases z : ch j = true
    · rw [if_pos z, if_pos z, e, nI_1]
    · rw [if_neg z, if_neg z, e, Int32.add_zero]
  have hne : ∀ s n : Nat, s ≤ 1000001 → n ≤ 1000001 → s ≠ n → nI s ≠ nI n := fun s n hs hn h e => h ((nI_eq (by omega) (by omega)).mp e)
  refine ⟨fun j hj => ?_, fun c hc => ?_⟩
  · obtain ⟨n, hn, e⟩ := h1 j hj
    refine ⟨_, ?_, hv j n e⟩
    by_cases z : ch j = true
    · rw [if_pos z]; omega
    · rw [if_neg z]; omega
  · obtain ⟨a1, a2, a3, a4⟩ := h2 c hc
    refine ⟨a1, fun j hj hw => ?_, ?_, ?_⟩
    · obtain ⟨s, n, hsn, hn, es, en⟩ := a2 j hj hw
      refine ⟨s, _, ?_, ?_, es, hv j n en⟩
      · by_cases z : ch j = true
        · rw [if_pos z]; omega
        · rw [if_neg z]; omega
      · by_cases z : ch j = true
        · rw [if_pos z]; omega
        · rw [if_neg z]; omega
    · unfold yv_u
      by_cases z : c < 4 ∧ yv_h ch (wy c) = true
      · rw [if_pos z]; exact Or.inr rfl
      · rw [if_neg z]; exact a3
    · unfold yv_u
      by_cases z : c < 4 ∧ yv_h ch (wy c) = true
      · rw [if_pos z]
        refine ⟨fun _ => ?_, fun _ => rfl⟩
        obtain ⟨j, hj, hc1, hw⟩ := yv_hT.mp z.2
        obtain ⟨s, n, hsn, hn, es, en⟩ := a2 j hj hw
        refine ⟨j, hj, hw, ?_⟩
        rw [es, hv j n en, if_pos hc1]
        exact hne s (n + 1) (by omega) (by omega) (by omega)
      · rw [if_neg z, a4]
        refine ⟨fun ⟨j, hj, hw, hd⟩ => ⟨j, hj, hw, ?_⟩, fun ⟨j, hj, hw, hd⟩ => ⟨j, hj, hw, ?_⟩⟩
        · have hcj : ¬ ch j = true := fun e => z ⟨hc, yv_hT.mpr ⟨j, hj, e, hw⟩⟩
          obtain ⟨s, n, hsn, hn, es, en⟩ := a2 j hj hw
          rw [hv j n en, if_neg hcj, ← en]; exact hd
        · have hcj : ¬ ch j = true := fun e => z ⟨hc, yv_hT.mpr ⟨j, hj, e, hw⟩⟩
          obtain ⟨s, n, hsn, hn, es, en⟩ := a2 j hj hw
          rw [hv j n en, if_neg hcj, ← en] at hd; exact hd
/-- what commands change, on both sides -/
def pr_S (bd : Nat) (f_silent f_safe : Int32) (sn wx wy : Nat → Int32) (A B : Nat → ak_T) (K : xk_T) (L : lo_T) (V : Nat → Int32) (M : yk_T) (D : Nat → Int32) : Prop :=
  xr_K A K ∧ lo_R f_silent f_safe L A B ∧ yr_K (ab_c A B) M ∧ rl_V bd V sn wx wy D
theorem pr_kd {bd : Nat} {f_silent f_safe : Int32} {sn wx wy : Nat → Int32} {A B : Nat → ak_T} {K : xk_T} {L : lo_T} {V : Nat → Int32} {M : yk_T} {D : Nat → Int32} (h : pr_S bd f_silent f_safe sn wx wy A B K L V M D) {k : Nat} (hk : k < 8) : K.2.1 k = (A k).1 ∧ M.1 k = (A k).1 := by
  refine ⟨(h.1.2.1 k hk).2.1, ?_⟩
  have := (h.2.2.1 k (by omega)).2.1
  rw [ab_lo hk] at this
  exact this
theorem pr_least {A : Nat → ak_T} {K : xk_T} (h : xr_K A K) {k : Nat} (hk : k < 8) (h3 : (A k).1 = 3) : ∃ m, ak_at (ak_rk (A k)) 0 m := by
  obtain ⟨Gp, h1, h2, h3', h4, g, h6⟩ := h.2.1 k hk
  have hpos := (ak_G3 Gp h3).2.2.1
  exact ⟨g 0, (h6.1.1 0 hpos).1, (h6.1.1 0 hpos).2, ak_nbG h6.1 h6.2.1 hpos⟩
theorem pr_cmd {o p a b f_time : Int32} (hp : vp_in p 8) {bd : Nat} (hbd : bd < 1000000) (hok : ak_ok o p.toNatClampNeg (ya_a o a f_time)) (ha : o = 3 → a = 0 ∨ 0 < f_time + a) {A B : Nat → ak_T} {a_seen a_watching : Nat → Int32} {f_dues f_logged f_broken f_silent f_safe : Int32} {a_kind a_first a_size a_number a_ring a_score a_ranked a_deadline a_due a_logOp a_logKey a_logA a_logB a_version : Nat → Int32} {b_kind b_number b_size b_item b_score b_deadline b_watched b_deceived : Nat → Int32} (h : pr_S bd f_silent f_safe a_seen a_watching b_watched A B (f_dues, a_kind, a_first, a_size, a_number, a_ring, a_score, a_ranked, a_deadline, a_due) (f_logged, f_broken, a_logOp, a_logKey, a_logA, a_logB) a_version (b_kind, b_number, b_size, b_item, b_score, b_deadline) b_deceived) : ∃ (A' : Nat → ak_T) (K : xk_T) (L : lo_T) (V : Nat → Int32) (M : yk_T) (D : Nat → Int32) (r : Int64), pr_S (bd + 1) f_silent f_safe a_seen a_watching b_watched A' B K L V M D ∧ (∀ {f_turns : Int64} {a_state a_gathered a_answered a_watching a_seen a_cOp a_cKey a_cA a_cB : Nat → Int32} {a_results a_taken : Nat → Int64} {a_waitsFor a_until : Nat → Int32} {a_turn : Nat → Int64} {a_source : Nat → Int32} (post : Int64 → SX → Prop), post r (K.1, f_time, L.1, f_safe, L.2.1, f_silent, f_turns, K.2.1, K.2.2.1, K.2.2.2.1, K.2.2.2.2.1, K.2.2.2.2.2.1, K.2.2.2.2.2.2.1, V, K.2.2.2.2.2.2.2.1, K.2.2.2.2.2.2.2.2.1, K.2.2.2.2.2.2.2.2.2, L.2.2.1, L.2.2.2.1, L.2.2.2.2.1, L.2.2.2.2.2, a_state, a_gathered, a_answered, a_watching, a_seen, a_cOp, a_cKey, a_cA, a_cB, a_results, a_taken, a_waitsFor, a_until, a_turn, a_source) → wpX_perform post (f_dues, f_time, f_logged, f_safe, f_broken, f_silent, f_turns, a_kind, a_first, a_size, a_number, a_ring, a_score, a_version, a_ranked, a_deadline, a_due, a_logOp, a_logKey, a_logA, a_logB, a_state, a_gathered, a_answered, a_watching, a_seen, a_cOp, a_cKey, a_cA, a_cB, a_results, a_taken, a_waitsFor, a_until, a_turn, a_source) o p a b) ∧ (∀ {g_waited : Int64} {b_state b_first b_second b_until : Nat → Int32} {b_since : Nat → Int64} {b_op b_opKey b_opA b_opB b_queued : Nat → Int32} {b_answers : Nat → Int64} {b_answered : Nat → Int32} {b_took b_tookFrom : Nat → Int64} (post : Int64 → SY → Prop), post r (f_time, g_waited, M.1, M.2.1, M.2.2.1, M.2.2.2.1, M.2.2.2.2.1, M.2.2.2.2.2, b_state, b_first, b_second, b_until, b_since, b_watched, D, b_op, b_opKey, b_opA, b_opB, b_queued, b_answers, b_answered, b_took, b_tookFrom) → wpY_carryOut post (f_time, g_waited, b_kind, b_number, b_size, b_item, b_score, b_deadline, b_state, b_first, b_second, b_until, b_since, b_watched, b_deceived, b_op, b_opKey, b_opA, b_opB, b_queued, b_answers, b_answered, b_took, b_tookFrom) o p a b) := by
  have kp := (nu_key hp (by omega)).2
  obtain ⟨hK, hL, hY, hV⟩ := h
  have h11 : o = 11 → (ya_a o a f_time).toNatClampNeg < 8 := fun e => (nu_key (hok.2.2.2.2 e).1 (by omega)).2
  obtain ⟨K, L, hK', hL', _, WX⟩ := xa_all (b := b) hp hok hK hL
  obtain ⟨M, hM, WY⟩ := ya_all (b := b) (f_time := f_time) hp hok ha (by rw [ab_lo kp]; exact pr_least hK kp) hY
  rw [ab_st kp h11] at hM
  rw [ab_an kp, ab_ch kp] at WY
  refine ⟨_, K, L, _, M, _, ak_an o p.toNatClampNeg (ya_a o a f_time) b A, ⟨hK', hL', hM, rl_V1 hbd hV (ak_ch o p.toNatClampNeg (ya_a o a f_time) b A)⟩, ?_, ?_⟩
  · intro f_turns a_state a_gathered a_answered a_watching a_seen a_cOp a_cKey a_cA a_cB a_results a_taken a_waitsFor a_until a_turn a_source post hpost
    by_cases h3 : o = 3
    · by_cases h0 : a = 0
      · have e : ya_a o a f_time = -1 := by unfold ya_a; rw [if_pos h3, if_pos h0]
        rw [e] at WX hpost
        exact br_t h3 (br_t h0 (WX _ hpost))
      · have e : ya_a o a f_time = f_time + a := by unfold ya_a; rw [if_pos h3, if_neg h0]
        rw [e] at WX hpost
        exact br_t h3 (br_f h0 (WX _ hpost))
    · have e : ya_a o a f_time = a := by unfold ya_a; rw [if_neg h3]
      rw [e] at WX hpost
      exact br_f h3 (WX _ hpost)
  · intro g_waited b_state b_first b_second b_until b_since b_op b_opKey b_opA b_opB b_queued b_answers b_answered b_took b_tookFrom post hpost
    exact WY _ hpost
/-- Y takes an element out as TAKE does -/
theorem yt_out {p : Int32} (hp : vp_in p 8) {C : Nat → ak_T} {b_kind b_number b_size b_item b_score b_deadline : Nat → Int32} (hK : yr_K C (b_kind, b_number, b_size, b_item, b_score, b_deadline)) (hk2 : (C p.toNatClampNeg).1 = 2) : ∃ (M : yk_T) (v : Int32), yr_K (ak_st 6 p.toNatClampNeg 0 0 C) M ∧ ak_an 6 p.toNatClampNeg 0 0 C = v.toInt64 ∧ ∀ {g_time : Int32} {g_waited : Int64} {b_state b_first b_second b_until : Nat → Int32} {b_since : Nat → Int64} {b_watched b_deceived b_op b_opKey b_opA b_opB b_queued : Nat → Int32} {b_answers : Nat → Int64} {b_answered : Nat → Int32} {b_took b_tookFrom : Nat → Int64} (post : Int32 → SY → Prop), post v (g_time, g_waited, M.1, M.2.1, M.2.2.1, M.2.2.2.1, M.2.2.2.2.1, M.2.2.2.2.2, b_state, b_first, b_second, b_until, b_since, b_watched, yv_u (ak_ch 6 p.toNatClampNeg 0 0 C) b_watched b_deceived, b_op, b_opKey, b_opA, b_opB, b_queued, b_answers, b_answered, b_took, b_tookFrom) → wpY_out post (g_time, g_waited, b_kind, b_number, b_size, b_item, b_score, b_deadline, b_state, b_first, b_second, b_until, b_since, b_watched, b_deceived, b_op, b_opKey, b_opA, b_opB, b_queued, b_answers, b_answered, b_took, b_tookFrom) p 0 := by
  have p16 := nu_up hp (M := 16) (by omega) (by omega)
  have kp := (nu_key p16 (by omega)).2
  obtain ⟨Gp, h1, h2, h3, h4, h5, g, h6⟩ := hK _ kp
  dsimp only at h1 h2 h3 h4 h5 h6
  obtain ⟨hr, hsz⟩ := xo_lsz Gp (Or.inr hk2)
  rw [hsz] at h3
  have hle := ak_Gls Gp
  obtain ⟨_, hpos, _, _⟩ := ak_G2 Gp hk2
  obtain ⟨n, hn⟩ : ∃ n, (ak_ls (C p.toNatClampNeg)).length = n + 1 := ⟨_, (Nat.sub_add_cancel hpos).symm⟩
  rw [hn] at h3
  have h0 : ¬ (C p.toNatClampNeg).1 = 0 := by rw [hk2]; decide
  have hone : ak_one 6 0 0 (C p.toNatClampNeg) = (((ak_ls (C p.toNatClampNeg)).getD 0 0).toInt64, some (ak_nm (2, 0, (ak_ls (C p.toNatClampNeg)).tail, ak_0, ak_dl (C p.toNatClampNeg)))) := by rw [ak_o6]; unfold ak_c6; rw [if_neg h0, if_pos hk2, if_pos rfl]
  have hK' := yo_6l (n := n) (c := 0) (l' := (ak_ls (C p.toNatClampNeg)).tail) hp hK hk2 hn (by rw [List.length_tail]; omega) (yl_tail hn h5)
  obtain ⟨e1, e2, e3⟩ := ak_so (o := 6) (by decide) hone
  refine ⟨_, (ak_ls (C p.toNatClampNeg)).getD 0 0, by rw [e1]; exact hK', e2, ?_⟩
  intro g_time g_waited b_state b_first b_second b_until b_since b_watched b_deceived b_op b_opKey b_opA b_opB b_queued b_answers b_answered b_took b_tookFrom post hpost
  rw [e3, yv_1 hp] at hpost
  refine yo_out (c := 0) p16 (by omega) (by omega) h3 ?_
  have ev : b_item (12 * p.toNatClampNeg + 0) = (ak_ls (C p.toNatClampNeg)).getD 0 0 := h5 0 (by omega)
  rw [ev]; exact hpost
theorem pr_take {p : Int32} (hp : vp_in p 8) {bd : Nat} (hbd : bd < 1000000) {A B : Nat → ak_T} {a_seen a_watching : Nat → Int32} {f_dues f_logged f_broken f_silent f_safe : Int32} {a_kind a_first a_size a_number a_ring a_score a_ranked a_deadline a_due a_logOp a_logKey a_logA a_logB a_version : Nat → Int32} {b_kind b_number b_size b_item b_score b_deadline b_watched b_deceived : Nat → Int32} (h : pr_S bd f_silent f_safe a_seen a_watching b_watched A B (f_dues, a_kind, a_first, a_size, a_number, a_ring, a_score, a_ranked, a_deadline, a_due) (f_logged, f_broken, a_logOp, a_logKey, a_logA, a_logB) a_version (b_kind, b_number, b_size, b_item, b_score, b_deadline) b_deceived) (hk2 : (A p.toNatClampNeg).1 = 2) : ∃ (A' : Nat → ak_T) (K : xk_T) (L : lo_T) (V : Nat → Int32) (M : yk_T) (D : Nat → Int32) (v : Int32), pr_S (bd + 1) f_silent f_safe a_seen a_watching b_watched A' B K L V M D ∧ (∀ j, j ≠ p.toNatClampNeg → A' j = A j) ∧ (∀ {f_time : Int32} {f_turns : Int64} {a_state a_gathered a_answered a_watching a_seen a_cOp a_cKey a_cA a_cB : Nat → Int32} {a_results a_taken : Nat → Int64} {a_waitsFor a_until : Nat → Int32} {a_turn : Nat → Int64} {a_source : Nat → Int32} (post : Int64 → SX → Prop), post v.toInt64 (K.1, f_time, L.1, f_safe, L.2.1, f_silent, f_turns, K.2.1, K.2.2.1, K.2.2.2.1, K.2.2.2.2.1, K.2.2.2.2.2.1, K.2.2.2.2.2.2.1, V, K.2.2.2.2.2.2.2.1, K.2.2.2.2.2.2.2.2.1, K.2.2.2.2.2.2.2.2.2, L.2.2.1, L.2.2.2.1, L.2.2.2.2.1, L.2.2.2.2.2, a_state, a_gathered, a_answered, a_watching, a_seen, a_cOp, a_cKey, a_cA, a_cB, a_results, a_taken, a_waitsFor, a_until, a_turn, a_source) → wpX_apply post (f_dues, f_time, f_logged, f_safe, f_broken, f_silent, f_turns, a_kind, a_first, a_size, a_number, a_ring, a_score, a_version, a_ranked, a_deadline, a_due, a_logOp, a_logKey, a_logA, a_logB, a_state, a_gathered, a_answered, a_watching, a_seen, a_cOp, a_cKey, a_cA, a_cB, a_results, a_taken, a_waitsFor, a_until, a_turn, a_source) 6 p 0 0) ∧ (∀ {g_time : Int32} {g_waited : Int64} {b_state b_first b_second b_until : Nat → Int32} {b_since : Nat → Int64} {b_op b_opKey b_opA b_opB b_queued : Nat → Int32} {b_answers : Nat → Int64} {b_answered : Nat → Int32} {b_took b_tookFrom : Nat → Int64} (post : Int32 → SY → Prop), post v (g_time, g_waited, M.1, M.2.1, M.2.2.1, M.2.2.2.1, M.2.2.2.2.1, M.2.2.2.2.2, b_state, b_first, b_second, b_until, b_since, b_watched, D, b_op, b_opKey, b_opA, b_opB, b_queued, b_answers, b_answered, b_took, b_tookFrom) → wpY_out post (g_time, g_waited, b_kind, b_number, b_size, b_item, b_score, b_deadline, b_state, b_first, b_second, b_until, b_since, b_watched, b_deceived, b_op, b_opKey, b_opA, b_opB, b_queued, b_answers, b_answered, b_took, b_tookFrom) p 0) := by
  have kp := (nu_key hp (by omega)).2
  obtain ⟨hK, hL, hY, hV⟩ := h
  have hok : ak_ok 6 p.toNatClampNeg 0 := ak_ok0 kp (n := 6) (by omega) rfl (by decide) (by decide) (by decide)
  obtain ⟨K, L, hK', hL', _, WX⟩ := xa_all (b := 0) hp hok hK hL
  obtain ⟨M, v, hM, ev, WY⟩ := yt_out hp hY (by rw [ab_lo kp]; exact hk2)
  rw [ab_st kp (fun e => absurd e (by decide))] at hM
  rw [ab_an kp] at ev
  rw [ab_ch kp] at WY
  rw [ev] at WX
  refine ⟨_, K, L, _, M, _, v, ⟨hK', hL', hM, rl_V1 hbd hV (ak_ch 6 p.toNatClampNeg 0 0 A)⟩, fun j hj => ?_, ?_, ?_⟩
  · unfold ak_st
    rw [if_neg (by decide)]
    cases h : (ak_one 6 0 0 (A p.toNatClampNeg)).2 with
    | none => rfl
    | some x => exact ak_upN hj
  · intro f_time f_turns a_state a_gathered a_answered a_watching a_seen a_cOp a_cKey a_cA a_cB a_results a_taken a_waitsFor a_until a_turn a_source post hpost
    exact WX _ hpost
  · intro g_time g_waited b_state b_first b_second b_until b_since b_op b_opKey b_opA b_opB b_queued b_answers b_answered b_took b_tookFrom post hpost
    exact WY _ hpost
end
section
/-! ===== who has waited longest ===== -/
def lf_s (w : Nat → Bool) (t : Nat → Int64) (c : Nat) (best : Int32) : Int32 := if w c = true then (if best < 0 then nI c else if t best.toNatClampNeg ≤ t c then best else nI c) else best
def lf_f (w : Nat → Bool) (t : Nat → Int64) : Nat → Int32 → Int32
  | 0, best => best
  | k + 1, best => lf_f w t k (lf_s w t (3 - k) best)
def lf_b (w : Nat → Bool) (best : Int32) : Prop := best = -1 ∨ ∃ b : Nat, b < 4 ∧ best = nI b ∧ w b = true
theorem lf_sb {w : Nat → Bool} {t : Nat → Int64} {c : Nat} (hc : c < 4) {best : Int32} (h : lf_b w best) : lf_b w (lf_s w t c best) ∧ (lf_s w t c best = -1 → best = -1 ∧ w c = false) := by
  unfold lf_s
  by_cases z : w c = true
  · rw [if_pos z]
    have hn : ¬ nI c = -1 := by
      intro e
      have : ¬ nI c < 0 := nI_pos (by omega)
      rw [e] at this
      exact this (by decide)
    by_cases y : best < 0
    · rw [if_pos y]
      exact ⟨Or.inr ⟨c, hc, rfl, z⟩, fun e => absurd e hn⟩
    · rw [if_neg y]
      by_cases x : t best.toNatClampNeg ≤ t c
      · rw [if_pos x]
        refine ⟨h, fun e => ?_⟩
        rw [e] at y
        exact absurd (by decide) y
      · rw [if_neg x]
        exact ⟨Or.inr ⟨c, hc, rfl, z⟩, fun e => absurd e hn⟩
  · rw [if_neg z]
    exact ⟨h, fun e => ⟨e, by cases hw : w c; rfl; exact absurd hw z⟩⟩
theorem lf_P {w : Nat → Bool} {t : Nat → Int64} : ∀ k best, k ≤ 4 → lf_b w best → lf_b w (lf_f w t k best) ∧ (lf_f w t k best = -1 → best = -1 ∧ ∀ c, 4 - k ≤ c → c < 4 → w c = false) := by
  intro k
  induction k with
  | zero => intro best _ h; exact ⟨h, fun e => ⟨e, fun c h1 h2 => by omega⟩⟩
  | succ k ih =>
    intro best hk h
    obtain ⟨a1, a2⟩ := lf_sb (t := t) (c := 3 - k) (by omega) h
    obtain ⟨b1, b2⟩ := ih (lf_s w t (3 - k) best) (by omega) a1
    refine ⟨b1, fun e => ?_⟩
    obtain ⟨c1, c2⟩ := b2 e
    obtain ⟨d1, d2⟩ := a2 c1
    refine ⟨d1, fun c h1 h2 => ?_⟩
    rcases Nat.lt_or_ge (3 - k) c with z | z
    · exact c2 c (by omega) h2
    · have e : c = 3 - k := by omega
      rw [e]; exact d2
theorem lf_bn {w : Nat → Bool} {best : Int32} (h : lf_b w best) (hn : ¬ best < 0) : vp_in best 4 := by
  rcases h with h | ⟨b, hb, h, _⟩
  · rw [h] at hn; exact absurd (by decide) hn
  · rw [h]; exact vp_in_nI hb (by omega)
theorem lf_X {p : Int32} {w : Nat → Bool} {a_state a_waitsFor : Nat → Int32} {a_turn : Nat → Int64} (hw : ∀ c, c < 4 → (w c = true ↔ (a_state c = 1 ∧ yb_t (a_waitsFor c) p))) {f_dues f_time f_logged f_safe f_broken f_silent : Int32} {f_turns : Int64} {a_kind a_first a_size a_number a_ring a_score a_version a_ranked a_deadline a_due a_logOp a_logKey a_logA a_logB a_gathered a_answered a_watching a_seen a_cOp a_cKey a_cA a_cB : Nat → Int32} {a_results a_taken : Nat → Int64} {a_until a_source : Nat → Int32} {post : Int32 → Prop} : ∀ k best, k ≤ 4 → lf_b w best → post (lf_f w a_turn k best) → ∀ n, k < n → wX_longest_4 post p f_dues f_time f_logged f_safe f_broken f_silent f_turns a_kind a_first a_size a_number a_ring a_score a_version a_ranked a_deadline a_due a_logOp a_logKey a_logA a_logB a_state a_gathered a_answered a_watching a_seen a_cOp a_cKey a_cA a_cB a_results a_taken a_waitsFor a_until a_turn a_source n best (nI (4 - k)) := by
  intro k
  induction k with
  | zero =>
    intro best _ hb hpost n hn
    obtain ⟨n, rfl⟩ := nu_suc hn
    exact br_t (nI_le (a := 4) (b := 4) (by omega) (by omega)) hpost
  | succ k ih =>
    intro best hk hb hpost n hn
    obtain ⟨n, rfl⟩ := nu_suc hn
    have e3 : 4 - (k + 1) = 3 - k := by omega
    rw [e3]
    have cx : (nI (3 - k)).toNatClampNeg = 3 - k := nI_clamp (by omega)
    have hi : vp_in (nI (3 - k)) 4 := vp_in_nI (by omega) (by omega)
    have e1 : nI (3 - k) + 1 = nI (4 - k) := by rw [nI_1]; exact congrArg nI (by omega)
    have go := ih (lf_s w a_turn (3 - k) best) (by omega) (lf_sb (by omega) hb).1 hpost n (by omega)
    refine br_f (nI_ge (b := 4) (by omega) (by omega)) (And.intro hi ?_)
    rw [cx]
    by_cases z : w (3 - k) = true
    · obtain ⟨z1, z2⟩ := (hw _ (by omega)).mp z
      unfold lf_s at go
      rw [if_pos z] at go
      refine br_t z1 (And.intro hi (br_t z2 (br_f (by decide) ?_)))
      by_cases y : best < 0
      · rw [if_pos y] at go
        exact br_t y (nm_r e1 go)
      · rw [if_neg y] at go
        refine br_f y (And.intro hi (And.intro (lf_bn hb y) ?_))
        rw [cx]
        by_cases x : a_turn best.toNatClampNeg ≤ a_turn (3 - k)
        · rw [if_pos x] at go
          exact br_t x (nm_r e1 go)
        · rw [if_neg x] at go
          exact br_f x (nm_r e1 go)
    · unfold lf_s at go
      rw [if_neg z] at go
      refine br_c (fun z1 => And.intro hi (br_f (fun z2 => z ((hw _ (by omega)).mpr ⟨z1, z2⟩)) (br_t rfl (nm_r e1 go)))) (fun _ => br_t rfl (nm_r e1 go))
theorem lf_Y {p : Int32} {w : Nat → Bool} {b_state b_first b_second : Nat → Int32} {b_since : Nat → Int64} (hw : ∀ c, c < 4 → (w c = true ↔ (b_state c = 1 ∧ (b_first c = p ∨ b_second c = p)))) {g_time : Int32} {g_waited : Int64} {b_kind b_number b_size b_item b_score b_deadline b_until b_watched b_deceived b_op b_opKey b_opA b_opB b_queued : Nat → Int32} {b_answers : Nat → Int64} {b_answered : Nat → Int32} {b_took b_tookFrom : Nat → Int64} {post : Int32 → Prop} : ∀ k best, k ≤ 4 → lf_b w best → post (lf_f w b_since k best) → ∀ n, k < n → wY_longest_4 post p g_time g_waited b_kind b_number b_size b_item b_score b_deadline b_state b_first b_second b_until b_since b_watched b_deceived b_op b_opKey b_opA b_opB b_queued b_answers b_answered b_took b_tookFrom n best (nI (4 - k)) := by
  intro k
  induction k with
  | zero =>
    intro best _ hb hpost n hn
    obtain ⟨n, rfl⟩ := nu_suc hn
    exact br_t (nI_le (a := 4) (b := 4) (by omega) (by omega)) hpost
  | succ k ih =>
    intro best hk hb hpost n hn
    obtain ⟨n, rfl⟩ := nu_suc hn
    have e3 : 4 - (k + 1) = 3 - k := by omega
    rw [e3]
    have cx : (nI (3 - k)).toNatClampNeg = 3 - k := nI_clamp (by omega)
    have hi : vp_in (nI (3 - k)) 4 := vp_in_nI (by omega) (by omega)
    have e1 : nI (3 - k) + 1 = nI (4 - k) := by rw [nI_1]; exact congrArg nI (by omega)
    have go := ih (lf_s w b_since (3 - k) best) (by omega) (lf_sb (by omega) hb).1 hpost n (by omega)
    refine br_f (nI_ge (b := 4) (by omega) (by omega)) (And.intro hi ?_)
    rw [cx]
    by_cases z : w (3 - k) = true
    · obtain ⟨z1, z2⟩ := (hw _ (by omega)).mp z
      unfold lf_s at go
      rw [if_pos z] at go
      have fin : wY_longest_39 post (wY_longest_4 post p g_time g_waited b_kind b_number b_size b_item b_score b_deadline b_state b_first b_second b_until b_since b_watched b_deceived b_op b_opKey b_opA b_opB b_queued b_answers b_answered b_took b_tookFrom n) p best (nI (3 - k)) g_time g_waited b_kind b_number b_size b_item b_score b_deadline b_state b_first b_second b_until b_since b_watched b_deceived b_op b_opKey b_opA b_opB b_queued b_answers b_answered b_took b_tookFrom := by
        by_cases y : best < 0
        · rw [if_pos y] at go
          exact br_t y (nm_r e1 go)
        · rw [if_neg y] at go
          refine br_f y (And.intro hi (And.intro (lf_bn hb y) ?_))
          rw [cx]
          by_cases x : b_since best.toNatClampNeg ≤ b_since (3 - k)
          · rw [if_pos x] at go
            exact br_t x (nm_r e1 go)
          · rw [if_neg x] at go
            exact br_f x (nm_r e1 go)
      refine br_t z1 (And.intro hi (br_c (fun _ => fin) (fun n1 => And.intro hi (br_t (z2.resolve_left n1) fin))))
    · unfold lf_s at go
      rw [if_neg z] at go
      refine br_c (fun z1 => And.intro hi (br_f (fun z2 => z ((hw _ (by omega)).mpr ⟨z1, Or.inl z2⟩)) (And.intro hi (br_f (fun z2 => z ((hw _ (by omega)).mpr ⟨z1, Or.inr z2⟩)) (nm_r e1 go))))) (fun _ => nm_r e1 go)
/-- the two keys that a client waits for, as bits -/
def lf_wf (x y : Nat) : Int32 := (((1 : Int32) <<< (nI x &&& 31)) ||| ((1 : Int32) <<< (nI y &&& 31))).toInt16.toInt32
theorem lf_wb : ∀ x, x < 8 → ∀ y, y < 8 → ∀ j, j < 8 → (yb_t (lf_wf x y) (nI j) ↔ (x = j ∨ y = j)) := by decide +kernel
def sv_W (s wf fi se : Nat → Int32) : Prop := ∀ c, c < 4 → s c = 1 → ∃ x y : Nat, x < 8 ∧ y < 8 ∧ wf c = lf_wf x y ∧ fi c = nI x ∧ se c = nI y
theorem sv_Wy {s wf fi se : Nat → Int32} (h : sv_W s wf fi se) {c j : Nat} (hc : c < 4) (hj : j < 8) : (s c = 1 ∧ yb_t (wf c) (nI j)) ↔ (s c = 1 ∧ (fi c = nI j ∨ se c = nI j)) := by
  refine ⟨fun ⟨h1, h2⟩ => ?_, fun ⟨h1, h2⟩ => ?_⟩
  · obtain ⟨x, y, hx, hy, e1, e2, e3⟩ := h c hc h1
    rw [e1, lf_wb x hx y hy j hj] at h2
    refine ⟨h1, h2.elim (fun e => Or.inl ?_) (fun e => Or.inr ?_)⟩
    · rw [e2, e]
    · rw [e3, e]
  · obtain ⟨x, y, hx, hy, e1, e2, e3⟩ := h c hc h1
    rw [e1, lf_wb x hx y hy j hj]
    refine ⟨h1, h2.elim (fun e => Or.inl ?_) (fun e => Or.inr ?_)⟩
    · rw [e2] at e; exact (nI_eq (by omega) (by omega)).mp e
    · rw [e3] at e; exact (nI_eq (by omega) (by omega)).mp e
/-- both sides find the same client -/
theorem sv_lg {a_state a_waitsFor b_first b_second : Nat → Int32} {a_turn : Nat → Int64} (h : sv_W a_state a_waitsFor b_first b_second) {j : Nat} (hj : j < 8) : ∃ r : Int32, (∀ {f_dues f_time f_logged f_safe f_broken f_silent : Int32} {f_turns : Int64} {a_kind a_first a_size a_number a_ring a_score a_version a_ranked a_deadline a_due a_logOp a_logKey a_logA a_logB a_gathered a_answered a_watching a_seen a_cOp a_cKey a_cA a_cB : Nat → Int32} {a_results a_taken : Nat → Int64} {a_until a_source : Nat → Int32} (post : Int32 → Prop), post r → wpX_longest post (f_dues, f_time, f_logged, f_safe, f_broken, f_silent, f_turns, a_kind, a_first, a_size, a_number, a_ring, a_score, a_version, a_ranked, a_deadline, a_due, a_logOp, a_logKey, a_logA, a_logB, a_state, a_gathered, a_answered, a_watching, a_seen, a_cOp, a_cKey, a_cA, a_cB, a_results, a_taken, a_waitsFor, a_until, a_turn, a_source) (nI j)) ∧ (∀ {g_time : Int32} {g_waited : Int64} {b_kind b_number b_size b_item b_score b_deadline b_until b_watched b_deceived b_op b_opKey b_opA b_opB b_queued : Nat → Int32} {b_answers : Nat → Int64} {b_answered : Nat → Int32} {b_took b_tookFrom : Nat → Int64} (post : Int32 → Prop), post r → wpY_longest post (g_time, g_waited, b_kind, b_number, b_size, b_item, b_score, b_deadline, a_state, b_first, b_second, b_until, a_turn, b_watched, b_deceived, b_op, b_opKey, b_opA, b_opB, b_queued, b_answers, b_answered, b_took, b_tookFrom) (nI j)) ∧ ((r = -1 ∧ ∀ c, c < 4 → ¬ (a_state c = 1 ∧ yb_t (a_waitsFor c) (nI j))) ∨ ∃ c : Nat, c < 4 ∧ r = nI c ∧ a_state c = 1 ∧ yb_t (a_waitsFor c) (nI j)) := by
  have hw : ∀ c, c < 4 → ((fun c => decide (a_state c = 1 ∧ yb_t (a_waitsFor c) (nI j))) c = true ↔ (a_state c = 1 ∧ yb_t (a_waitsFor c) (nI j))) := fun c hc => by
    dsimp only
    rw [decide_eq_true_iff]
  obtain ⟨p1, p2⟩ := lf_P (w := fun c => decide (a_state c = 1 ∧ yb_t (a_waitsFor c) (nI j))) (t := a_turn) 4 (-1) (by omega) (Or.inl rfl)
  refine ⟨lf_f (fun c => decide (a_state c = 1 ∧ yb_t (a_waitsFor c) (nI j))) a_turn 4 (-1), ?_, ?_, ?_⟩
  · intro f_dues f_time f_logged f_safe f_broken f_silent f_turns a_kind a_first a_size a_number a_ring a_score a_version a_ranked a_deadline a_due a_logOp a_logKey a_logA a_logB a_gathered a_answered a_watching a_seen a_cOp a_cKey a_cA a_cB a_results a_taken a_until a_source post hpost
    exact ⟨5, lf_X hw 4 (-1) (by omega) (Or.inl rfl) hpost 5 (by omega)⟩
  · intro g_time g_waited b_kind b_number b_size b_item b_score b_deadline b_until b_watched b_deceived b_op b_opKey b_opA b_opB b_queued b_answers b_answered b_took b_tookFrom post hpost
    exact ⟨5, lf_Y (fun c hc => (hw c hc).trans (sv_Wy h hc hj)) 4 (-1) (by omega) (Or.inl rfl) hpost 5 (by omega)⟩
  · rcases p1 with e | ⟨c, hc, e, hwc⟩
    · refine Or.inl ⟨e, fun c hc hh => ?_⟩
      have := (p2 e).2 c (by omega) hc
      rw [decide_eq_true hh] at this
      exact absurd this (by decide)
    · exact Or.inr ⟨c, hc, e, (hw c hc).mp hwc⟩
end
section
/-! ===== clients that wait are served ===== -/
def sv_T (T : Nat → Int64) (R : Nat → Int32) (F : Nat → Int64) : Prop := ∀ c, c < 4 → (T c = 10000000006 ∧ F c = 10000000006) ∨ (T c ≠ 10000000006 ∧ F c = (R c).toInt64)
theorem sv_ne (v : Int32) : v.toInt64 ≠ 10000000006 := fun e => by
  have := congrArg Int64.toInt e
  rw [Int32.toInt_toInt64] at this
  have h1 := v.toInt_lt
  have h2 : (10000000006 : Int64).toInt = 10000000006 := by decide
  rw [h2] at this
  omega
theorem sv_T1 {T : Nat → Int64} {R : Nat → Int32} {F : Nat → Int64} (h : sv_T T R F) (c : Nat) (v p : Int32) : sv_T (vp_updL T c v.toInt64) (upd R c p) (vp_updL F c p.toInt64) := fun i hi => by
  by_cases z : i = c
  · subst z
    rw [pk_uLs, pk_uLs, pk_us]; exact Or.inr ⟨sv_ne v, rfl⟩
  · rw [pk_uLn z, pk_uLn z, pk_un z]; exact h i hi
theorem sv_W1 {s wf fi se : Nat → Int32} (h : sv_W s wf fi se) (c : Nat) {v : Int32} (hv : ¬ v = 1) : sv_W (upd s c v) wf fi se := fun i hi e => by
  by_cases z : i = c
  · subst z
    rw [pk_us] at e; exact absurd e hv
  · rw [pk_un z] at e; exact h i hi e
/-- no client waits for a list in k -/
def sv_N (A : Nat → ak_T) (s wf : Nat → Int32) (k : Nat) : Prop := (A k).1 = 2 → ∀ c, c < 4 → ¬ (s c = 1 ∧ yb_t (wf c) (nI k))
/-- Y looks again at the keys before k, in vain -/
theorem sv_skip {A : Nat → ak_T} {b_kind b_first b_second a_waitsFor S : Nat → Int32} {a_turn : Nat → Int64} (hk : ∀ j, j < 8 → b_kind j = (A j).1) (hW : sv_W S a_waitsFor b_first b_second) {k : Nat} (hk8 : k ≤ 8) (hN : ∀ j, j < k → sv_N A S a_waitsFor j) {g_time : Int32} {g_waited : Int64} {b_number b_size b_item b_score b_deadline b_until b_watched b_deceived b_op b_opKey b_opA b_opB b_queued : Nat → Int32} {b_answers : Nat → Int64} {b_answered : Nat → Int32} {b_took b_tookFrom : Nat → Int64} {post : SY → Prop} (h : ∃ m, wY_serve_2 post m (nI k) g_time g_waited b_kind b_number b_size b_item b_score b_deadline S b_first b_second b_until a_turn b_watched b_deceived b_op b_opKey b_opA b_opB b_queued b_answers b_answered b_took b_tookFrom) : ∀ i, i ≤ k → ∃ m, wY_serve_2 post m (nI (k - i)) g_time g_waited b_kind b_number b_size b_item b_score b_deadline S b_first b_second b_until a_turn b_watched b_deceived b_op b_opKey b_opA b_opB b_queued b_answers b_answered b_took b_tookFrom := by
  intro i
  induction i with
  | zero => intro _; exact h
  | succ i ih =>
    intro hi
    obtain ⟨m, hm⟩ := ih (by omega)
    obtain ⟨j, ej⟩ : ∃ j, k - i = j + 1 := ⟨k - i - 1, by omega⟩
    have ej' : k - (i + 1) = j := by omega
    rw [ej] at hm
    rw [ej']
    have cj : (nI j).toNatClampNeg = j := nI_clamp (by omega)
    refine ⟨m + 1, br_f (nI_ge (b := 8) (by omega) (by omega)) (And.intro (vp_in_nI (by omega) (by omega)) ?_)⟩
    rw [cj, hk j (by omega)]
    obtain ⟨r, _, WY, hr⟩ := sv_lg (a_turn := a_turn) hW (j := j) (by omega)
    refine br_c (fun z => ?_) (fun _ => br_f (by decide) (nm_r (nI_1 j) hm))
    rcases hr with ⟨e, hn⟩ | ⟨c, hc, e, hsc⟩
    · subst e
      exact WY _ (br_f (by decide) (nm_r (nI_1 j) hm))
    · exact absurd hsc (hN j (by omega) z c hc)
theorem sv_cnt {S : Nat → Int32} {c : Nat} (hc : c < 4) (h : S c = 1) : en_C 4 (fun i => decide (S i = 1)) = en_C 4 (fun i => decide (upd S c 0 i = 1)) + 1 := by
  refine en_Cadd hc ?_ (decide_eq_true h) (fun j _ hj => ?_)
  · rw [pk_us]; decide
  · rw [pk_un hj]
theorem sv_main {f_silent f_safe : Int32} {a_seen a_watching b_watched a_waitsFor b_first b_second : Nat → Int32} {a_turn : Nat → Int64} {B : Nat → ak_T} : ∀ (N w k bd : Nat) (A : Nat → ak_T) (K : xk_T) (L : lo_T) (V : Nat → Int32) (M : yk_T) (D S : Nat → Int32) (T : Nat → Int64) (R : Nat → Int32) (F : Nat → Int64), en_C 4 (fun c => decide (S c = 1)) = w → 9 * w + (8 - k) ≤ N → k ≤ 8 → bd + w < 1000000 → pr_S bd f_silent f_safe a_seen a_watching b_watched A B K L V M D → sv_W S a_waitsFor b_first b_second → sv_T T R F → (∀ j, j < k → sv_N A S a_waitsFor j) → ∃ (A2 : Nat → ak_T) (K2 : xk_T) (L2 : lo_T) (V2 : Nat → Int32) (M2 : yk_T) (D2 S2 : Nat → Int32) (T2 : Nat → Int64) (R2 : Nat → Int32) (F2 : Nat → Int64), pr_S (bd + w) f_silent f_safe a_seen a_watching b_watched A2 B K2 L2 V2 M2 D2 ∧ sv_T T2 R2 F2 ∧ (∀ c, S2 c = S c ∨ (S c = 1 ∧ S2 c = 0)) ∧ (∀ {f_time : Int32} {f_turns : Int64} {a_gathered a_answered a_watching a_seen a_cOp a_cKey a_cA a_cB : Nat → Int32} {a_results : Nat → Int64} {a_until : Nat → Int32} (post : SX → Prop), post (K2.1, f_time, L2.1, f_safe, L2.2.1, f_silent, f_turns, K2.2.1, K2.2.2.1, K2.2.2.2.1, K2.2.2.2.2.1, K2.2.2.2.2.2.1, K2.2.2.2.2.2.2.1, V2, K2.2.2.2.2.2.2.2.1, K2.2.2.2.2.2.2.2.2.1, K2.2.2.2.2.2.2.2.2.2, L2.2.2.1, L2.2.2.2.1, L2.2.2.2.2.1, L2.2.2.2.2.2, S2, a_gathered, a_answered, a_watching, a_seen, a_cOp, a_cKey, a_cA, a_cB, a_results, T2, a_waitsFor, a_until, a_turn, R2) → ∃ m, wX_serve_2 post m (nI k) K.1 f_time L.1 f_safe L.2.1 f_silent f_turns K.2.1 K.2.2.1 K.2.2.2.1 K.2.2.2.2.1 K.2.2.2.2.2.1 K.2.2.2.2.2.2.1 V K.2.2.2.2.2.2.2.1 K.2.2.2.2.2.2.2.2.1 K.2.2.2.2.2.2.2.2.2 L.2.2.1 L.2.2.2.1 L.2.2.2.2.1 L.2.2.2.2.2 S a_gathered a_answered a_watching a_seen a_cOp a_cKey a_cA a_cB a_results T a_waitsFor a_until a_turn R) ∧ (∀ {g_time : Int32} {g_waited : Int64} {b_until b_op b_opKey b_opA b_opB b_queued : Nat → Int32} {b_answers : Nat → Int64} {b_answered : Nat → Int32} (post : SY → Prop), post (g_time, g_waited, M2.1, M2.2.1, M2.2.2.1, M2.2.2.2.1, M2.2.2.2.2.1, M2.2.2.2.2.2, S2, b_first, b_second, b_until, a_turn, b_watched, D2, b_op, b_opKey, b_opA, b_opB, b_queued, b_answers, b_answered, T2, F2) → ∃ m, wY_serve_2 post m (nI k) g_time g_waited M.1 M.2.1 M.2.2.1 M.2.2.2.1 M.2.2.2.2.1 M.2.2.2.2.2 S b_first b_second b_until a_turn b_watched D b_op b_opKey b_opA b_opB b_queued b_answers b_answered T F) := by
  intro N
  induction N with
  | zero =>
    intro w k bd A K L V M D S T R F hw hN hk hbd hS hW hT hn
    have e8 : k = 8 := by omega
    subst e8
    refine ⟨A, K, L, V, M, D, S, T, R, F, ⟨hS.1, hS.2.1, hS.2.2.1, rl_Vb hS.2.2.2 (by omega)⟩, hT, fun c => Or.inl rfl, ?_, ?_⟩
    · intro f_time f_turns a_gathered a_answered a_watching a_seen a_cOp a_cKey a_cA a_cB a_results a_until post hpost
      exact ⟨1, br_t (nI_le (a := 8) (b := 8) (by omega) (by omega)) hpost⟩
    · intro g_time g_waited b_until b_op b_opKey b_opA b_opB b_queued b_answers b_answered post hpost
      exact ⟨1, br_t (nI_le (a := 8) (b := 8) (by omega) (by omega)) hpost⟩
  | succ N ih =>
    intro w k bd A K L V M D S T R F hw hN hk hbd hS hW hT hn
    rcases Nat.lt_or_ge k 8 with hk8 | hk8
    · have ck : (nI k).toNatClampNeg = k := nI_clamp (by omega)
      have hik : vp_in (nI k) 8 := vp_in_nI hk8 (by omega)
      have hik16 : vp_in (nI k) 16 := vp_in_nI (by omega) (by omega)
      have nk : ¬ (8 : Int32) ≤ nI k := nI_ge (b := 8) hk8 (by omega)
      obtain ⟨kx, ky⟩ := pr_kd hS hk8
      by_cases hk2 : (A k).1 = 2
      · obtain ⟨r, LX, LY, hr⟩ := sv_lg (a_turn := a_turn) hW hk8
        rcases hr with ⟨e, hnone⟩ | ⟨c, hc, e, hsc, hbc⟩
        · subst e
          have hn' : ∀ j, j < k + 1 → sv_N A S a_waitsFor j := fun j hj => by
            rcases Nat.lt_or_ge j k with z | z
            · exact hn j z
            · have e : j = k := by omega
              subst e
              exact fun _ => hnone
          obtain ⟨A2, K2, L2, V2, M2, D2, S2, T2, R2, F2, h1, h2, h3, h4, h5⟩ := ih w (k + 1) bd A K L V M D S T R F hw (by omega) (by omega) hbd hS hW hT hn'
          refine ⟨A2, K2, L2, V2, M2, D2, S2, T2, R2, F2, h1, h2, h3, ?_, ?_⟩
          · intro f_time f_turns a_gathered a_answered a_watching a_seen a_cOp a_cKey a_cA a_cB a_results a_until post hpost
            obtain ⟨m, hm⟩ := h4 _ hpost
            refine ⟨m + 1, br_f nk (And.intro hik ?_)⟩
            rw [ck, kx]
            exact br_t hk2 (LX _ (br_f (by decide) (nm_r (nI_1 k) hm)))
          · intro g_time g_waited b_until b_op b_opKey b_opA b_opB b_queued b_answers b_answered post hpost
            obtain ⟨m, hm⟩ := h5 _ hpost
            refine ⟨m + 1, br_f nk (And.intro hik16 ?_)⟩
            rw [ck, ky]
            exact br_t hk2 (LY _ (br_f (by decide) (nm_r (nI_1 k) hm)))
        · subst e
          have hic : vp_in (nI c) 4 := vp_in_nI hc (by omega)
          have cc : (nI c).toNatClampNeg = c := nI_clamp (by omega)
          have hcnt := sv_cnt hc hsc
          obtain ⟨A1, K1, L1, V1, M1, D1, v, hS1, hA1, WX, WY⟩ := pr_take hik (by omega) hS (by rw [ck]; exact hk2)
          rw [ck] at hA1
          have hW1 := sv_W1 hW c (v := 0) (by decide)
          have hn1 : ∀ j, j < k → sv_N A1 (upd S c 0) a_waitsFor j := fun j hj h2 i hi hh => by
            rw [hA1 j (by omega)] at h2
            refine hn j hj h2 i hi ⟨?_, hh.2⟩
            by_cases z : i = c
            · rw [z, pk_us] at hh; exact absurd hh.1 (by decide)
            · rw [pk_un z] at hh; exact hh.1
          obtain ⟨A2, K2, L2, V2, M2, D2, S2, T2, R2, F2, h1, h2, h3, h4, h5⟩ := ih (w - 1) k (bd + 1) A1 K1 L1 V1 M1 D1 (upd S c 0) (vp_updL T c v.toInt64) (upd R c (nI k)) (vp_updL F c (nI k).toInt64) (by omega) (by omega) (by omega) (by omega) hS1 hW1 (sv_T1 hT c v (nI k)) hn1
          refine ⟨A2, K2, L2, V2, M2, D2, S2, T2, R2, F2, ?_, h2, fun i => ?_, ?_, ?_⟩
          · rw [show bd + w = bd + 1 + (w - 1) from by omega]; exact h1
          · by_cases z : i = c
            · subst z
              rcases h3 i with e | e
              · rw [pk_us] at e; exact Or.inr ⟨hsc, e⟩
              · exact Or.inr ⟨hsc, e.2⟩
            · have := h3 i
              rw [pk_un z] at this; exact this
          · intro f_time f_turns a_gathered a_answered a_watching a_seen a_cOp a_cKey a_cA a_cB a_results a_until post hpost
            obtain ⟨m, hm⟩ := h4 _ hpost
            refine ⟨m + 1, br_f nk (And.intro hik ?_)⟩
            rw [ck, kx]
            refine br_t hk2 (LX _ (br_t (nI_pos' (by omega)) ?_))
            unfold wpX_grab
            refine WX _ (And.intro hic (nm_r (e' := vp_updL T c v.toInt64) (by rw [cc]) (And.intro hic (nm_r (e' := upd R c (nI k)) ?_ (And.intro hic (nm_r (e' := upd S c 0) ?_ hm))))))
            · rw [cc, nu_vb (by omega)]
            · rw [cc, nu_b0]
          · intro g_time g_waited b_until b_op b_opKey b_opA b_opB b_queued b_answers b_answered post hpost
            have hsk := sv_skip (A := A1) (fun j hj => (pr_kd hS1 hj).2) hW1 hk hn1 (h5 _ hpost) k (by omega)
            rw [Nat.sub_self] at hsk
            obtain ⟨m, hm⟩ := hsk
            refine ⟨m + 1, br_f nk (And.intro hik16 ?_)⟩
            rw [ck, ky]
            refine br_t hk2 (LY _ (br_t (nI_pos' (by omega)) ?_))
            unfold wpY_take
            exact WY _ (And.intro hic (nm_r (e' := vp_updL T c v.toInt64) (by rw [cc]) (And.intro hic (nm_r (e' := vp_updL F c (nI k).toInt64) (by rw [cc]) (And.intro hic (nm_r (e' := upd S c 0) (by rw [cc]) hm))))))
      · have hn' : ∀ j, j < k + 1 → sv_N A S a_waitsFor j := fun j hj => by
          rcases Nat.lt_or_ge j k with z | z
          · exact hn j z
          · have e : j = k := by omega
            subst e
            exact fun h => absurd h hk2
        obtain ⟨A2, K2, L2, V2, M2, D2, S2, T2, R2, F2, h1, h2, h3, h4, h5⟩ := ih w (k + 1) bd A K L V M D S T R F hw (by omega) (by omega) hbd hS hW hT hn'
        refine ⟨A2, K2, L2, V2, M2, D2, S2, T2, R2, F2, h1, h2, h3, ?_, ?_⟩
        · intro f_time f_turns a_gathered a_answered a_watching a_seen a_cOp a_cKey a_cA a_cB a_results a_until post hpost
          obtain ⟨m, hm⟩ := h4 _ hpost
          refine ⟨m + 1, br_f nk (And.intro hik ?_)⟩
          rw [ck, kx]
          exact br_f hk2 (br_f (by decide) (nm_r (nI_1 k) hm))
        · intro g_time g_waited b_until b_op b_opKey b_opA b_opB b_queued b_answers b_answered post hpost
          obtain ⟨m, hm⟩ := h5 _ hpost
          refine ⟨m + 1, br_f nk (And.intro hik16 ?_)⟩
          rw [ck, ky]
          exact br_f hk2 (br_f (by decide) (nm_r (nI_1 k) hm))
    · have e8 : k = 8 := by omega
      subst e8
      refine ⟨A, K, L, V, M, D, S, T, R, F, ⟨hS.1, hS.2.1, hS.2.2.1, rl_Vb hS.2.2.2 (by omega)⟩, hT, fun c => Or.inl rfl, ?_, ?_⟩
      · intro f_time f_turns a_gathered a_answered a_watching a_seen a_cOp a_cKey a_cA a_cB a_results a_until post hpost
        exact ⟨1, br_t (nI_le (a := 8) (b := 8) (by omega) (by omega)) hpost⟩
      · intro g_time g_waited b_until b_op b_opKey b_opA b_opB b_queued b_answers b_answered post hpost
        exact ⟨1, br_t (nI_le (a := 8) (b := 8) (by omega) (by omega)) hpost⟩
/-- serve, from its beginning -/
theorem sv_serve {f_silent f_safe : Int32} {a_seen a_watching b_watched a_waitsFor b_first b_second : Nat → Int32} {a_turn : Nat → Int64} {A B : Nat → ak_T} {bd : Nat} {K : xk_T} {L : lo_T} {V : Nat → Int32} {M : yk_T} {D S : Nat → Int32} {T : Nat → Int64} {R : Nat → Int32} {F : Nat → Int64} (hbd : bd + 4 < 1000000) (hS : pr_S bd f_silent f_safe a_seen a_watching b_watched A B K L V M D) (hW : sv_W S a_waitsFor b_first b_second) (hT : sv_T T R F) : ∃ (A2 : Nat → ak_T) (K2 : xk_T) (L2 : lo_T) (V2 : Nat → Int32) (M2 : yk_T) (D2 S2 : Nat → Int32) (T2 : Nat → Int64) (R2 : Nat → Int32) (F2 : Nat → Int64), pr_S (bd + 4) f_silent f_safe a_seen a_watching b_watched A2 B K2 L2 V2 M2 D2 ∧ sv_T T2 R2 F2 ∧ (∀ c, S2 c = S c ∨ (S c = 1 ∧ S2 c = 0)) ∧ (∀ {f_time : Int32} {f_turns : Int64} {a_gathered a_answered a_watching a_seen a_cOp a_cKey a_cA a_cB : Nat → Int32} {a_results : Nat → Int64} {a_until : Nat → Int32} (post : SX → Prop), post (K2.1, f_time, L2.1, f_safe, L2.2.1, f_silent, f_turns, K2.2.1, K2.2.2.1, K2.2.2.2.1, K2.2.2.2.2.1, K2.2.2.2.2.2.1, K2.2.2.2.2.2.2.1, V2, K2.2.2.2.2.2.2.2.1, K2.2.2.2.2.2.2.2.2.1, K2.2.2.2.2.2.2.2.2.2, L2.2.2.1, L2.2.2.2.1, L2.2.2.2.2.1, L2.2.2.2.2.2, S2, a_gathered, a_answered, a_watching, a_seen, a_cOp, a_cKey, a_cA, a_cB, a_results, T2, a_waitsFor, a_until, a_turn, R2) → wpX_serve post (K.1, f_time, L.1, f_safe, L.2.1, f_silent, f_turns, K.2.1, K.2.2.1, K.2.2.2.1, K.2.2.2.2.1, K.2.2.2.2.2.1, K.2.2.2.2.2.2.1, V, K.2.2.2.2.2.2.2.1, K.2.2.2.2.2.2.2.2.1, K.2.2.2.2.2.2.2.2.2, L.2.2.1, L.2.2.2.1, L.2.2.2.2.1, L.2.2.2.2.2, S, a_gathered, a_answered, a_watching, a_seen, a_cOp, a_cKey, a_cA, a_cB, a_results, T, a_waitsFor, a_until, a_turn, R)) ∧ (∀ {g_time : Int32} {g_waited : Int64} {b_until b_op b_opKey b_opA b_opB b_queued : Nat → Int32} {b_answers : Nat → Int64} {b_answered : Nat → Int32} (post : SY → Prop), post (g_time, g_waited, M2.1, M2.2.1, M2.2.2.1, M2.2.2.2.1, M2.2.2.2.2.1, M2.2.2.2.2.2, S2, b_first, b_second, b_until, a_turn, b_watched, D2, b_op, b_opKey, b_opA, b_opB, b_queued, b_answers, b_answered, T2, F2) → wpY_serve post (g_time, g_waited, M.1, M.2.1, M.2.2.1, M.2.2.2.1, M.2.2.2.2.1, M.2.2.2.2.2, S, b_first, b_second, b_until, a_turn, b_watched, D, b_op, b_opKey, b_opA, b_opB, b_queued, b_answers, b_answered, T, F)) := by
  have hw4 := en_Cle 4 (fun c => decide (S c = 1))
  obtain ⟨A2, K2, L2, V2, M2, D2, S2, T2, R2, F2, h1, h2, h3, h4, h5⟩ := sv_main _ _ 0 bd A K L V M D S T R F rfl (Nat.le_refl _) (by omega) (by omega) hS hW hT (fun j hj => by omega)
  refine ⟨A2, K2, L2, V2, M2, D2, S2, T2, R2, F2, ⟨h1.1, h1.2.1, h1.2.2.1, rl_Vb h1.2.2.2 (by omega)⟩, h2, h3, ?_, ?_⟩
  · intro f_time f_turns a_gathered a_answered a_watching a_seen a_cOp a_cKey a_cA a_cB a_results a_until post hpost
    exact h4 _ hpost
  · intro g_time g_waited b_until b_op b_opKey b_opA b_opB b_queued b_answers b_answered post hpost
    exact h5 _ hpost
end
section
/-! ===== a gathered command, and a row of them ===== -/
def cm_ok (o k a : Int32) : Prop := vp_in k 8 ∧ (∃ n : Nat, n < 12 ∧ o = nI n) ∧ (o = 3 → vp_in a 101) ∧ ((o = 7 ∨ o = 8 ∨ o = 9) → vp_in a 16) ∧ (o = 11 → vp_in a 8 ∧ a.toNatClampNeg ≠ k.toNatClampNeg)
theorem cm_ok1 {o k a : Int32} (h : cm_ok o k a) {t : Nat} (ht : t ≤ 1000000000) : ak_ok o k.toNatClampNeg (ya_a o a (nI t)) ∧ (o = 3 → a = 0 ∨ 0 < nI t + a) := by
  obtain ⟨h1, h2, h3, h7, h11⟩ := h
  have kp := (nu_key h1 (by omega)).2
  by_cases z : o = 3
  · obtain ⟨j, hj, e⟩ := vp_in_of (h3 z) (by omega)
    subst e
    have hy : nI j = 0 ∨ 0 < nI t + nI j := by
      rcases Nat.eq_zero_or_pos j with w | w
      · exact Or.inl (by rw [w]; rfl)
      · refine Or.inr ?_
        rw [nI_add]; exact nI_lt (a := 0) (by omega) (by omega)
    refine ⟨⟨h2, kp, fun _ => ?_, fun w => ?_, fun w => ?_⟩, fun _ => hy⟩
    · unfold ya_a
      rw [if_pos z]
      by_cases w : nI j = 0
      · rw [if_pos w]; exact Or.inl rfl
      · rw [if_neg w]; exact Or.inr (hy.resolve_left w)
    · rw [z] at w; exact absurd w (by decide)
    · rw [z] at w; exact absurd w (by decide)
  · have e : ya_a o a (nI t) = a := by unfold ya_a; rw [if_neg z]
    rw [e]
    exact ⟨⟨h2, kp, fun w => absurd w z, h7, h11⟩, fun w => absurd w z⟩
theorem cm_loop {f_silent f_safe p : Int32} (hp : vp_in p 4) {n t : Nat} (hn : n ≤ 8) (ht : t ≤ 1000000000) {a_seen a_watching b_watched a_cOp a_cKey a_cA a_cB : Nat → Int32} {B : Nat → ak_T} (hc : ∀ i, i < n → cm_ok (a_cOp (8 * p.toNatClampNeg + i)) (a_cKey (8 * p.toNatClampNeg + i)) (a_cA (8 * p.toNatClampNeg + i))) : ∀ (d x bd : Nat) (A : Nat → ak_T) (K : xk_T) (L : lo_T) (V : Nat → Int32) (M : yk_T) (D : Nat → Int32) (Q : Nat → Int64), x + d = n → bd + d < 1000000 → pr_S bd f_silent f_safe a_seen a_watching b_watched A B K L V M D → ∃ (A2 : Nat → ak_T) (K2 : xk_T) (L2 : lo_T) (V2 : Nat → Int32) (M2 : yk_T) (D2 : Nat → Int32) (Q2 : Nat → Int64), pr_S (bd + d) f_silent f_safe a_seen a_watching b_watched A2 B K2 L2 V2 M2 D2 ∧ (∀ {f_turns : Int64} {a_state a_gathered a_answered a_watching a_seen : Nat → Int32} {a_taken : Nat → Int64} {a_waitsFor a_until : Nat → Int32} {a_turn : Nat → Int64} {a_source : Nat → Int32} (post : Int32 → SX → Prop), (∀ m, wX_commit_51 post p (nI n) (m + 1) (nI (8 * p.toNatClampNeg + n)) K2.1 (nI t) L2.1 f_safe L2.2.1 f_silent f_turns K2.2.1 K2.2.2.1 K2.2.2.2.1 K2.2.2.2.2.1 K2.2.2.2.2.2.1 K2.2.2.2.2.2.2.1 V2 K2.2.2.2.2.2.2.2.1 K2.2.2.2.2.2.2.2.2.1 K2.2.2.2.2.2.2.2.2.2 L2.2.2.1 L2.2.2.2.1 L2.2.2.2.2.1 L2.2.2.2.2.2 a_state a_gathered a_answered a_watching a_seen a_cOp a_cKey a_cA a_cB Q2 a_taken a_waitsFor a_until a_turn a_source) → ∃ m, wX_commit_51 post p (nI n) m (nI (8 * p.toNatClampNeg + x)) K.1 (nI t) L.1 f_safe L.2.1 f_silent f_turns K.2.1 K.2.2.1 K.2.2.2.1 K.2.2.2.2.1 K.2.2.2.2.2.1 K.2.2.2.2.2.2.1 V K.2.2.2.2.2.2.2.1 K.2.2.2.2.2.2.2.2.1 K.2.2.2.2.2.2.2.2.2 L.2.2.1 L.2.2.2.1 L.2.2.2.2.1 L.2.2.2.2.2 a_state a_gathered a_answered a_watching a_seen a_cOp a_cKey a_cA a_cB Q a_taken a_waitsFor a_until a_turn a_source) ∧ (∀ {g_waited : Int64} {b_state b_first b_second b_until : Nat → Int32} {b_since : Nat → Int64} {b_queued b_answered : Nat → Int32} {b_took b_tookFrom : Nat → Int64} (post : Int32 → SY → Prop), (∀ m, wY_commit_60 post p (nI n) (m + 1) (nI (8 * p.toNatClampNeg + n)) (nI t) g_waited M2.1 M2.2.1 M2.2.2.1 M2.2.2.2.1 M2.2.2.2.2.1 M2.2.2.2.2.2 b_state b_first b_second b_until b_since b_watched D2 a_cOp a_cKey a_cA a_cB b_queued Q2 b_answered b_took b_tookFrom) → ∃ m, wY_commit_60 post p (nI n) m (nI (8 * p.toNatClampNeg + x)) (nI t) g_waited M.1 M.2.1 M.2.2.1 M.2.2.2.1 M.2.2.2.2.1 M.2.2.2.2.2 b_state b_first b_second b_until b_since b_watched D a_cOp a_cKey a_cA a_cB b_queued Q b_answered b_took b_tookFrom) := by
  have kp := (nu_key hp (by omega)).2
  intro d
  induction d with
  | zero =>
    intro x bd A K L V M D Q hx hbd hS
    have e : x = n := by omega
    subst e
    refine ⟨A, K, L, V, M, D, Q, hS, ?_, ?_⟩
    · intro f_turns a_state a_gathered a_answered a_watching a_seen a_taken a_waitsFor a_until a_turn a_source post h
      exact ⟨1, h 0⟩
    · intro g_waited b_state b_first b_second b_until b_since b_queued b_answered b_took b_tookFrom post h
      exact ⟨1, h 0⟩
  | succ d ih =>
    intro x bd A K L V M D Q hx hbd hS
    have hk := hc x (by omega)
    obtain ⟨hok, ha⟩ := cm_ok1 hk ht
    obtain ⟨A1, K1, L1, V1, M1, D1, r, hS1, WX, WY⟩ := pr_cmd (b := a_cB (8 * p.toNatClampNeg + x)) hk.1 (by omega) hok ha hS
    obtain ⟨A2, K2, L2, V2, M2, D2, Q2, h1, h4, h5⟩ := ih (x + 1) (bd + 1) A1 K1 L1 V1 M1 D1 (vp_updL Q (8 * p.toNatClampNeg + x) r) (by omega) (by omega) hS1
    have cx : (nI (8 * p.toNatClampNeg + x)).toNatClampNeg = 8 * p.toNatClampNeg + x := nI_clamp (by omega)
    have hi : vp_in (nI (8 * p.toNatClampNeg + x)) 32 := vp_in_nI (by omega) (by omega)
    have c0 : ¬ 8 * p + nI n ≤ nI (8 * p.toNatClampNeg + x) := by rw [nu_8 hp]; exact nI_ge (by omega) (by omega)
    refine ⟨A2, K2, L2, V2, M2, D2, Q2, ?_, ?_, ?_⟩
    · rw [show bd + (d + 1) = bd + 1 + d from by omega]; exact h1
    · intro f_turns a_state a_gathered a_answered a_watching a_seen a_taken a_waitsFor a_until a_turn a_source post h
      obtain ⟨m, hm⟩ := h4 _ h
      refine ⟨m + 1, br_f c0 (And.intro hi (And.intro hi (And.intro hi (And.intro hi ?_))))⟩
      rw [cx]
      exact WX _ (And.intro hi (nm_e (nm_r (nI_1 _) hm)))
    · intro g_waited b_state b_first b_second b_until b_since b_queued b_answered b_took b_tookFrom post h
      obtain ⟨m, hm⟩ := h5 _ h
      refine ⟨m + 1, br_f c0 (And.intro hi (And.intro hi (And.intro hi (And.intro hi ?_))))⟩
      rw [cx]
      exact WY _ (And.intro hi (nm_e (nm_r (nI_1 _) hm)))
end
section
/-! ===== deadlines that are over ===== -/
theorem en_leN {n N : Nat} {g : Nat → Nat} {p : Nat → Bool} (h : en_E n N g p) : n ≤ N := by
  rw [en_len h]; exact en_Cle N p
abbrev ex_p (t : Int32) (x : ak_T) : Prop := ak_dl x ≠ -1 ∧ ak_dl x ≤ t
def ex_1 (t : Int32) (x : ak_T) : ak_T := if ex_p t x then ak_E else x
def ex_A (t : Int32) (A : Nat → ak_T) : Nat → ak_T := fun k => ex_1 t (A k)
def ex_c (t : Int32) (A : Nat → ak_T) (j : Nat) : Bool := decide (j < 8 ∧ ex_p t (A j))
def ex_n (t : Int32) (A : Nat → ak_T) : Nat := en_C 8 (ex_c t A)
theorem ex_G {t : Int32} {x : ak_T} (h : ak_G x) : ak_G (ex_1 t x) := by
  unfold ex_1
  by_cases z : ex_p t x
  · rw [if_pos z]; exact ak_GE
  · rw [if_neg z]; exact h
theorem ex_E {t : Int32} : ex_1 t ak_E = ak_E := if_neg (fun h => h.1 rfl)
theorem xv_c (c1 c2 c : Nat → Bool) (V : Nat → Int32) (h : ∀ j, c j = (c1 j || c2 j)) (hd : ∀ j, c1 j = true → c2 j = false) : xv_u c2 (xv_u c1 V) = xv_u c V := by
  funext j
  unfold xv_u
  rw [h j]
  cases h1 : c1 j with
  | false => simp
  | true => rw [hd j h1]; simp
theorem yv_c (c1 c2 c : Nat → Bool) (w D : Nat → Int32) (h : ∀ j, j < 8 → c j = (c1 j || c2 j)) : yv_u c2 w (yv_u c1 w D) = yv_u c w D := by
  funext i
  unfold yv_u
  by_cases z : i < 4 ∧ yv_h c (w i) = true
  · rw [if_pos z]
    obtain ⟨j, hj, h1, h2⟩ := yv_hT.mp z.2
    rw [h j hj, Bool.or_eq_true] at h1
    by_cases y : i < 4 ∧ yv_h c2 (w i) = true
    · rw [if_pos y]
    · rw [if_neg y]
      rcases h1 with h1 | h1
      · rw [if_pos ⟨z.1, yv_hT.mpr ⟨j, hj, h1, h2⟩⟩]
      · exact absurd ⟨z.1, yv_hT.mpr ⟨j, hj, h1, h2⟩⟩ y
  · rw [if_neg z, if_neg (fun y => ?_), if_neg (fun y => ?_)]
    · obtain ⟨j, hj, h1, h2⟩ := yv_hT.mp y.2
      exact z ⟨y.1, yv_hT.mpr ⟨j, hj, by rw [h j hj, h1, Bool.true_or], h2⟩⟩
    · obtain ⟨j, hj, h1, h2⟩ := yv_hT.mp y.2
      exact z ⟨y.1, yv_hT.mpr ⟨j, hj, by rw [h j hj, h1, Bool.or_true], h2⟩⟩
theorem ex_drop {t : Int32} {A : Nat → ak_T} {q : Nat} (hq : q < 8) (h : ex_p t (A q)) : ex_A t (ak_up A q ak_E) = ex_A t A ∧ ex_n t A = ex_n t (ak_up A q ak_E) + 1 ∧ (∀ j, ex_c t A j = (decide (j = q) || ex_c t (ak_up A q ak_E) j)) ∧ ex_c t (ak_up A q ak_E) q = false := by
  have h0 : ex_c t (ak_up A q ak_E) q = false := by
    unfold ex_c
    rw [ak_upS]
    exact decide_eq_false (fun w => w.2.1 rfl)
  have h1 : ∀ j, j ≠ q → ex_c t (ak_up A q ak_E) j = ex_c t A j := fun j hj => by
    unfold ex_c; rw [ak_upN hj]
  have h2 : ex_c t A q = true := decide_eq_true ⟨hq, h⟩
  refine ⟨?_, ?_, fun j => ?_, h0⟩
  · funext j
    unfold ex_A
    by_cases z : j = q
    · rw [z, ak_upS, ex_E]
      unfold ex_1
      rw [if_pos h]
    · rw [ak_upN z]
  · exact en_Cadd hq h0 h2 (fun j _ hj => (h1 j hj).symm)
  · by_cases z : j = q
    · rw [z, h2, decide_eq_true rfl, Bool.true_or]
    · rw [h1 j z, decide_eq_false z, Bool.false_or]
theorem ex_none {t : Int32} {A : Nat → ak_T} (h8 : ∀ k, 8 ≤ k → A k = ak_E) (h : ex_n t A = 0) : ex_A t A = A ∧ ex_c t A = (fun _ => false) ∧ ∀ k, ¬ ex_p t (A k) := by
  have hp : ∀ k, ¬ ex_p t (A k) := fun k w => by
    rcases Nat.lt_or_ge k 8 with z | z
    · have : 0 < ex_n t A := en_Cpos.mpr ⟨k, z, decide_eq_true ⟨z, w⟩⟩
      omega
    · rw [h8 k z] at w; exact w.1 rfl
  refine ⟨?_, ?_, hp⟩
  · funext k; exact if_neg (hp k)
  · funext k; exact decide_eq_false (fun w => hp k w.2)
theorem ex_X {f_silent f_safe f_time : Int32} {B : Nat → ak_T} : ∀ (N c : Nat) (A : Nat → ak_T) (K : xk_T) (L : lo_T) (V : Nat → Int32), ex_n f_time A = N → xr_K A K → lo_R f_silent f_safe L A B → ∃ (K2 : xk_T) (L2 : lo_T), xr_K (ex_A f_time A) K2 ∧ lo_R f_silent f_safe L2 (ex_A f_time A) B ∧ ∀ {f_turns : Int64} {a_state a_gathered a_answered a_watching a_seen a_cOp a_cKey a_cA a_cB : Nat → Int32} {a_results a_taken : Nat → Int64} {a_waitsFor a_until : Nat → Int32} {a_turn : Nat → Int64} {a_source : Nat → Int32} (post : Int32 → SX → Prop), post (nI (c + N)) (K2.1, f_time, L2.1, f_safe, L2.2.1, f_silent, f_turns, K2.2.1, K2.2.2.1, K2.2.2.2.1, K2.2.2.2.2.1, K2.2.2.2.2.2.1, K2.2.2.2.2.2.2.1, xv_u (ex_c f_time A) V, K2.2.2.2.2.2.2.2.1, K2.2.2.2.2.2.2.2.2.1, K2.2.2.2.2.2.2.2.2.2, L2.2.2.1, L2.2.2.2.1, L2.2.2.2.2.1, L2.2.2.2.2.2, a_state, a_gathered, a_answered, a_watching, a_seen, a_cOp, a_cKey, a_cA, a_cB, a_results, a_taken, a_waitsFor, a_until, a_turn, a_source) → ∃ m, wX_expire_2 post m (nI c) K.1 f_time L.1 f_safe L.2.1 f_silent f_turns K.2.1 K.2.2.1 K.2.2.2.1 K.2.2.2.2.1 K.2.2.2.2.2.1 K.2.2.2.2.2.2.1 V K.2.2.2.2.2.2.2.1 K.2.2.2.2.2.2.2.2.1 K.2.2.2.2.2.2.2.2.2 L.2.2.1 L.2.2.2.1 L.2.2.2.2.1 L.2.2.2.2.2 a_state a_gathered a_answered a_watching a_seen a_cOp a_cKey a_cA a_cB a_results a_taken a_waitsFor a_until a_turn a_source := by
  intro N
  induction N with
  | zero =>
    intro c A K L V hN hK hL
    obtain ⟨e1, e2, hp⟩ := ex_none hK.1 hN
    rw [e1]
    refine ⟨K, L, hK, hL, ?_⟩
    intro f_turns a_state a_gathered a_answered a_watching a_seen a_cOp a_cKey a_cA a_cB a_results a_taken a_waitsFor a_until a_turn a_source post hpost
    rw [e2, xv_0] at hpost
    obtain ⟨n, g, ed, hE, hS, hq, hl⟩ := hK.2.2
    dsimp only at ed hq hl
    refine ⟨1, ?_⟩
    rcases Nat.eq_zero_or_pos n with z | z
    · exact br_t (by rw [ed, z]; decide) hpost
    · have g8 := (hE.1 0 z).1
      have n8 : n ≤ 8 := en_leN hE
      have hd := (hE.1 0 z).2
      dsimp only at hd
      rw [decide_eq_true_iff] at hd
      have hlt : f_time < ak_dl (A (g 0)) := Int32.not_le.mp (fun w => hp (g 0) ⟨hd, w⟩)
      refine br_f (by rw [ed]; exact nI_nle z (by omega)) (And.intro (by rw [hq 0 z]; exact vp_in_nI g8 (by omega)) (br_t ?_ hpost))
      rw [hq 0 z, nI_clamp (by omega), hl _ g8]; exact hlt
  | succ N ih =>
    intro c A K L V hN hK hL
    obtain ⟨n, g, ed, hE, hS, hq, hl⟩ := hK.2.2
    dsimp only at ed hq hl
    obtain ⟨q, hq8, hqc⟩ := en_Cpos.mp (show 0 < en_C 8 (ex_c f_time A) from by unfold ex_n at hN; omega)
    have hqe : ex_p f_time (A q) := (of_decide_eq_true hqc).2
    obtain ⟨i, hi, ei⟩ := hE.2.2 q hq8 (decide_eq_true hqe.1)
    have z : 0 < n := by omega
    have g8 := (hE.1 0 z).1
    have hd := (hE.1 0 z).2
    dsimp only at hd
    rw [decide_eq_true_iff] at hd
    have n8 : n ≤ 8 := en_leN hE
    have hle : ak_dl (A (g 0)) ≤ f_time := by
      rcases Nat.eq_zero_or_pos i with w | w
      · rw [w] at ei; rw [ei]; exact hqe.2
      · have := hS 0 i w hi
        dsimp only at this
        rw [ei] at this
        exact Int32.le_trans this hqe.2
    have he : ex_p f_time (A (g 0)) := ⟨hd, hle⟩
    obtain ⟨d1, d2, d3, d4⟩ := ex_drop g8 he
    have hin : vp_in (nI (g 0)) 8 := vp_in_nI g8 (by omega)
    have cg : (nI (g 0)).toNatClampNeg = g 0 := nI_clamp (by omega)
    have hk0 : ¬ (A (g 0)).1 = 0 := ak_Gdl (hK.2.1 _ g8).1 hd
    have hok : ak_ok 2 (nI (g 0)).toNatClampNeg 0 := by rw [cg]; exact ak_ok0 g8 (n := 2) (by omega) rfl (by decide) (by decide) (by decide)
    obtain ⟨K1, L1, hK1, hL1, _, W⟩ := xa_all (b := 0) hin hok hK hL
    rw [cg] at hK1 hL1 W
    have hone : ak_one 2 0 0 (A (g 0)) = (1, some ak_E) := by rw [ak_o2]; unfold ak_c2; rw [if_neg hk0]
    obtain ⟨e1, e2, e3⟩ := ak_so (o := 2) (by decide) hone
    rw [e1] at hK1 hL1
    rw [e3] at W
    obtain ⟨K2, L2, h1, h2, h3⟩ := ih (c + 1) (ak_up A (g 0) ak_E) K1 L1 (xv_u (fun j => decide (j = g 0)) V) (by omega) hK1 hL1
    rw [d1] at h1 h2
    refine ⟨K2, L2, h1, h2, ?_⟩
    intro f_turns a_state a_gathered a_answered a_watching a_seen a_cOp a_cKey a_cA a_cB a_results a_taken a_waitsFor a_until a_turn a_source post hpost
    have ev := xv_c (fun j => decide (j = g 0)) (ex_c f_time (ak_up A (g 0) ak_E)) (ex_c f_time A) V d3 (fun j hj => by
      rw [decide_eq_true_iff] at hj
      rw [hj]; exact d4)
    rw [← ev, show c + (N + 1) = c + 1 + N from by omega] at hpost
    obtain ⟨m, hm⟩ := h3 _ hpost
    refine ⟨m + 1, br_f (by rw [ed]; exact nI_nle z (by omega)) (And.intro (by rw [hq 0 z]; exact hin) (br_f ?_ ?_))⟩
    · rw [hq 0 z, cg, hl _ g8]; exact Int32.not_lt.mpr hle
    · rw [hq 0 z]
      exact W _ (nm_r (nI_1 c) hm)
end
section
/-! ===== time goes on ===== -/
/-- the keys from i on, without those whose deadlines are over -/
def ex_Y (t : Int32) (i : Nat) (C : Nat → ak_T) : Nat → ak_T := fun k => if i ≤ k ∧ k < 8 then ex_1 t (C k) else C k
def ex_cY (t : Int32) (i : Nat) (C : Nat → ak_T) (j : Nat) : Bool := decide ((i ≤ j ∧ j < 8) ∧ ex_p t (C j))
theorem ex_Y8 (t : Int32) (C : Nat → ak_T) : ex_Y t 8 C = C := by
  funext k; unfold ex_Y; rw [if_neg (by omega)]
theorem ex_c8 (t : Int32) (C : Nat → ak_T) : ex_cY t 8 C = fun _ => false := by
  funext k; exact decide_eq_false (fun h => by omega)
theorem ex_Ys {t : Int32} {i : Nat} (hi : i < 8) (C : Nat → ak_T) : ex_Y t (i + 1) (ak_up C i (ex_1 t (C i))) = ex_Y t i C := by
  funext k
  unfold ex_Y
  by_cases z : k = i
  · subst z
    rw [if_neg (by omega), if_pos (by omega), ak_upS]
  · rw [ak_upN z]
    by_cases w : i ≤ k ∧ k < 8
    · rw [if_pos w, if_pos (by omega)]
    · rw [if_neg w, if_neg (by omega)]
theorem ex_cs {t : Int32} {i : Nat} (hi : i < 8) (C : Nat → ak_T) (x : ak_T) : ∀ j, ex_cY t i C j = ((decide (j = i) && decide (ex_p t (C i))) || ex_cY t (i + 1) (ak_up C i x) j) := fun j => by
  unfold ex_cY
  by_cases z : j = i
  · subst z
    rw [decide_eq_true rfl, Bool.true_and, decide_eq_false (p := (j + 1 ≤ j ∧ j < 8) ∧ _) (fun h => by omega), Bool.or_false]
    by_cases w : ex_p t (C j)
    · rw [decide_eq_true w, decide_eq_true ⟨⟨Nat.le_refl j, hi⟩, w⟩]
    · rw [decide_eq_false w, decide_eq_false (fun h => w h.2)]
  · rw [decide_eq_false z, Bool.false_and, Bool.false_or, ak_upN z]
    by_cases w : (i ≤ j ∧ j < 8) ∧ ex_p t (C j)
    · rw [decide_eq_true w, decide_eq_true ⟨⟨by omega, w.1.2⟩, w.2⟩]
    · rw [decide_eq_false w, decide_eq_false (fun h => w ⟨⟨by omega, h.1.2⟩, h.2⟩)]
theorem ex_ns {t : Int32} {i : Nat} (hi : i < 8) (C : Nat → ak_T) (x : ak_T) : en_C 8 (ex_cY t i C) = (if ex_p t (C i) then 1 else 0) + en_C 8 (ex_cY t (i + 1) (ak_up C i x)) := by
  have h0 : ex_cY t (i + 1) (ak_up C i x) i = false := decide_eq_false (fun h => by omega)
  by_cases w : ex_p t (C i)
  · rw [if_pos w, Nat.add_comm]
    refine en_Cadd hi h0 (decide_eq_true ⟨⟨Nat.le_refl i, hi⟩, w⟩) (fun j _ hj => ?_)
    rw [ex_cs hi C x j, decide_eq_false hj, Bool.false_and, Bool.false_or]
  · rw [if_neg w, Nat.zero_add]
    refine en_Ccg (fun j _ => ?_)
    rw [ex_cs hi C x j, decide_eq_false w, Bool.and_false, Bool.false_or]
theorem yr_dz {d : Int32} (h : d = -1 ∨ 0 < d) : (yr_d d = 0 ↔ d = -1) ∧ (d ≠ -1 → yr_d d = d) ∧ (yr_d d ≤ 0 ↔ d = -1) := by
  unfold yr_d
  by_cases z : d = -1
  · rw [if_pos z]
    exact ⟨⟨fun _ => z, fun _ => rfl⟩, fun w => absurd z w, ⟨fun _ => z, fun _ => by decide⟩⟩
  · rw [if_neg z]
    have hp := h.resolve_left z
    refine ⟨⟨fun e => ?_, fun e => absurd e z⟩, fun _ => rfl, ⟨fun e => ?_, fun e => absurd e z⟩⟩
    · rw [e] at hp; exact absurd hp (by decide)
    · exact absurd hp (Int32.not_lt.mpr e)
theorem ex_T37 {g_time : Int32} : ∀ (d i c : Nat) (C : Nat → ak_T) (M : yk_T) (D w : Nat → Int32), i + d = 8 → yr_K C M → ∃ M2 : yk_T, yr_K (ex_Y g_time i C) M2 ∧ ∀ {g_waited : Int64} {b_state b_first b_second b_until : Nat → Int32} {b_since : Nat → Int64} {b_op b_opKey b_opA b_opB b_queued : Nat → Int32} {b_answers : Nat → Int64} {b_answered : Nat → Int32} {b_took b_tookFrom : Nat → Int64} (post : Int32 → SY → Prop), (∀ m, wY_tick_37 post (m + 1) (nI (c + en_C 8 (ex_cY g_time i C))) (nI 8) g_time g_waited M2.1 M2.2.1 M2.2.2.1 M2.2.2.2.1 M2.2.2.2.2.1 M2.2.2.2.2.2 b_state b_first b_second b_until b_since w (yv_u (ex_cY g_time i C) w D) b_op b_opKey b_opA b_opB b_queued b_answers b_answered b_took b_tookFrom) → ∃ m, wY_tick_37 post m (nI c) (nI i) g_time g_waited M.1 M.2.1 M.2.2.1 M.2.2.2.1 M.2.2.2.2.1 M.2.2.2.2.2 b_state b_first b_second b_until b_since w D b_op b_opKey b_opA b_opB b_queued b_answers b_answered b_took b_tookFrom := by
  intro d
  induction d with
  | zero =>
    intro i c C M D w hi hM
    have e : i = 8 := by omega
    subst e
    rw [ex_Y8]
    refine ⟨M, hM, ?_⟩
    intro g_waited b_state b_first b_second b_until b_since b_op b_opKey b_opA b_opB b_queued b_answers b_answered b_took b_tookFrom post h
    rw [ex_c8, yv_0, en_C0 (p := fun _ => false) (fun _ _ => rfl)] at h
    exact ⟨1, h 0⟩
  | succ d ih =>
    intro i c C M D w hi hM
    have hi8 : i < 8 := by omega
    have hin : vp_in (nI i) 16 := vp_in_nI (by omega) (by omega)
    have ci : (nI i).toNatClampNeg = i := nI_clamp (by omega)
    have nk : ¬ (8 : Int32) ≤ nI i := nI_ge (b := 8) hi8 (by omega)
    obtain ⟨Gp, h1, h2, h3, h4, h5, g, h6⟩ := hM i (by omega)
    obtain ⟨z1, z2, z3⟩ := yr_dz (ak_Gd Gp)
    by_cases he : ex_p g_time (C i)
    · have hx : ex_1 g_time (C i) = ak_E := if_pos he
      have hM1 : yr_K (ak_up C i (ex_1 g_time (C i))) (upd M.1 i 0, upd M.2.1 i 0, upd M.2.2.1 i 0, M.2.2.2.1, M.2.2.2.2.1, upd M.2.2.2.2.2 i 0) := by
        rw [hx]
        exact yr_up hM ak_GE (yr_1E rfl rfl pk_us pk_us pk_us pk_us) (fun j _ hne => ⟨pk_un hne, pk_un hne, pk_un hne, pk_un hne, fun _ _ => rfl, fun _ _ => rfl⟩)
      obtain ⟨M2, hM2, W⟩ := ih (i + 1) (c + 1) (ak_up C i (ex_1 g_time (C i))) _ (yv_s (nI i) w D 4) w (by omega) hM1
      rw [ex_Ys hi8] at hM2
      refine ⟨M2, hM2, ?_⟩
      intro g_waited b_state b_first b_second b_until b_since b_op b_opKey b_opA b_opB b_queued b_answers b_answered b_took b_tookFrom post h
      have hn := ex_ns (t := g_time) hi8 C (ex_1 g_time (C i))
      rw [if_pos he] at hn
      have hv := yv_c (fun j => decide (j = i)) (ex_cY g_time (i + 1) (ak_up C i (ex_1 g_time (C i)))) (ex_cY g_time i C) w D (fun j _ => by rw [ex_cs hi8 C (ex_1 g_time (C i)) j, decide_eq_true he, Bool.and_true])
      have hv1 := yv_1 (p := nI i) (vp_in_nI hi8 (by omega)) w D
      rw [ci] at hv1
      rw [hv1] at hv
      rw [← hv, hn, show c + (1 + en_C 8 (ex_cY g_time (i + 1) (ak_up C i (ex_1 g_time (C i))))) = c + 1 + en_C 8 (ex_cY g_time (i + 1) (ak_up C i (ex_1 g_time (C i)))) from by omega] at h
      obtain ⟨m, hm⟩ := W _ h
      refine ⟨m + 1, br_f nk (And.intro hin ?_)⟩
      rw [ci]
      refine br_f (fun e => he.1 (z1.mp (h4.symm.trans e))) (And.intro hin (br_t (by rw [h4, z2 he.1]; exact he.2) (yn_no hin (yc_ch (nm_r (nI_1 c) (nm_r (nI_1 i) ?_))))))
      rw [ci]
      exact hm
    · have hx : ex_1 g_time (C i) = C i := if_neg he
      have hup : ak_up C i (ex_1 g_time (C i)) = C := by rw [hx, ak_upI]
      obtain ⟨M2, hM2, W⟩ := ih (i + 1) c C M D w (by omega) hM
      have hY := ex_Ys (t := g_time) hi8 C
      rw [hup] at hY
      rw [hY] at hM2
      refine ⟨M2, hM2, ?_⟩
      intro g_waited b_state b_first b_second b_until b_since b_op b_opKey b_opA b_opB b_queued b_answers b_answered b_took b_tookFrom post h
      have hn := ex_ns (t := g_time) hi8 C (ex_1 g_time (C i))
      rw [if_neg he, hup, Nat.zero_add] at hn
      have hc : ex_cY g_time i C = ex_cY g_time (i + 1) C := by
        funext j
        have := ex_cs (t := g_time) hi8 C (ex_1 g_time (C i)) j
        rw [hup, decide_eq_false he, Bool.and_false, Bool.false_or] at this
        exact this
      rw [hc] at h
      obtain ⟨m, hm⟩ := W _ h
      refine ⟨m + 1, br_f nk (And.intro hin ?_)⟩
      rw [ci]
      refine br_c (fun _ => nm_r (nI_1 i) hm) (fun e => And.intro hin (br_f ?_ (nm_r (nI_1 i) hm)))
      have hd : ak_dl (C i) ≠ -1 := fun w => e (h4.trans (z1.mpr w))
      rw [h4, z2 hd]
      exact fun w => he ⟨hd, w⟩
/-! clients whose time is over wait no longer -/
def tk_s (t : Int32) (u S : Nat → Int32) (x : Nat) : Nat → Int32 := fun i => if i < x ∧ (S i = 1 ∧ (u i ≠ -1 ∧ u i ≤ t)) then 0 else S i
theorem tk_s0 (t : Int32) (u S : Nat → Int32) : tk_s t u S 0 = S := by
  funext i; unfold tk_s; rw [if_neg (fun h => absurd h.1 (Nat.not_lt_zero i))]
theorem tk_sx {t : Int32} {u S : Nat → Int32} {x : Nat} : tk_s t u S x x = S x := by
  unfold tk_s; rw [if_neg (fun h => absurd h.1 (Nat.lt_irrefl x))]
theorem tk_sy {t : Int32} {u S : Nat → Int32} {x : Nat} (h : S x = 1 ∧ (u x ≠ -1 ∧ u x ≤ t)) : upd (tk_s t u S x) x 0 = tk_s t u S (x + 1) := by
  funext i
  by_cases z : i = x
  · subst z; rw [pk_us]; unfold tk_s; rw [if_pos ⟨by omega, h⟩]
  · rw [pk_un z]; unfold tk_s
    by_cases y : i < x ∧ (S i = 1 ∧ (u i ≠ -1 ∧ u i ≤ t))
    · rw [if_pos y, if_pos ⟨by omega, y.2⟩]
    · rw [if_neg y, if_neg (fun q => y ⟨by omega, q.2⟩)]
theorem tk_sn {t : Int32} {u S : Nat → Int32} {x : Nat} (h : ¬ (S x = 1 ∧ (u x ≠ -1 ∧ u x ≤ t))) : tk_s t u S x = tk_s t u S (x + 1) := by
  funext i
  unfold tk_s
  by_cases z : i = x
  · subst z; rw [if_neg (fun q => h q.2), if_neg (fun q => h q.2)]
  · by_cases y : i < x ∧ (S i = 1 ∧ (u i ≠ -1 ∧ u i ≤ t))
    · rw [if_pos y, if_pos ⟨by omega, y.2⟩]
    · rw [if_neg y, if_neg (fun q => y ⟨by omega, q.2⟩)]
theorem tk_X {r : Int32} {S : Nat → Int32} {f_dues f_time f_logged f_safe f_broken f_silent : Int32} {f_turns : Int64} {a_kind a_first a_size a_number a_ring a_score a_version a_ranked a_deadline a_due a_logOp a_logKey a_logA a_logB a_gathered a_answered a_watching a_seen a_cOp a_cKey a_cA a_cB : Nat → Int32} {a_results a_taken : Nat → Int64} {a_waitsFor a_until : Nat → Int32} {a_turn : Nat → Int64} {a_source : Nat → Int32} {post : Int32 → SX → Prop} (hpost : post r (f_dues, f_time, f_logged, f_safe, f_broken, f_silent, f_turns, a_kind, a_first, a_size, a_number, a_ring, a_score, a_version, a_ranked, a_deadline, a_due, a_logOp, a_logKey, a_logA, a_logB, tk_s f_time a_until S 4, a_gathered, a_answered, a_watching, a_seen, a_cOp, a_cKey, a_cA, a_cB, a_results, a_taken, a_waitsFor, a_until, a_turn, a_source)) : ∀ k x, x + k = 4 → ∀ n, k < n → wX_tick_39 post r f_dues f_time f_logged f_safe f_broken f_silent f_turns n (nI x) a_kind a_first a_size a_number a_ring a_score a_version a_ranked a_deadline a_due a_logOp a_logKey a_logA a_logB (tk_s f_time a_until S x) a_gathered a_answered a_watching a_seen a_cOp a_cKey a_cA a_cB a_results a_taken a_waitsFor a_until a_turn a_source := by
  intro k
  induction k with
  | zero =>
    intro x hx n hn
    obtain ⟨n, rfl⟩ := nu_suc hn
    have e : x = 4 := by omega
    subst e
    exact br_t (nI_le (a := 4) (b := 4) (by omega) (by omega)) hpost
  | succ k ih =>
    intro x hx n hn
    obtain ⟨n, rfl⟩ := nu_suc hn
    have cx : (nI x).toNatClampNeg = x := nI_clamp (by omega)
    have hi : vp_in (nI x) 4 := vp_in_nI (by omega) (by omega)
    have go := ih (x + 1) (by omega) n (by omega)
    refine br_f (nI_ge (b := 4) (by omega) (by omega)) (And.intro hi ?_)
    rw [cx, tk_sx]
    by_cases z : S x = 1 ∧ (a_until x ≠ -1 ∧ a_until x ≤ f_time)
    · exact br_t z.1 (And.intro hi (br_f z.2.1 (And.intro hi (br_f (Int32.not_lt.mpr z.2.2) (And.intro hi (nm_r (by rw [nu_b0]; exact tk_sy z) (nm_r (nI_1 x) go)))))))
    · rw [← tk_sn z] at go
      refine br_c (fun h1 => And.intro hi (br_c (fun _ => nm_r (nI_1 x) go) (fun h2 => And.intro hi (br_t ?_ (nm_r (nI_1 x) go))))) (fun _ => nm_r (nI_1 x) go)
      exact Int32.not_le.mp (fun h3 => z ⟨h1, h2, h3⟩)
theorem tk_Y {r : Int32} {S a_until b_until : Nat → Int32} (hu : ∀ c, c < 4 → S c = 1 → ((a_until c = -1 ∧ b_until c = 0) ∨ (a_until c = b_until c ∧ 0 < b_until c))) {g_time : Int32} {g_waited : Int64} {b_kind b_number b_size b_item b_score b_deadline b_first b_second : Nat → Int32} {b_since : Nat → Int64} {b_watched b_deceived b_op b_opKey b_opA b_opB b_queued : Nat → Int32} {b_answers : Nat → Int64} {b_answered : Nat → Int32} {b_took b_tookFrom : Nat → Int64} {post : Int32 → SY → Prop} (hpost : post r (g_time, g_waited, b_kind, b_number, b_size, b_item, b_score, b_deadline, tk_s g_time a_until S 4, b_first, b_second, b_until, b_since, b_watched, b_deceived, b_op, b_opKey, b_opA, b_opB, b_queued, b_answers, b_answered, b_took, b_tookFrom)) : ∀ k x, x + k = 4 → ∀ n, k < n → wY_tick_89 post r g_time g_waited n (nI x) b_kind b_number b_size b_item b_score b_deadline (tk_s g_time a_until S x) b_first b_second b_until b_since b_watched b_deceived b_op b_opKey b_opA b_opB b_queued b_answers b_answered b_took b_tookFrom := by
  intro k
  induction k with
  | zero =>
    intro x hx n hn
    obtain ⟨n, rfl⟩ := nu_suc hn
    have e : x = 4 := by omega
    subst e
    exact br_t (nI_le (a := 4) (b := 4) (by omega) (by omega)) hpost
  | succ k ih =>
    intro x hx n hn
    obtain ⟨n, rfl⟩ := nu_suc hn
    have cx : (nI x).toNatClampNeg = x := nI_clamp (by omega)
    have hi : vp_in (nI x) 4 := vp_in_nI (by omega) (by omega)
    have go := ih (x + 1) (by omega) n (by omega)
    refine br_f (nI_ge (b := 4) (by omega) (by omega)) (And.intro hi ?_)
    rw [cx, tk_sx]
    by_cases z : S x = 1 ∧ (a_until x ≠ -1 ∧ a_until x ≤ g_time)
    · rcases hu x (by omega) z.1 with ⟨e1, e2⟩ | ⟨e1, e2⟩
      · exact absurd e1 z.2.1
      · exact br_t z.1 (And.intro hi (br_f (Int32.not_le.mpr e2) (And.intro hi (br_f (by rw [← e1]; exact Int32.not_lt.mpr z.2.2) (And.intro hi (nm_r (tk_sy z) (nm_r (nI_1 x) go)))))))
    · rw [← tk_sn z] at go
      refine br_c (fun h1 => And.intro hi (br_c (fun _ => nm_r (nI_1 x) go) (fun h2 => And.intro hi (br_t ?_ (nm_r (nI_1 x) go))))) (fun _ => nm_r (nI_1 x) go)
      rcases hu x (by omega) h1 with ⟨e1, e2⟩ | ⟨e1, e2⟩
      · rw [e2] at h2; exact absurd (by decide) h2
      · rw [← e1]
        refine Int32.not_le.mp (fun h3 => z ⟨h1, fun e => ?_, h3⟩)
        rw [← e1, e] at e2; exact absurd e2 (by decide)
end
section
/-! ===== the log written anew ===== -/
abbrev wa_T : Type := (Nat → Int32) × (Nat → Int32) × (Nat → Int32) × (Nat → Int32)
def wa_B (n : Nat) (G : wa_T) (Z : Nat → ak_T) : Prop := (∀ i, i < n → vp_in (G.2.1 i) 8 ∧ ak_ok (G.1 i) (G.2.1 i).toNatClampNeg (G.2.2.1 i)) ∧ lo_rp G.1 G.2.1 G.2.2.1 G.2.2.2 n = Z
theorem wa_wr {n : Nat} {G : wa_T} {Z Z2 : Nat → ak_T} (h : wa_B n G Z) (hn : n < 200) {p o a b : Int32} (hp : vp_in p 8) (hok : ak_ok o p.toNatClampNeg a) (hZ : ak_st o p.toNatClampNeg a b Z = Z2) : ∃ G2 : wa_T, wa_B (n + 1) G2 Z2 ∧ ∀ {f_dues f_time f_safe : Int32} {f_turns : Int64} {a_kind a_first a_size a_number a_ring a_score a_version a_ranked a_deadline a_due a_state a_gathered a_answered a_watching a_seen a_cOp a_cKey a_cA a_cB : Nat → Int32} {a_results a_taken : Nat → Int64} {a_waitsFor a_until : Nat → Int32} {a_turn : Nat → Int64} {a_source : Nat → Int32} (post : SX → Prop), post (f_dues, f_time, nI (n + 1), f_safe, 0, 0, f_turns, a_kind, a_first, a_size, a_number, a_ring, a_score, a_version, a_ranked, a_deadline, a_due, G2.1, G2.2.1, G2.2.2.1, G2.2.2.2, a_state, a_gathered, a_answered, a_watching, a_seen, a_cOp, a_cKey, a_cA, a_cB, a_results, a_taken, a_waitsFor, a_until, a_turn, a_source) → wpX_write post (f_dues, f_time, nI n, f_safe, 0, 0, f_turns, a_kind, a_first, a_size, a_number, a_ring, a_score, a_version, a_ranked, a_deadline, a_due, G.1, G.2.1, G.2.2.1, G.2.2.2, a_state, a_gathered, a_answered, a_watching, a_seen, a_cOp, a_cKey, a_cA, a_cB, a_results, a_taken, a_waitsFor, a_until, a_turn, a_source) o p a b := by
  refine ⟨(upd G.1 n o, upd G.2.1 n p, upd G.2.2.1 n a, upd G.2.2.2 n b), ⟨fun i hi => ?_, lo_put h.2 hZ⟩, ?_⟩
  · dsimp only
    rcases Nat.lt_or_ge i n with w | w
    · rw [pk_un (by omega), pk_un (by omega), pk_un (by omega)]; exact h.1 i w
    · have e : i = n := by omega
      subst e
      rw [pk_us, pk_us, pk_us]; exact ⟨hp, hok⟩
  · intro f_dues f_time f_safe f_turns a_kind a_first a_size a_number a_ring a_score a_version a_ranked a_deadline a_due a_state a_gathered a_answered a_watching a_seen a_cOp a_cKey a_cA a_cB a_results a_taken a_waitsFor a_until a_turn a_source post hpost
    exact lo_app hp hok hn hpost
/-- the first i elements, the first i members -/
def wa_L (l : List Int32) (i : Nat) : ak_T := if i = 0 then ak_E else (2, 0, l.take i, ak_0, -1)
def wa_r (g : Nat → Nat) (r : Nat → Option Int32) : Nat → (Nat → Option Int32)
  | 0 => ak_0
  | i + 1 => ak_ur (wa_r g r i) (g i) (r (g i))
def wa_R (g : Nat → Nat) (r : Nat → Option Int32) (i : Nat) : ak_T := if i = 0 then ak_E else (3, 0, [], wa_r g r i, -1)
theorem wa_uu (Z : Nat → ak_T) (k : Nat) (x y : ak_T) : ak_up (ak_up Z k x) k y = ak_up Z k y := by
  funext j
  by_cases z : j = k
  · rw [z, ak_upS, ak_upS]
  · rw [ak_upN z, ak_upN z, ak_upN z]
theorem wa_one {o a b : Int32} {k : Nat} {Z : Nat → ak_T} {r : Int64} {x y : ak_T} (h11 : ¬ o = 11) (h : ak_one o a b x = (r, some y)) : ak_st o k a b (ak_up Z k x) = ak_up Z k y := by
  rw [(ak_so (k := k) (A := ak_up Z k x) h11 (by rw [ak_upS]; exact h)).1, wa_uu]
theorem wa_Ls {l : List Int32} {i k : Nat} {Z : Nat → ak_T} (hi : i < l.length) (hl : l.length ≤ 12) : ak_st 5 k (l.getD i 0) 0 (ak_up Z k (wa_L l i)) = ak_up Z k (wa_L l (i + 1)) := by
  have hk : (wa_L l i).1 = 0 ∨ (wa_L l i).1 = 2 := by
    unfold wa_L
    by_cases z : i = 0
    · rw [if_pos z]; exact Or.inl rfl
    · rw [if_neg z]; exact Or.inr rfl
  have hls : ak_ls (wa_L l i) = l.take i := by
    unfold wa_L
    by_cases z : i = 0
    · rw [if_pos z, z]; rfl
    · rw [if_neg z]
  have hdl : ak_dl (wa_L l i) = -1 := by
    unfold wa_L
    by_cases z : i = 0
    · rw [if_pos z]; rfl
    · rw [if_neg z]
  have ht : l.take i ++ [l.getD i 0] = l.take (i + 1) := by
    rw [List.take_succ, List.getD_eq_getElem?_getD, List.getElem?_eq_getElem hi]; rfl
  refine wa_one (r := (nI ((l.take i).length + 1)).toInt64) (by decide) ?_
  rw [ak_o5]
  unfold ak_c5
  rw [if_pos hk, hls, if_neg (by rw [List.length_take]; omega), hdl, ht]
  unfold wa_L
  rw [if_neg (Nat.succ_ne_zero i)]
theorem wa_rn {g : Nat → Nat} {r : Nat → Option Int32} {m : Nat} : ∀ i, (∀ j, j < i → g j ≠ m) → wa_r g r i m = none := by
  intro i
  induction i with
  | zero => intro _; rfl
  | succ i ih =>
    intro h
    show ak_ur (wa_r g r i) (g i) (r (g i)) m = none
    rw [ak_urN (fun e => h i (by omega) e.symm)]; exact ih (fun j hj => h j (by omega))
theorem wa_ry {g : Nat → Nat} {r : Nat → Option Int32} {m : Nat} : ∀ i, (∃ j, j < i ∧ g j = m) → wa_r g r i m = r m := by
  intro i
  induction i with
  | zero => intro ⟨j, hj, _⟩; omega
  | succ i ih =>
    intro ⟨j, hj, e⟩
    show ak_ur (wa_r g r i) (g i) (r (g i)) m = r m
    by_cases z : m = g i
    · rw [z, ak_urS]
    · rw [ak_urN z]
      refine ih ⟨j, ?_, e⟩
      rcases Nat.lt_or_ge j i with w | w
      · exact w
      · have : j = i := by omega
        rw [this] at e; exact absurd e.symm z
theorem wa_rN {g : Nat → Nat} {r : Nat → Option Int32} {n : Nat} (h : en_E n 16 g (fun m => (r m).isSome)) : ∀ i, i ≤ n → ak_n (wa_r g r i) = i := by
  intro i
  induction i with
  | zero => intro _; exact ak_n0
  | succ i ih =>
    intro hi
    obtain ⟨s, es⟩ := Option.isSome_iff_exists.mp (h.1 i (by omega)).2
    show ak_n (ak_ur (wa_r g r i) (g i) (r (g i))) = i + 1
    rw [es, ak_n_add (h.1 i (by omega)).1 (wa_rn i (fun j hj e => by have := h.2.1 j i (by omega) (by omega) e; omega)), ih (by omega)]
theorem wa_rE {g : Nat → Nat} {r : Nat → Option Int32} {n : Nat} (h : en_E n 16 g (fun m => (r m).isSome)) (h16 : ∀ m, 16 ≤ m → r m = none) : wa_r g r n = r := by
  funext m
  by_cases z : ∃ j, j < n ∧ g j = m
  · exact wa_ry n z
  · rw [wa_rn n (fun j hj e => z ⟨j, hj, e⟩)]
    rcases Nat.lt_or_ge m 16 with w | w
    · cases e : r m with
      | none => rfl
      | some s => exact absurd (h.2.2 m w (by dsimp only; rw [e]; rfl)) z
    · exact (h16 m w).symm
theorem wa_Rs {g : Nat → Nat} {r : Nat → Option Int32} {n i k : Nat} {s : Int32} {Z : Nat → ak_T} (h : en_E n 16 g (fun m => (r m).isSome)) (hi : i < n) (hn : n ≤ 12) (hs : r (g i) = some s) : ak_st 7 k (nI (g i)) s (ak_up Z k (wa_R g r i)) = ak_up Z k (wa_R g r (i + 1)) := by
  have g16 := (h.1 i hi).1
  have hk : (wa_R g r i).1 = 0 ∨ (wa_R g r i).1 = 3 := by
    unfold wa_R
    by_cases z : i = 0
    · rw [if_pos z]; exact Or.inl rfl
    · rw [if_neg z]; exact Or.inr rfl
  have hrk : ak_rk (wa_R g r i) = wa_r g r i := by
    unfold wa_R
    by_cases z : i = 0
    · rw [if_pos z, z]; rfl
    · rw [if_neg z]
  have hdl : ak_dl (wa_R g r i) = -1 := by
    unfold wa_R
    by_cases z : i = 0
    · rw [if_pos z]; rfl
    · rw [if_neg z]
  have hnone : wa_r g r i (g i) = none := wa_rn i (fun j hj e => by have := h.2.1 j i (by omega) hi e; omega)
  refine wa_one (r := 1) (by decide) ?_
  rw [ak_o7, nI_clamp (by omega)]
  unfold ak_c7
  rw [if_pos hk, hrk, if_pos hnone, if_neg (by rw [wa_rN h i (by omega)]; omega), hdl]
  unfold wa_R
  rw [if_neg (Nat.succ_ne_zero i)]
  show (1, some (3, 0, [], ak_ur (wa_r g r i) (g i) (some s), -1)) = (1, some (3, 0, [], ak_ur (wa_r g r i) (g i) (r (g i)), -1))
  rw [hs]
theorem wa_43L {p : Int32} (hp : vp_in p 8) {l : List Int32} {f : Nat} (hf : f < 12) (hl : l.length ≤ 12) {a_kind a_first a_size a_ring : Nat → Int32} (hk : a_kind p.toNatClampNeg = 2) (hs : a_size p.toNatClampNeg = nI l.length) (hfi : a_first p.toNatClampNeg = nI f) (hr : xr_L p.toNatClampNeg f l a_ring) {Z : Nat → ak_T} : ∀ (d i n : Nat) (G : wa_T), i + d = l.length → n + d ≤ 200 → wa_B n G (ak_up Z p.toNatClampNeg (wa_L l i)) → ∃ G2 : wa_T, wa_B (n + d) G2 (ak_up Z p.toNatClampNeg (wa_L l l.length)) ∧ ∀ {f_dues f_time f_safe : Int32} {f_turns : Int64} {a_number a_score a_version a_ranked a_deadline a_due a_state a_gathered a_answered a_watching a_seen a_cOp a_cKey a_cA a_cB : Nat → Int32} {a_results a_taken : Nat → Int64} {a_waitsFor a_until : Nat → Int32} {a_turn : Nat → Int64} {a_source : Nat → Int32} (post : SX → Prop) (J : Int32 → Int32 → Int32 → Int32 → Int32 → Int32 → Int32 → Int64 → (Nat → Int32) → (Nat → Int32) → (Nat → Int32) → (Nat → Int32) → (Nat → Int32) → (Nat → Int32) → (Nat → Int32) → (Nat → Int32) → (Nat → Int32) → (Nat → Int32) → (Nat → Int32) → (Nat → Int32) → (Nat → Int32) → (Nat → Int32) → (Nat → Int32) → (Nat → Int32) → (Nat → Int32) → (Nat → Int32) → (Nat → Int32) → (Nat → Int32) → (Nat → Int32) → (Nat → Int32) → (Nat → Int32) → (Nat → Int64) → (Nat → Int64) → (Nat → Int32) → (Nat → Int32) → (Nat → Int64) → (Nat → Int32) → Prop), (∀ m, wX_writeAnew_43 post J p (m + 1) (nI l.length) f_dues f_time (nI (n + d)) f_safe 0 0 f_turns a_kind a_first a_size a_number a_ring a_score a_version a_ranked a_deadline a_due G2.1 G2.2.1 G2.2.2.1 G2.2.2.2 a_state a_gathered a_answered a_watching a_seen a_cOp a_cKey a_cA a_cB a_results a_taken a_waitsFor a_until a_turn a_source) → ∃ m, wX_writeAnew_43 post J p m (nI i) f_dues f_time (nI n) f_safe 0 0 f_turns a_kind a_first a_size a_number a_ring a_score a_version a_ranked a_deadline a_due G.1 G.2.1 G.2.2.1 G.2.2.2 a_state a_gathered a_answered a_watching a_seen a_cOp a_cKey a_cA a_cB a_results a_taken a_waitsFor a_until a_turn a_source := by
  have p16 := nu_up hp (M := 16) (by omega) (by omega)
  have kp := (nu_key hp (by omega)).2
  intro d
  induction d with
  | zero =>
    intro i n G hi hn hB
    have e : i = l.length := by omega
    subst e
    refine ⟨G, hB, ?_⟩
    intro f_dues f_time f_safe f_turns a_number a_score a_version a_ranked a_deadline a_due a_state a_gathered a_answered a_watching a_seen a_cOp a_cKey a_cA a_cB a_results a_taken a_waitsFor a_until a_turn a_source post J h
    exact ⟨1, h 0⟩
  | succ d ih =>
    intro i n G hi hn hB
    obtain ⟨G1, hB1, W1⟩ := wa_wr hB (by omega) (o := 5) (a := l.getD i 0) (b := 0) hp (ak_ok0 kp (n := 5) (by omega) rfl (by decide) (by decide) (by decide)) (wa_Ls (by omega) hl)
    obtain ⟨G2, hB2, W2⟩ := ih (i + 1) (n + 1) G1 (by omega) (by omega) hB1
    rw [show n + 1 + d = n + (d + 1) from by omega] at hB2 W2
    refine ⟨G2, hB2, ?_⟩
    intro f_dues f_time f_safe f_turns a_number a_score a_version a_ranked a_deadline a_due a_state a_gathered a_answered a_watching a_seen a_cOp a_cKey a_cA a_cB a_results a_taken a_waitsFor a_until a_turn a_source post J h
    obtain ⟨m, hm⟩ := W2 _ J h
    have hm12 : (f + i) % 12 < 12 := Nat.mod_lt _ (by omega)
    have ez : a_first p.toNatClampNeg + nI i - (a_first p.toNatClampNeg + nI i) / 12 * 12 = nI ((f + i) % 12) := by rw [hfi, xl_f2 hf (by omega)]
    refine ⟨m + 1, And.intro hp (br_f (by rw [hs]; exact nI_ge (by omega) (by omega)) (And.intro hp (br_t hk (And.intro hp (And.intro nu_n12 ?_)))))⟩
    rw [ez, nu_12c p16 (by omega), hr i (by omega)]
    exact And.intro (nu_12x hp hm12) (W1 _ (nm_r (nI_1 i) hm))
theorem wa_43R {p : Int32} (hp : vp_in p 8) {r : Nat → Option Int32} {N : Nat} {g : Nat → Nat} (hN : N ≤ 12) {a_kind a_size a_score a_ranked : Nat → Int32} (hk : ¬ a_kind p.toNatClampNeg = 2) (hs : a_size p.toNatClampNeg = nI N) (hr : xr_R p.toNatClampNeg N g r a_score a_ranked) {Z : Nat → ak_T} : ∀ (d i n : Nat) (G : wa_T), i + d = N → n + d ≤ 200 → wa_B n G (ak_up Z p.toNatClampNeg (wa_R g r i)) → ∃ G2 : wa_T, wa_B (n + d) G2 (ak_up Z p.toNatClampNeg (wa_R g r N)) ∧ ∀ {f_dues f_time f_safe : Int32} {f_turns : Int64} {a_first a_number a_ring a_version a_deadline a_due a_state a_gathered a_answered a_watching a_seen a_cOp a_cKey a_cA a_cB : Nat → Int32} {a_results a_taken : Nat → Int64} {a_waitsFor a_until : Nat → Int32} {a_turn : Nat → Int64} {a_source : Nat → Int32} (post : SX → Prop) (J : Int32 → Int32 → Int32 → Int32 → Int32 → Int32 → Int32 → Int64 → (Nat → Int32) → (Nat → Int32) → (Nat → Int32) → (Nat → Int32) → (Nat → Int32) → (Nat → Int32) → (Nat → Int32) → (Nat → Int32) → (Nat → Int32) → (Nat → Int32) → (Nat → Int32) → (Nat → Int32) → (Nat → Int32) → (Nat → Int32) → (Nat → Int32) → (Nat → Int32) → (Nat → Int32) → (Nat → Int32) → (Nat → Int32) → (Nat → Int32) → (Nat → Int32) → (Nat → Int32) → (Nat → Int32) → (Nat → Int64) → (Nat → Int64) → (Nat → Int32) → (Nat → Int32) → (Nat → Int64) → (Nat → Int32) → Prop), (∀ m, wX_writeAnew_43 post J p (m + 1) (nI N) f_dues f_time (nI (n + d)) f_safe 0 0 f_turns a_kind a_first a_size a_number a_ring a_score a_version a_ranked a_deadline a_due G2.1 G2.2.1 G2.2.2.1 G2.2.2.2 a_state a_gathered a_answered a_watching a_seen a_cOp a_cKey a_cA a_cB a_results a_taken a_waitsFor a_until a_turn a_source) → ∃ m, wX_writeAnew_43 post J p m (nI i) f_dues f_time (nI n) f_safe 0 0 f_turns a_kind a_first a_size a_number a_ring a_score a_version a_ranked a_deadline a_due G.1 G.2.1 G.2.2.1 G.2.2.2 a_state a_gathered a_answered a_watching a_seen a_cOp a_cKey a_cA a_cB a_results a_taken a_waitsFor a_until a_turn a_source := by
  have p16 := nu_up hp (M := 16) (by omega) (by omega)
  have kp := (nu_key hp (by omega)).2
  intro d
  induction d with
  | zero =>
    intro i n G hi hn hB
    have e : i = N := by omega
    subst e
    refine ⟨G, hB, ?_⟩
    intro f_dues f_time f_safe f_turns a_first a_number a_ring a_version a_deadline a_due a_state a_gathered a_answered a_watching a_seen a_cOp a_cKey a_cA a_cB a_results a_taken a_waitsFor a_until a_turn a_source post J h
    exact ⟨1, h 0⟩
  | succ d ih =>
    intro i n G hi hn hB
    obtain ⟨er, es⟩ := hr.2.2 i (by omega)
    have g16 := (hr.1.1 i (by omega)).1
    obtain ⟨G1, hB1, W1⟩ := wa_wr hB (by omega) (o := 7) (a := nI (g i)) (b := a_score (16 * p.toNatClampNeg + g i)) hp ⟨⟨7, by omega, rfl⟩, kp, fun h => absurd h (by decide), fun _ => vp_in_nI g16 (by omega), fun h => absurd h (by decide)⟩ (wa_Rs hr.1 (by omega) hN es)
    obtain ⟨G2, hB2, W2⟩ := ih (i + 1) (n + 1) G1 (by omega) (by omega) hB1
    rw [show n + 1 + d = n + (d + 1) from by omega] at hB2 W2
    refine ⟨G2, hB2, ?_⟩
    intro f_dues f_time f_safe f_turns a_first a_number a_ring a_version a_deadline a_due a_state a_gathered a_answered a_watching a_seen a_cOp a_cKey a_cA a_cB a_results a_taken a_waitsFor a_until a_turn a_source post J h
    obtain ⟨m, hm⟩ := W2 _ J h
    refine ⟨m + 1, And.intro hp (br_f (by rw [hs]; exact nI_ge (by omega) (by omega)) (And.intro hp (br_f hk (And.intro (nu_12x hp (by omega)) (And.intro (nu_12x hp (by omega)) ?_)))))⟩
    rw [nu_12c p16 (by omega), er, nu_16c hp g16]
    exact And.intro (nu_16x hp g16) (W1 _ (nm_r (nI_1 i) hm))
end
section
/-! ===== the log written anew, key by key ===== -/
def wa_d (x : ak_T) : ak_T := (x.1, x.2.1, ak_ls x, ak_rk x, -1)
theorem wa_dE {x : ak_T} (h : ak_dl x = -1) : wa_d x = x := by
  unfold wa_d
  rw [← h]
/-- the deadline comes last -/
theorem wa_end {p : Int32} (hp : vp_in p 8) {x : ak_T} (hx : ak_G x) {s : Nat} (hs12 : s ≤ 12) {a_size a_deadline : Nat → Int32} (hs : a_size p.toNatClampNeg = nI s) (hd : a_deadline p.toNatClampNeg = ak_dl x) {Z : Nat → ak_T} {n : Nat} {G : wa_T} (hn : n < 200) (hB : wa_B n G (ak_up Z p.toNatClampNeg (wa_d x))) : ∃ (n2 : Nat) (G2 : wa_T), n2 ≤ n + 1 ∧ wa_B n2 G2 (ak_up Z p.toNatClampNeg x) ∧ ∀ {f_dues f_time f_safe : Int32} {f_turns : Int64} {a_kind a_first a_number a_ring a_score a_version a_ranked a_due a_state a_gathered a_answered a_watching a_seen a_cOp a_cKey a_cA a_cB : Nat → Int32} {a_results a_taken : Nat → Int64} {a_waitsFor a_until : Nat → Int32} {a_turn : Nat → Int64} {a_source : Nat → Int32} (post : SX → Prop) (J : Int32 → Int32 → Int32 → Int32 → Int32 → Int32 → Int32 → Int64 → (Nat → Int32) → (Nat → Int32) → (Nat → Int32) → (Nat → Int32) → (Nat → Int32) → (Nat → Int32) → (Nat → Int32) → (Nat → Int32) → (Nat → Int32) → (Nat → Int32) → (Nat → Int32) → (Nat → Int32) → (Nat → Int32) → (Nat → Int32) → (Nat → Int32) → (Nat → Int32) → (Nat → Int32) → (Nat → Int32) → (Nat → Int32) → (Nat → Int32) → (Nat → Int32) → (Nat → Int32) → (Nat → Int32) → (Nat → Int64) → (Nat → Int64) → (Nat → Int32) → (Nat → Int32) → (Nat → Int64) → (Nat → Int32) → Prop), J (p + 1) f_dues f_time (nI n2) f_safe 0 0 f_turns a_kind a_first a_size a_number a_ring a_score a_version a_ranked a_deadline a_due G2.1 G2.2.1 G2.2.2.1 G2.2.2.2 a_state a_gathered a_answered a_watching a_seen a_cOp a_cKey a_cA a_cB a_results a_taken a_waitsFor a_until a_turn a_source → ∀ m, wX_writeAnew_43 post J p (m + 1) (nI s) f_dues f_time (nI n) f_safe 0 0 f_turns a_kind a_first a_size a_number a_ring a_score a_version a_ranked a_deadline a_due G.1 G.2.1 G.2.2.1 G.2.2.2 a_state a_gathered a_answered a_watching a_seen a_cOp a_cKey a_cA a_cB a_results a_taken a_waitsFor a_until a_turn a_source := by
  have kp := (nu_key hp (by omega)).2
  by_cases z : ak_dl x = -1
  · rw [wa_dE z] at hB
    refine ⟨n, G, by omega, hB, ?_⟩
    intro f_dues f_time f_safe f_turns a_kind a_first a_number a_ring a_score a_version a_ranked a_due a_state a_gathered a_answered a_watching a_seen a_cOp a_cKey a_cA a_cB a_results a_taken a_waitsFor a_until a_turn a_source post J h m
    exact And.intro hp (br_t (by rw [hs]; exact nI_le (by omega) (by omega)) (And.intro hp (br_t (hd.trans z) (nm_e h))))
  · have hk := ak_Gdl hx z
    have hone : ak_one 3 (ak_dl x) 0 (wa_d x) = (1, some x) := by
      rw [ak_o3]; unfold ak_c3
      rw [if_neg (show ¬ (wa_d x).1 = 0 from hk)]; rfl
    obtain ⟨G2, hB2, W⟩ := wa_wr hB hn (o := 3) (a := ak_dl x) (b := 0) hp ⟨⟨3, by omega, rfl⟩, kp, fun _ => ak_Gd hx, fun h => absurd h (by decide), fun h => absurd h (by decide)⟩ (wa_one (by decide) hone)
    refine ⟨n + 1, G2, by omega, hB2, ?_⟩
    intro f_dues f_time f_safe f_turns a_kind a_first a_number a_ring a_score a_version a_ranked a_due a_state a_gathered a_answered a_watching a_seen a_cOp a_cKey a_cA a_cB a_results a_taken a_waitsFor a_until a_turn a_source post J h m
    refine And.intro hp (br_t (by rw [hs]; exact nI_le (by omega) (by omega)) (And.intro hp (br_f (fun e => z (hd.symm.trans e)) (And.intro hp ?_))))
    rw [hd]
    exact W _ (nm_e h)
theorem wa_key {A : Nat → ak_T} {k : Nat} (hk8 : k < 8) {f_dues : Int32} {a_kind a_first a_size a_number a_ring a_score a_ranked a_deadline a_due : Nat → Int32} (hK : xr_K A (f_dues, a_kind, a_first, a_size, a_number, a_ring, a_score, a_ranked, a_deadline, a_due)) {Z : Nat → ak_T} (hZ : Z k = ak_E) {n : Nat} {G : wa_T} (hn : n + 13 < 200) (hB : wa_B n G Z) : ∃ (n2 : Nat) (G2 : wa_T), n2 ≤ n + 13 ∧ wa_B n2 G2 (ak_up Z k (A k)) ∧ ∀ {f_time f_safe : Int32} {f_turns : Int64} {a_version a_state a_gathered a_answered a_watching a_seen a_cOp a_cKey a_cA a_cB : Nat → Int32} {a_results a_taken : Nat → Int64} {a_waitsFor a_until : Nat → Int32} {a_turn : Nat → Int64} {a_source : Nat → Int32} (post : SX → Prop) (m : Nat), wX_writeAnew_12 post m (nI (k + 1)) f_dues f_time (nI n2) f_safe 0 0 f_turns a_kind a_first a_size a_number a_ring a_score a_version a_ranked a_deadline a_due G2.1 G2.2.1 G2.2.2.1 G2.2.2.2 a_state a_gathered a_answered a_watching a_seen a_cOp a_cKey a_cA a_cB a_results a_taken a_waitsFor a_until a_turn a_source → wX_writeAnew_12 post (m + 1) (nI k) f_dues f_time (nI n) f_safe 0 0 f_turns a_kind a_first a_size a_number a_ring a_score a_version a_ranked a_deadline a_due G.1 G.2.1 G.2.2.1 G.2.2.2 a_state a_gathered a_answered a_watching a_seen a_cOp a_cKey a_cA a_cB a_results a_taken a_waitsFor a_until a_turn a_source := by
  have hp : vp_in (nI k) 8 := vp_in_nI hk8 (by omega)
  have ck : (nI k).toNatClampNeg = k := nI_clamp (by omega)
  have nk : ¬ (8 : Int32) ≤ nI k := nI_ge (b := 8) hk8 (by omega)
  obtain ⟨Gp, h1, h2, h3, ⟨f, hf, h4, h5⟩, g, h6⟩ := hK.2.1 _ hk8
  dsimp only at h1 h2 h3 h4 h5 h6
  have hdl : a_deadline k = ak_dl (A k) := by
    obtain ⟨n, g, _, _, _, _, hl⟩ := hK.2.2
    exact hl _ hk8
  have eZ : ak_up Z k ak_E = Z := by rw [← hZ]; exact ak_upI Z k
  have hsz := ak_Gsz Gp
  rcases ak_Gk Gp with e | e | e | e
  · have e0 := ak_G0 Gp e
    have hs0 : a_size k = nI 0 := by rw [h2, e0, ak_szE]
    rw [e0] at hdl ⊢
    have hBd : wa_B n G (ak_up Z (nI k).toNatClampNeg (wa_d ak_E)) := by rw [ck, wa_dE rfl, eZ]; exact hB
    obtain ⟨n2, G2, hn2, hB2, W⟩ := wa_end (a_size := a_size) (a_deadline := a_deadline) hp ak_GE (s := 0) (by omega) (by rw [ck]; exact hs0) (by rw [ck]; exact hdl) (by omega) hBd
    rw [ck] at hB2
    refine ⟨n2, G2, by omega, hB2, ?_⟩
    intro f_time f_safe f_turns a_version a_state a_gathered a_answered a_watching a_seen a_cOp a_cKey a_cA a_cB a_results a_taken a_waitsFor a_until a_turn a_source post m h
    refine br_f nk (And.intro hp (br_f (by rw [ck, h1, e]; decide) ⟨1, W _ _ ?_ 0⟩))
    rw [nI_1]; exact h
  · obtain ⟨el, er⟩ := ak_G1 Gp e
    have hs0 : a_size k = nI 0 := by rw [h2, ak_c_size el er]
    have hone : ak_one 0 (A k).2.1 0 ak_E = (0, some (1, (A k).2.1, [], ak_0, -1)) := rfl
    have ed : wa_d (A k) = (1, (A k).2.1, [], ak_0, -1) := by unfold wa_d; rw [e, el, er]
    obtain ⟨G1, hB1, W1⟩ := wa_wr (n := n) (G := G) (Z := ak_up Z (nI k).toNatClampNeg ak_E) (by rw [ck, eZ]; exact hB) (by omega) (o := 0) (a := (A k).2.1) (b := 0) hp (ak_ok0 (by rw [ck]; exact hk8) (n := 0) (by omega) rfl (by decide) (by decide) (by decide)) (wa_one (by decide) hone)
    rw [← ed] at hB1
    obtain ⟨n2, G2, hn2, hB2, W⟩ := wa_end (a_size := a_size) (a_deadline := a_deadline) hp Gp (s := 0) (by omega) (by rw [ck]; exact hs0) (by rw [ck]; exact hdl) (by omega) hB1
    rw [ck] at hB2
    refine ⟨n2, G2, by omega, hB2, ?_⟩
    intro f_time f_safe f_turns a_version a_state a_gathered a_answered a_watching a_seen a_cOp a_cKey a_cA a_cB a_results a_taken a_waitsFor a_until a_turn a_source post m h
    refine br_f nk (And.intro hp (br_t (by rw [ck, h1, e]) (And.intro hp ?_)))
    rw [ck, h3 e]
    refine W1 _ ⟨1, W _ _ ?_ 0⟩
    rw [nI_1]; exact h
  · obtain ⟨en, hpos, hle, er⟩ := ak_G2 Gp e
    have hsl : a_size k = nI (ak_ls (A k)).length := by rw [h2, (xo_lsz Gp (Or.inr e)).2]
    have e0 : wa_L (ak_ls (A k)) 0 = ak_E := if_pos rfl
    have e1 : wa_L (ak_ls (A k)) (ak_ls (A k)).length = wa_d (A k) := by
      unfold wa_L wa_d
      rw [if_neg (by omega), List.take_length, e, en, er]
    obtain ⟨G1, hB1, W1⟩ := wa_43L hp hf hle (a_kind := a_kind) (a_size := a_size) (a_first := a_first) (a_ring := a_ring) (by rw [ck, h1, e]) (by rw [ck]; exact hsl) (by rw [ck]; exact h4) (by rw [ck]; exact h5) (Z := Z) (ak_ls (A k)).length 0 n G (by omega) (by omega) (by rw [ck, e0, eZ]; exact hB)
    rw [e1] at hB1
    obtain ⟨n2, G2, hn2, hB2, W⟩ := wa_end (a_size := a_size) (a_deadline := a_deadline) hp Gp (s := (ak_ls (A k)).length) (by omega) (by rw [ck]; exact hsl) (by rw [ck]; exact hdl) (by omega) hB1
    rw [ck] at hB2
    refine ⟨n2, G2, by omega, hB2, ?_⟩
    intro f_time f_safe f_turns a_version a_state a_gathered a_answered a_watching a_seen a_cOp a_cKey a_cA a_cB a_results a_taken a_waitsFor a_until a_turn a_source post m h
    refine br_f nk (And.intro hp (br_f (by rw [ck, h1, e]; decide) (W1 _ _ (W _ _ ?_))))
    rw [nI_1]; exact h
  · obtain ⟨en, el, hpos, hle, h16⟩ := ak_G3 Gp e
    have hsl : a_size k = nI (ak_n (ak_rk (A k))) := by rw [h2, (xo_rsz Gp (Or.inr e)).2.1]
    have e0 : wa_R g (ak_rk (A k)) 0 = ak_E := if_pos rfl
    have e1 : wa_R g (ak_rk (A k)) (ak_n (ak_rk (A k))) = wa_d (A k) := by
      unfold wa_R wa_d
      rw [if_neg (by omega), wa_rE h6.1 h16, e, en, el]
    obtain ⟨G1, hB1, W1⟩ := wa_43R hp (g := g) hle (a_kind := a_kind) (a_size := a_size) (a_score := a_score) (a_ranked := a_ranked) (by rw [ck, h1, e]; decide) (by rw [ck]; exact hsl) (by rw [ck]; exact h6) (Z := Z) (ak_n (ak_rk (A k))) 0 n G (by omega) (by omega) (by rw [ck, e0, eZ]; exact hB)
    rw [e1] at hB1
    obtain ⟨n2, G2, hn2, hB2, W⟩ := wa_end (a_size := a_size) (a_deadline := a_deadline) hp Gp (s := ak_n (ak_rk (A k))) (by omega) (by rw [ck]; exact hsl) (by rw [ck]; exact hdl) (by omega) hB1
    rw [ck] at hB2
    refine ⟨n2, G2, by omega, hB2, ?_⟩
    intro f_time f_safe f_turns a_version a_state a_gathered a_answered a_watching a_seen a_cOp a_cKey a_cA a_cB a_results a_taken a_waitsFor a_until a_turn a_source post m h
    refine br_f nk (And.intro hp (br_f (by rw [ck, h1, e]; decide) (W1 _ _ (W _ _ ?_))))
    rw [nI_1]; exact h
/-- the keys before k -/
def wa_Z (A : Nat → ak_T) (k : Nat) : Nat → ak_T := fun j => if j < k then A j else ak_E
theorem wa_Zs (A : Nat → ak_T) (k : Nat) : ak_up (wa_Z A k) k (A k) = wa_Z A (k + 1) := by
  funext j
  unfold wa_Z
  by_cases z : j = k
  · rw [z, ak_upS, if_pos (by omega)]
  · rw [ak_upN z]
    by_cases w : j < k
    · rw [if_pos w, if_pos (by omega)]
    · rw [if_neg w, if_neg (by omega)]
theorem wa_12 {A : Nat → ak_T} {f_dues : Int32} {a_kind a_first a_size a_number a_ring a_score a_ranked a_deadline a_due : Nat → Int32} (hK : xr_K A (f_dues, a_kind, a_first, a_size, a_number, a_ring, a_score, a_ranked, a_deadline, a_due)) : ∀ (d k n : Nat) (G : wa_T), k + d = 8 → n ≤ 13 * k → wa_B n G (wa_Z A k) → ∃ (n2 : Nat) (G2 : wa_T), n2 ≤ 104 ∧ wa_B n2 G2 A ∧ ∀ {f_time : Int32} {f_turns : Int64} {a_version a_state a_gathered a_answered a_watching a_seen a_cOp a_cKey a_cA a_cB : Nat → Int32} {a_results a_taken : Nat → Int64} {a_waitsFor a_until : Nat → Int32} {a_turn : Nat → Int64} {a_source : Nat → Int32} (s0 : Int32) (post : SX → Prop), post (f_dues, f_time, nI n2, nI n2, 0, 0, f_turns, a_kind, a_first, a_size, a_number, a_ring, a_score, a_version, a_ranked, a_deadline, a_due, G2.1, G2.2.1, G2.2.2.1, G2.2.2.2, a_state, a_gathered, a_answered, a_watching, a_seen, a_cOp, a_cKey, a_cA, a_cB, a_results, a_taken, a_waitsFor, a_until, a_turn, a_source) → ∃ m, wX_writeAnew_12 post m (nI k) f_dues f_time (nI n) s0 0 0 f_turns a_kind a_first a_size a_number a_ring a_score a_version a_ranked a_deadline a_due G.1 G.2.1 G.2.2.1 G.2.2.2 a_state a_gathered a_answered a_watching a_seen a_cOp a_cKey a_cA a_cB a_results a_taken a_waitsFor a_until a_turn a_source := by
  intro d
  induction d with
  | zero =>
    intro k n G hk hn hB
    have e : k = 8 := by omega
    subst e
    have e8 : wa_Z A 8 = A := by
      funext j
      unfold wa_Z
      by_cases w : j < 8
      · rw [if_pos w]
      · rw [if_neg w, hK.1 j (by omega)]
    rw [e8] at hB
    refine ⟨n, G, by omega, hB, ?_⟩
    intro f_time f_turns a_version a_state a_gathered a_answered a_watching a_seen a_cOp a_cKey a_cA a_cB a_results a_taken a_waitsFor a_until a_turn a_source s0 post hpost
    exact ⟨1, br_t (nI_le (a := 8) (b := 8) (by omega) (by omega)) hpost⟩
  | succ d ih =>
    intro k n G hk hn hB
    obtain ⟨n1, G1, hn1, hB1, W1⟩ := wa_key (k := k) (by omega) hK (show wa_Z A k k = ak_E from if_neg (by omega)) (by omega) hB
    rw [wa_Zs] at hB1
    obtain ⟨n2, G2, hn2, hB2, W2⟩ := ih (k + 1) n1 G1 (by omega) (by omega) hB1
    refine ⟨n2, G2, hn2, hB2, ?_⟩
    intro f_time f_turns a_version a_state a_gathered a_answered a_watching a_seen a_cOp a_cKey a_cA a_cB a_results a_taken a_waitsFor a_until a_turn a_source s0 post hpost
    obtain ⟨m, hm⟩ := W2 s0 _ hpost
    exact ⟨m + 1, W1 _ m hm⟩
/-- all of it is safe, and makes what is there -/
theorem wa_anew {A : Nat → ak_T} {f_dues : Int32} {a_kind a_first a_size a_number a_ring a_score a_ranked a_deadline a_due a_logOp a_logKey a_logA a_logB : Nat → Int32} (hK : xr_K A (f_dues, a_kind, a_first, a_size, a_number, a_ring, a_score, a_ranked, a_deadline, a_due)) : ∃ (L : lo_T), lo_I L.1 L A A ∧ L.2.1 = 0 ∧ ∀ {f_time f_logged f_broken : Int32} {f_turns : Int64} {a_version a_state a_gathered a_answered a_watching a_seen a_cOp a_cKey a_cA a_cB : Nat → Int32} {a_results a_taken : Nat → Int64} {a_waitsFor a_until : Nat → Int32} {a_turn : Nat → Int64} {a_source : Nat → Int32} (s0 : Int32) (post : SX → Prop), post (f_dues, f_time, L.1, L.1, L.2.1, 0, f_turns, a_kind, a_first, a_size, a_number, a_ring, a_score, a_version, a_ranked, a_deadline, a_due, L.2.2.1, L.2.2.2.1, L.2.2.2.2.1, L.2.2.2.2.2, a_state, a_gathered, a_answered, a_watching, a_seen, a_cOp, a_cKey, a_cA, a_cB, a_results, a_taken, a_waitsFor, a_until, a_turn, a_source) → wpX_writeAnew post (f_dues, f_time, f_logged, s0, f_broken, 0, f_turns, a_kind, a_first, a_size, a_number, a_ring, a_score, a_version, a_ranked, a_deadline, a_due, a_logOp, a_logKey, a_logA, a_logB, a_state, a_gathered, a_answered, a_watching, a_seen, a_cOp, a_cKey, a_cA, a_cB, a_results, a_taken, a_waitsFor, a_until, a_turn, a_source) := by
  obtain ⟨n2, G2, hn2, hB2, W2⟩ := wa_12 hK 8 0 0 (a_logOp, a_logKey, a_logA, a_logB) (by omega) (by omega) ⟨fun i hi => by omega, by funext j; exact (if_neg (Nat.not_lt_zero j)).symm⟩
  refine ⟨(nI n2, 0, G2.1, G2.2.1, G2.2.2.1, G2.2.2.2), ⟨n2, n2, rfl, rfl, Nat.le_refl _, by omega, hB2.1, hB2.2, fun _ => hB2.2⟩, rfl, ?_⟩
  intro f_time f_logged f_broken f_turns a_version a_state a_gathered a_answered a_watching a_seen a_cOp a_cKey a_cA a_cB a_results a_taken a_waitsFor a_until a_turn a_source s0 post hpost
  exact W2 s0 _ hpost
end
section
/-! ===== Y: copies of keys ===== -/
theorem yr_eq {C C' : Nat → ak_T} {M : yk_T} (h : yr_K C M) (e : ∀ k, k < 16 → C' k = C k) : yr_K C' M := fun k hk => by
  rw [e k hk]; exact h k hk
theorem yy_K {p t : Int32} (hp : vp_in p 16) (ht : vp_in t 16) (hne : t.toNatClampNeg ≠ p.toNatClampNeg) {C : Nat → ak_T} {b_kind b_number b_size b_item b_score b_deadline : Nat → Int32} (hK : yr_K C (b_kind, b_number, b_size, b_item, b_score, b_deadline)) : yr_K (ak_up C t.toNatClampNeg (C p.toNatClampNeg)) (upd b_kind t.toNatClampNeg (b_kind p.toNatClampNeg), upd b_number t.toNatClampNeg (b_number p.toNatClampNeg), upd b_size t.toNatClampNeg (b_size p.toNatClampNeg), sh_c (fun x => x) b_item (12 * p.toNatClampNeg) (12 * t.toNatClampNeg) 12, sh_c (fun x => x) b_score (12 * p.toNatClampNeg) (12 * t.toNatClampNeg) 12, upd b_deadline t.toNatClampNeg (b_deadline p.toNatClampNeg)) := by
  have kp := (nu_key hp (by omega)).2
  have kt := (nu_key ht (by omega)).2
  obtain ⟨Gp, h1, h2, h3, h4, h5, g, h6⟩ := hK _ kp
  dsimp only at h1 h2 h3 h4 h5 h6
  refine yr_up hK Gp ⟨by rw [pk_us]; exact h1, by rw [pk_us]; exact h2, by rw [pk_us]; exact h3, by rw [pk_us]; exact h4, fun i hi => ?_, g, h6.1, fun i hi => ?_⟩ (fun j _ hj => ⟨pk_un hj, pk_un hj, pk_un hj, pk_un hj, fun i hi => sh_co (by omega), fun i hi => sh_co (by omega)⟩)
  · have := ak_Gls Gp
    rw [sh_ci (by omega)]; exact h5 i hi
  · have := ak_Gn Gp
    rw [sh_ci (by omega), sh_ci (by omega)]; exact h6.2 i hi
/-- a copy, as an outcome -/
theorem yy_out {p t : Int32} (hp : vp_in p 16) (ht : vp_in t 16) (hne : t.toNatClampNeg ≠ p.toNatClampNeg) {C : Nat → ak_T} {M : yk_T} (hK : yr_K C M) : ∃ M2 : yk_T, yr_K (ak_up C t.toNatClampNeg (C p.toNatClampNeg)) M2 ∧ ∀ {g_time : Int32} {g_waited : Int64} {b_state b_first b_second b_until : Nat → Int32} {b_since : Nat → Int64} {b_watched b_deceived b_op b_opKey b_opA b_opB b_queued : Nat → Int32} {b_answers : Nat → Int64} {b_answered : Nat → Int32} {b_took b_tookFrom : Nat → Int64} (post : SY → Prop), post (g_time, g_waited, M2.1, M2.2.1, M2.2.2.1, M2.2.2.2.1, M2.2.2.2.2.1, M2.2.2.2.2.2, b_state, b_first, b_second, b_until, b_since, b_watched, b_deceived, b_op, b_opKey, b_opA, b_opB, b_queued, b_answers, b_answered, b_took, b_tookFrom) → wpY_copy post (g_time, g_waited, M.1, M.2.1, M.2.2.1, M.2.2.2.1, M.2.2.2.2.1, M.2.2.2.2.2, b_state, b_first, b_second, b_until, b_since, b_watched, b_deceived, b_op, b_opKey, b_opA, b_opB, b_queued, b_answers, b_answered, b_took, b_tookFrom) p t := by
  refine ⟨_, yy_K hp ht hne hK, ?_⟩
  intro g_time g_waited b_state b_first b_second b_until b_since b_watched b_deceived b_op b_opKey b_opA b_opB b_queued b_answers b_answered b_took b_tookFrom post hpost
  exact yy_copy hp ht hne hpost
theorem yn_out {p : Int32} (hp : vp_in p 16) {C : Nat → ak_T} {M : yk_T} (hK : yr_K C M) : ∃ M2 : yk_T, yr_K (ak_up C p.toNatClampNeg ak_E) M2 ∧ ∀ {g_time : Int32} {g_waited : Int64} {b_state b_first b_second b_until : Nat → Int32} {b_since : Nat → Int64} {b_watched b_deceived b_op b_opKey b_opA b_opB b_queued : Nat → Int32} {b_answers : Nat → Int64} {b_answered : Nat → Int32} {b_took b_tookFrom : Nat → Int64} (post : SY → Prop), post (g_time, g_waited, M2.1, M2.2.1, M2.2.2.1, M2.2.2.2.1, M2.2.2.2.2.1, M2.2.2.2.2.2, b_state, b_first, b_second, b_until, b_since, b_watched, b_deceived, b_op, b_opKey, b_opA, b_opB, b_queued, b_answers, b_answered, b_took, b_tookFrom) → wpY_nothing post (g_time, g_waited, M.1, M.2.1, M.2.2.1, M.2.2.2.1, M.2.2.2.2.1, M.2.2.2.2.2, b_state, b_first, b_second, b_until, b_since, b_watched, b_deceived, b_op, b_opKey, b_opA, b_opB, b_queued, b_answers, b_answered, b_took, b_tookFrom) p := by
  refine ⟨_, yr_up hK ak_GE (yr_1E rfl rfl pk_us pk_us pk_us pk_us) (fun j _ hne => ⟨pk_un hne, pk_un hne, pk_un hne, pk_un hne, fun _ _ => rfl, fun _ _ => rfl⟩), ?_⟩
  intro g_time g_waited b_state b_first b_second b_until b_since b_watched b_deceived b_op b_opKey b_opA b_opB b_queued b_answers b_answered b_took b_tookFrom post hpost
  exact yn_no hp hpost
def cr_s (i : Nat) (C : Nat → ak_T) : Nat → ak_T := fun k => if 8 + i ≤ k ∧ k < 16 then C (k - 8) else C k
theorem cr_ss {i : Nat} (hi : i < 8) (C : Nat → ak_T) : cr_s (i + 1) (ak_up C (8 + i) (C i)) = cr_s i C := by
  funext k
  unfold cr_s
  by_cases z : k = 8 + i
  · subst z
    rw [if_neg (by omega), if_pos (by omega), ak_upS, Nat.add_sub_cancel_left]
  · rw [ak_upN z]
    by_cases w : 8 + i ≤ k ∧ k < 16
    · rw [if_pos w, if_pos (by omega), ak_upN (by omega)]
    · rw [if_neg w, if_neg (by omega)]
theorem cr_sync : ∀ (d i : Nat) (C : Nat → ak_T) (M : yk_T), i + d = 8 → yr_K C M → ∃ M2 : yk_T, yr_K (cr_s i C) M2 ∧ ∀ {g_time : Int32} {g_waited : Int64} {b_state b_first b_second b_until : Nat → Int32} {b_since : Nat → Int64} {b_watched b_deceived b_op b_opKey b_opA b_opB b_queued : Nat → Int32} {b_answers : Nat → Int64} {b_answered : Nat → Int32} {b_took b_tookFrom : Nat → Int64} (post : SY → Prop), post (g_time, g_waited, M2.1, M2.2.1, M2.2.2.1, M2.2.2.2.1, M2.2.2.2.2.1, M2.2.2.2.2.2, b_state, b_first, b_second, b_until, b_since, b_watched, b_deceived, b_op, b_opKey, b_opA, b_opB, b_queued, b_answers, b_answered, b_took, b_tookFrom) → ∃ m, wY_sync_2 post m (nI i) g_time g_waited M.1 M.2.1 M.2.2.1 M.2.2.2.1 M.2.2.2.2.1 M.2.2.2.2.2 b_state b_first b_second b_until b_since b_watched b_deceived b_op b_opKey b_opA b_opB b_queued b_answers b_answered b_took b_tookFrom := by
  intro d
  induction d with
  | zero =>
    intro i C M hi hM
    have e : i = 8 := by omega
    subst e
    refine ⟨M, yr_eq hM (fun k hk => if_neg (by omega)), ?_⟩
    intro g_time g_waited b_state b_first b_second b_until b_since b_watched b_deceived b_op b_opKey b_opA b_opB b_queued b_answers b_answered b_took b_tookFrom post hpost
    exact ⟨1, br_t (nI_le (a := 8) (b := 8) (by omega) (by omega)) hpost⟩
  | succ d ih =>
    intro i C M hi hM
    have c1 : (nI i).toNatClampNeg = i := nI_clamp (by omega)
    have c2 : (nI (8 + i)).toNatClampNeg = 8 + i := nI_clamp (by omega)
    obtain ⟨M1, hM1, W1⟩ := yy_out (p := nI i) (t := nI (8 + i)) (vp_in_nI (by omega) (by omega)) (vp_in_nI (by omega) (by omega)) (by rw [c1, c2]; omega) hM
    rw [c1, c2] at hM1
    obtain ⟨M2, hM2, W2⟩ := ih (i + 1) _ M1 (by omega) hM1
    rw [cr_ss (by omega)] at hM2
    refine ⟨M2, hM2, ?_⟩
    intro g_time g_waited b_state b_first b_second b_until b_since b_watched b_deceived b_op b_opKey b_opA b_opB b_queued b_answers b_answered b_took b_tookFrom post hpost
    obtain ⟨m, hm⟩ := W2 _ hpost
    have e8 : (8 : Int32) + nI i = nI (8 + i) := nI_add 8 i
    refine ⟨m + 1, br_f (nI_ge (b := 8) (by omega) (by omega)) ?_⟩
    rw [e8]
    exact W1 _ (nm_r (nI_1 i) hm)
/-! ===== Y: a crash ===== -/
/-- the keys i .. 7 become the safe ones whose deadlines aren't over -/
def cr_Y (t : Int32) (i : Nat) (C : Nat → ak_T) : Nat → ak_T := fun k => if i ≤ k ∧ k < 8 then ex_1 t (C (8 + k)) else C k
def cr_n (t : Int32) (i : Nat) (C : Nat → ak_T) : Nat := en_C 8 (fun k => decide (i ≤ k ∧ ¬ (ex_1 t (C (8 + k))).1 = 0))
theorem cr_Ys {t : Int32} {i : Nat} (hi : i < 8) (C : Nat → ak_T) : cr_Y t (i + 1) (ak_up C i (ex_1 t (C (8 + i)))) = cr_Y t i C := by
  funext k
  unfold cr_Y
  by_cases z : k = i
  · subst z
    rw [if_neg (by omega), if_pos (by omega), ak_upS]
  · rw [ak_upN z]
    by_cases w : i ≤ k ∧ k < 8
    · rw [if_pos w, if_pos (by omega), ak_upN (by omega)]
    · rw [if_neg w, if_neg (by omega)]
theorem cr_ns {t : Int32} {i : Nat} (hi : i < 8) (C : Nat → ak_T) (x : ak_T) : cr_n t i C = (if (ex_1 t (C (8 + i))).1 = 0 then 0 else 1) + cr_n t (i + 1) (ak_up C i x) := by
  have hq : ∀ j, j < 8 → j ≠ i → (fun k => decide (i ≤ k ∧ ¬ (ex_1 t (C (8 + k))).1 = 0)) j = (fun k => decide (i + 1 ≤ k ∧ ¬ (ex_1 t (ak_up C i x (8 + k))).1 = 0)) j := fun j hj hne => by
    dsimp only
    rw [ak_upN (by omega)]
    by_cases w : i ≤ j ∧ ¬ (ex_1 t (C (8 + j))).1 = 0
    · rw [decide_eq_true w, decide_eq_true ⟨by omega, w.2⟩]
    · rw [decide_eq_false w, decide_eq_false (fun h => w ⟨by omega, h.2⟩)]
  have h0 : (fun k => decide (i + 1 ≤ k ∧ ¬ (ex_1 t (ak_up C i x (8 + k))).1 = 0)) i = false := decide_eq_false (fun h => by omega)
  by_cases w : (ex_1 t (C (8 + i))).1 = 0
  · rw [if_pos w, Nat.zero_add]
    refine en_Ccg (fun j hj => ?_)
    by_cases z : j = i
    · subst z
      exact (decide_eq_false (fun h => h.2 w)).trans h0.symm
    · exact hq j hj z
  · rw [if_neg w, Nat.add_comm]
    exact en_Cadd hi h0 (decide_eq_true ⟨Nat.le_refl i, w⟩) hq
theorem cr_k0 {x : ak_T} (h : ak_G x) : x.1 ≤ 0 ↔ x.1 = 0 := by
  rcases ak_Gk h with e | e | e | e <;> rw [e] <;> decide
theorem cr_4 {g_time : Int32} : ∀ (d i c : Nat) (C : Nat → ak_T) (M : yk_T), i + d = 8 → yr_K C M → ∃ M2 : yk_T, yr_K (cr_Y g_time i C) M2 ∧ ∀ {g_waited : Int64} {b_state b_first b_second b_until : Nat → Int32} {b_since : Nat → Int64} {b_watched b_deceived b_op b_opKey b_opA b_opB b_queued : Nat → Int32} {b_answers : Nat → Int64} {b_answered : Nat → Int32} {b_took b_tookFrom : Nat → Int64} (post : Int32 → SY → Prop), (∃ m, wY_crash_66 post (nI (c + cr_n g_time i C)) m 0 g_time g_waited M2.1 M2.2.1 M2.2.2.1 M2.2.2.2.1 M2.2.2.2.2.1 M2.2.2.2.2.2 b_state b_first b_second b_until b_since b_watched b_deceived b_op b_opKey b_opA b_opB b_queued b_answers b_answered b_took b_tookFrom) → ∃ m, wY_crash_4 post m (nI c) (nI i) g_time g_waited M.1 M.2.1 M.2.2.1 M.2.2.2.1 M.2.2.2.2.1 M.2.2.2.2.2 b_state b_first b_second b_until b_since b_watched b_deceived b_op b_opKey b_opA b_opB b_queued b_answers b_answered b_took b_tookFrom := by
  intro d
  induction d with
  | zero =>
    intro i c C M hi hM
    have e : i = 8 := by omega
    subst e
    have h0 : cr_n g_time 8 C = 0 := en_C0 (fun k hk => decide_eq_false (fun h => by omega))
    refine ⟨M, yr_eq hM (fun k hk => if_neg (by omega)), ?_⟩
    intro g_waited b_state b_first b_second b_until b_since b_watched b_deceived b_op b_opKey b_opA b_opB b_queued b_answers b_answered b_took b_tookFrom post h
    rw [h0] at h
    exact ⟨1, br_t (nI_le (a := 8) (b := 8) (by omega) (by omega)) h⟩
  | succ d ih =>
    intro i c C M hi hM
    have hi8 : i < 8 := by omega
    have hin : vp_in (nI i) 16 := vp_in_nI (by omega) (by omega)
    have c1 : (nI i).toNatClampNeg = i := nI_clamp (by omega)
    have c2 : (nI (8 + i)).toNatClampNeg = 8 + i := nI_clamp (by omega)
    have e8 : (8 : Int32) + nI i = nI (8 + i) := nI_add 8 i
    have nk : ¬ (8 : Int32) ≤ nI i := nI_ge (b := 8) hi8 (by omega)
    obtain ⟨M1, hM1, W1⟩ := yy_out (p := nI (8 + i)) (t := nI i) (vp_in_nI (by omega) (by omega)) hin (by rw [c1, c2]; omega) hM
    rw [c1, c2] at hM1
    obtain ⟨Gp, h1, h2, h3, h4, h5, g, h6⟩ := hM1 i (by omega)
    rw [ak_upS] at Gp h1 h4
    obtain ⟨z1, z2, z3⟩ := yr_dz (ak_Gd Gp)
    have hn := cr_ns (t := g_time) hi8 C (ex_1 g_time (C (8 + i)))
    -- the count, then on
    have fin : ∀ (M' : yk_T), yr_K (ak_up C i (ex_1 g_time (C (8 + i)))) M' → ∃ M2 : yk_T, yr_K (cr_Y g_time i C) M2 ∧ ∀ {g_waited : Int64} {b_state b_first b_second b_until : Nat → Int32} {b_since : Nat → Int64} {b_watched b_deceived b_op b_opKey b_opA b_opB b_queued : Nat → Int32} {b_answers : Nat → Int64} {b_answered : Nat → Int32} {b_took b_tookFrom : Nat → Int64} (post : Int32 → SY → Prop), (∃ m, wY_crash_66 post (nI (c + cr_n g_time i C)) m 0 g_time g_waited M2.1 M2.2.1 M2.2.2.1 M2.2.2.2.1 M2.2.2.2.2.1 M2.2.2.2.2.2 b_state b_first b_second b_until b_since b_watched b_deceived b_op b_opKey b_opA b_opB b_queued b_answers b_answered b_took b_tookFrom) → ∃ m, wY_crash_46 post (wY_crash_4 post m) (nI c) (nI i) g_time g_waited M'.1 M'.2.1 M'.2.2.1 M'.2.2.2.1 M'.2.2.2.2.1 M'.2.2.2.2.2 b_state b_first b_second b_until b_since b_watched b_deceived b_op b_opKey b_opA b_opB b_queued b_answers b_answered b_took b_tookFrom := fun M' hM' => by
      obtain ⟨Gx, k1, _⟩ := hM' i (by omega)
      rw [ak_upS] at Gx k1
      by_cases z : (ex_1 g_time (C (8 + i))).1 = 0
      · rw [if_pos z, Nat.zero_add] at hn
        obtain ⟨M2, hM2, W2⟩ := ih (i + 1) c _ M' (by omega) hM'
        rw [cr_Ys hi8] at hM2
        refine ⟨M2, hM2, ?_⟩
        intro g_waited b_state b_first b_second b_until b_since b_watched b_deceived b_op b_opKey b_opA b_opB b_queued b_answers b_answered b_took b_tookFrom post h
        rw [hn] at h
        obtain ⟨m, hm⟩ := W2 _ h
        exact ⟨m, And.intro hin (br_t (by rw [c1, k1, cr_k0 Gx]; exact z) (nm_r (nI_1 i) hm))⟩
      · rw [if_neg z] at hn
        obtain ⟨M2, hM2, W2⟩ := ih (i + 1) (c + 1) _ M' (by omega) hM'
        rw [cr_Ys hi8] at hM2
        refine ⟨M2, hM2, ?_⟩
        intro g_waited b_state b_first b_second b_until b_since b_watched b_deceived b_op b_opKey b_opA b_opB b_queued b_answers b_answered b_took b_tookFrom post h
        rw [hn, ← Nat.add_assoc] at h
        obtain ⟨m, hm⟩ := W2 _ h
        exact ⟨m, And.intro hin (br_f (by rw [c1, k1, cr_k0 Gx]; exact z) (nm_r (nI_1 c) (nm_r (nI_1 i) hm)))⟩
    by_cases he : ex_p g_time (C (8 + i))
    · have hx : ex_1 g_time (C (8 + i)) = ak_E := if_pos he
      obtain ⟨M', hM', W'⟩ := yn_out (p := nI i) hin hM1
      rw [c1, wa_uu, ← hx] at hM'
      obtain ⟨M2, hM2, W2⟩ := fin M' hM'
      refine ⟨M2, hM2, ?_⟩
      intro g_waited b_state b_first b_second b_until b_since b_watched b_deceived b_op b_opKey b_opA b_opB b_queued b_answers b_answered b_took b_tookFrom post h
      obtain ⟨m, hm⟩ := W2 _ h
      refine ⟨m + 1, br_f nk ?_⟩
      rw [e8]
      refine W1 _ (And.intro hin ?_)
      rw [c1, h4]
      exact br_f (fun e => he.1 (z3.mp e)) (And.intro hin (br_f (by rw [z2 he.1]; exact Int32.not_lt.mpr he.2) (W' _ hm)))
    · have hx : ex_1 g_time (C (8 + i)) = C (8 + i) := if_neg he
      rw [← hx] at hM1
      obtain ⟨M2, hM2, W2⟩ := fin M1 hM1
      refine ⟨M2, hM2, ?_⟩
      intro g_waited b_state b_first b_second b_until b_since b_watched b_deceived b_op b_opKey b_opA b_opB b_queued b_answers b_answered b_took b_tookFrom post h
      obtain ⟨m, hm⟩ := W2 _ h
      refine ⟨m + 1, br_f nk ?_⟩
      rw [e8]
      refine W1 _ (And.intro hin ?_)
      rw [c1, h4]
      refine br_c (fun _ => hm) (fun e => And.intro hin (br_t ?_ hm))
      have hd : ak_dl (C (8 + i)) ≠ -1 := fun w => e (z3.mpr w)
      rw [z2 hd]
      exact Int32.not_le.mp (fun w => he ⟨hd, w⟩)
/-! clients forget -/
def cr_z (x : Nat) (v : Int32) (S : Nat → Int32) : Nat → Int32 := fun i => if i < x then v else S i
def cr_zL (x : Nat) (v : Int64) (S : Nat → Int64) : Nat → Int64 := fun i => if i < x then v else S i
theorem cr_z0 (v : Int32) (S : Nat → Int32) : cr_z 0 v S = S := by
  funext i; exact if_neg (Nat.not_lt_zero i)
theorem cr_zL0 (v : Int64) (S : Nat → Int64) : cr_zL 0 v S = S := by
  funext i; exact if_neg (Nat.not_lt_zero i)
theorem cr_zs (x : Nat) (v : Int32) (S : Nat → Int32) : upd (cr_z x v S) x v = cr_z (x + 1) v S := by
  funext i
  unfold cr_z
  by_cases z : i = x
  · rw [z, pk_us, if_pos (by omega)]
  · rw [pk_un z]
    by_cases w : i < x
    · rw [if_pos w, if_pos (by omega)]
    · rw [if_neg w, if_neg (by omega)]
theorem cr_zLs (x : Nat) (v : Int64) (S : Nat → Int64) : vp_updL (cr_zL x v S) x v = cr_zL (x + 1) v S := by
  funext i
  unfold cr_zL
  by_cases z : i = x
  · rw [z, pk_uLs, if_pos (by omega)]
  · rw [pk_uLn z]
    by_cases w : i < x
    · rw [if_pos w, if_pos (by omega)]
    · rw [if_neg w, if_neg (by omega)]
theorem cr_bf : vp_nar .boolean 0 = 0 := by rfl
theorem cr_uw {c : Int32} (hc : vp_in c 4) {g_time : Int32} {g_waited : Int64} {b_kind b_number b_size b_item b_score b_deadline b_state b_first b_second b_until : Nat → Int32} {b_since : Nat → Int64} {b_watched b_deceived b_op b_opKey b_opA b_opB b_queued : Nat → Int32} {b_answers : Nat → Int64} {b_answered : Nat → Int32} {b_took b_tookFrom : Nat → Int64} {post : SY → Prop} (hpost : post (g_time, g_waited, b_kind, b_number, b_size, b_item, b_score, b_deadline, upd b_state c.toNatClampNeg 0, b_first, b_second, b_until, b_since, upd b_watched c.toNatClampNeg 0, upd b_deceived c.toNatClampNeg 0, b_op, b_opKey, b_opA, b_opB, upd b_queued c.toNatClampNeg 0, b_answers, b_answered, b_took, b_tookFrom)) : wpY_unwatch post (g_time, g_waited, b_kind, b_number, b_size, b_item, b_score, b_deadline, b_state, b_first, b_second, b_until, b_since, b_watched, b_deceived, b_op, b_opKey, b_opA, b_opB, b_queued, b_answers, b_answered, b_took, b_tookFrom) c :=
  And.intro hc (nm_e (And.intro hc (nm_e (And.intro hc (nm_r (e' := upd b_deceived c.toNatClampNeg 0) (by rw [cr_bf]) (And.intro hc (nm_e hpost)))))))
theorem cr_ft {c : Int32} (hc : vp_in c 4) {g_time : Int32} {g_waited : Int64} {b_kind b_number b_size b_item b_score b_deadline b_state b_first b_second b_until : Nat → Int32} {b_since : Nat → Int64} {b_watched b_deceived b_op b_opKey b_opA b_opB b_queued : Nat → Int32} {b_answers : Nat → Int64} {b_answered : Nat → Int32} {b_took b_tookFrom : Nat → Int64} {post : SY → Prop} (hpost : post (g_time, g_waited, b_kind, b_number, b_size, b_item, b_score, b_deadline, b_state, b_first, b_second, b_until, b_since, b_watched, b_deceived, b_op, b_opKey, b_opA, b_opB, b_queued, b_answers, b_answered, vp_updL b_took c.toNatClampNeg 10000000006, vp_updL b_tookFrom c.toNatClampNeg 10000000006)) : wpY_forgetTaken post (g_time, g_waited, b_kind, b_number, b_size, b_item, b_score, b_deadline, b_state, b_first, b_second, b_until, b_since, b_watched, b_deceived, b_op, b_opKey, b_opA, b_opB, b_queued, b_answers, b_answered, b_took, b_tookFrom) c :=
  And.intro hc (nm_e (And.intro hc (nm_e hpost)))
theorem cr_66 {r : Int32} {g_time : Int32} {g_waited : Int64} {b_kind b_number b_size b_item b_score b_deadline b_state b_first b_second b_until : Nat → Int32} {b_since : Nat → Int64} {b_watched b_deceived b_op b_opKey b_opA b_opB b_queued : Nat → Int32} {b_answers : Nat → Int64} {b_answered : Nat → Int32} {b_took b_tookFrom : Nat → Int64} {post : Int32 → SY → Prop} (hpost : post r (g_time, g_waited, b_kind, b_number, b_size, b_item, b_score, b_deadline, cr_z 4 0 b_state, b_first, b_second, b_until, b_since, cr_z 4 0 b_watched, cr_z 4 0 b_deceived, b_op, b_opKey, b_opA, b_opB, cr_z 4 0 b_queued, b_answers, cr_z 4 0 b_answered, cr_zL 4 10000000006 b_took, cr_zL 4 10000000006 b_tookFrom)) : ∀ k x, x + k = 4 → ∃ m, wY_crash_66 post r m (nI x) g_time g_waited b_kind b_number b_size b_item b_score b_deadline (cr_z x 0 b_state) b_first b_second b_until b_since (cr_z x 0 b_watched) (cr_z x 0 b_deceived) b_op b_opKey b_opA b_opB (cr_z x 0 b_queued) b_answers (cr_z x 0 b_answered) (cr_zL x 10000000006 b_took) (cr_zL x 10000000006 b_tookFrom) := by
  intro k
  induction k with
  | zero =>
    intro x hx
    have e : x = 4 := by omega
    subst e
    exact ⟨1, br_t (nI_le (a := 4) (b := 4) (by omega) (by omega)) hpost⟩
  | succ k ih =>
    intro x hx
    obtain ⟨m, hm⟩ := ih (x + 1) (by omega)
    have cx : (nI x).toNatClampNeg = x := nI_clamp (by omega)
    have hi : vp_in (nI x) 4 := vp_in_nI (by omega) (by omega)
    refine ⟨m + 1, br_f (nI_ge (b := 4) (by omega) (by omega)) (cr_uw hi (And.intro hi (nm_e (cr_ft hi (nm_r (nI_1 x) ?_)))))⟩
    rw [cx, cr_zs, cr_zs, cr_zs, cr_zs, cr_zs, cr_zLs, cr_zLs]
    exact hm
end
section
/-! ===== X: a crash ===== -/
def cr_E (i : Nat) (A : Nat → ak_T) : Nat → ak_T := fun j => if i ≤ j ∧ j < 8 then ak_E else A j
theorem cr_Es {i : Nat} (hi : i < 8) (A : Nat → ak_T) : cr_E (i + 1) (ak_up A i ak_E) = cr_E i A := by
  funext k
  unfold cr_E
  by_cases z : k = i
  · subst z
    rw [if_neg (by omega), if_pos (by omega), ak_upS]
  · rw [ak_upN z]
    by_cases w : i ≤ k ∧ k < 8
    · rw [if_pos w, if_pos (by omega)]
    · rw [if_neg w, if_neg (by omega)]
/-- emptied, as an outcome -/
theorem xe_out {A : Nat → ak_T} {p : Int32} (hp : vp_in p 8) {K : xk_T} (hK : xr_K A K) : ∃ K2 : xk_T, xr_K (ak_up A p.toNatClampNeg ak_E) K2 ∧ ∀ {f_time f_logged f_safe f_broken f_silent : Int32} {f_turns : Int64} {a_version a_logOp a_logKey a_logA a_logB a_state a_gathered a_answered a_watching a_seen a_cOp a_cKey a_cA a_cB : Nat → Int32} {a_results a_taken : Nat → Int64} {a_waitsFor a_until : Nat → Int32} {a_turn : Nat → Int64} {a_source : Nat → Int32} (post : SX → Prop), post (K2.1, f_time, f_logged, f_safe, f_broken, f_silent, f_turns, K2.2.1, K2.2.2.1, K2.2.2.2.1, K2.2.2.2.2.1, K2.2.2.2.2.2.1, K2.2.2.2.2.2.2.1, a_version, K2.2.2.2.2.2.2.2.1, K2.2.2.2.2.2.2.2.2.1, K2.2.2.2.2.2.2.2.2.2, a_logOp, a_logKey, a_logA, a_logB, a_state, a_gathered, a_answered, a_watching, a_seen, a_cOp, a_cKey, a_cA, a_cB, a_results, a_taken, a_waitsFor, a_until, a_turn, a_source) → wpX_empty post (K.1, f_time, f_logged, f_safe, f_broken, f_silent, f_turns, K.2.1, K.2.2.1, K.2.2.2.1, K.2.2.2.2.1, K.2.2.2.2.2.1, K.2.2.2.2.2.2.1, a_version, K.2.2.2.2.2.2.2.1, K.2.2.2.2.2.2.2.2.1, K.2.2.2.2.2.2.2.2.2, a_logOp, a_logKey, a_logA, a_logB, a_state, a_gathered, a_answered, a_watching, a_seen, a_cOp, a_cKey, a_cA, a_cB, a_results, a_taken, a_waitsFor, a_until, a_turn, a_source) p := by
  have kp := (nu_key hp (by omega)).2
  obtain ⟨d, l, q, hd, We⟩ := xs_empty hp hK.2.2
  refine ⟨(d, upd K.2.1 p.toNatClampNeg 0, upd K.2.2.1 p.toNatClampNeg 0, upd K.2.2.2.1 p.toNatClampNeg 0, K.2.2.2.2.1, K.2.2.2.2.2.1, K.2.2.2.2.2.2.1, K.2.2.2.2.2.2.2.1, l, q), ?_, ?_⟩
  · exact xr_up (d := K.1) (kd := K.2.1) (fi := K.2.2.1) (sz := K.2.2.2.1) (nu := K.2.2.2.2.1) (ri := K.2.2.2.2.2.1) (sc := K.2.2.2.2.2.2.1) (rk := K.2.2.2.2.2.2.2.1) (dl := K.2.2.2.2.2.2.2.2.1) (q := K.2.2.2.2.2.2.2.2.2) hK kp ak_GE (xr_1E rfl rfl pk_us pk_us (fun e => absurd e nu_01) ⟨0, by omega, pk_us⟩) (fun j _ hne => ⟨pk_un hne, pk_un hne, pk_un hne, rfl, fun _ _ => rfl, fun _ _ => rfl, fun _ _ => rfl⟩) hd
  · intro f_time f_logged f_safe f_broken f_silent f_turns a_version a_logOp a_logKey a_logA a_logB a_state a_gathered a_answered a_watching a_seen a_cOp a_cKey a_cA a_cB a_results a_taken a_waitsFor a_until a_turn a_source post hpost
    exact We _ hpost
theorem cr_2 : ∀ (d i : Nat) (A : Nat → ak_T) (K : xk_T), i + d = 8 → xr_K A K → ∃ K2 : xk_T, xr_K (cr_E i A) K2 ∧ ∀ {f_time f_logged f_safe f_broken f_silent : Int32} {f_turns : Int64} {a_version a_logOp a_logKey a_logA a_logB a_state a_gathered a_answered a_watching a_seen a_cOp a_cKey a_cA a_cB : Nat → Int32} {a_results a_taken : Nat → Int64} {a_waitsFor a_until : Nat → Int32} {a_turn : Nat → Int64} {a_source : Nat → Int32} (post : Int32 → SX → Prop), (∃ m, wX_crash_21 post K2.1 f_time f_logged f_safe f_broken f_silent f_turns m 0 K2.2.1 K2.2.2.1 K2.2.2.2.1 K2.2.2.2.2.1 K2.2.2.2.2.2.1 K2.2.2.2.2.2.2.1 a_version K2.2.2.2.2.2.2.2.1 K2.2.2.2.2.2.2.2.2.1 K2.2.2.2.2.2.2.2.2.2 a_logOp a_logKey a_logA a_logB a_state a_gathered a_answered a_watching a_seen a_cOp a_cKey a_cA a_cB a_results a_taken a_waitsFor a_until a_turn a_source) → ∃ m, wX_crash_2 post m (nI i) K.1 f_time f_logged f_safe f_broken f_silent f_turns K.2.1 K.2.2.1 K.2.2.2.1 K.2.2.2.2.1 K.2.2.2.2.2.1 K.2.2.2.2.2.2.1 a_version K.2.2.2.2.2.2.2.1 K.2.2.2.2.2.2.2.2.1 K.2.2.2.2.2.2.2.2.2 a_logOp a_logKey a_logA a_logB a_state a_gathered a_answered a_watching a_seen a_cOp a_cKey a_cA a_cB a_results a_taken a_waitsFor a_until a_turn a_source := by
  intro d
  induction d with
  | zero =>
    intro i A K hi hK
    have e : i = 8 := by omega
    subst e
    have e8 : cr_E 8 A = A := by funext k; exact if_neg (by omega)
    rw [e8]
    refine ⟨K, hK, ?_⟩
    intro f_time f_logged f_safe f_broken f_silent f_turns a_version a_logOp a_logKey a_logA a_logB a_state a_gathered a_answered a_watching a_seen a_cOp a_cKey a_cA a_cB a_results a_taken a_waitsFor a_until a_turn a_source post h
    exact ⟨1, br_t (nI_le (a := 8) (b := 8) (by omega) (by omega)) h⟩
  | succ d ih =>
    intro i A K hi hK
    have ci : (nI i).toNatClampNeg = i := nI_clamp (by omega)
    obtain ⟨K1, hK1, W1⟩ := xe_out (p := nI i) (vp_in_nI (by omega) (by omega)) hK
    rw [ci] at hK1
    obtain ⟨K2, hK2, W2⟩ := ih (i + 1) _ K1 (by omega) hK1
    rw [cr_Es (by omega)] at hK2
    refine ⟨K2, hK2, ?_⟩
    intro f_time f_logged f_safe f_broken f_silent f_turns a_version a_logOp a_logKey a_logA a_logB a_state a_gathered a_answered a_watching a_seen a_cOp a_cKey a_cA a_cB a_results a_taken a_waitsFor a_until a_turn a_source post h
    obtain ⟨m, hm⟩ := W2 _ h
    exact ⟨m + 1, br_f (nI_ge (b := 8) (by omega) (by omega)) (W1 _ (nm_r (nI_1 i) hm))⟩
theorem cr_21 {f_dues f_time f_logged f_safe f_broken f_silent : Int32} {f_turns : Int64} {a_kind a_first a_size a_number a_ring a_score a_version a_ranked a_deadline a_due a_logOp a_logKey a_logA a_logB a_state a_gathered a_answered a_watching a_seen a_cOp a_cKey a_cA a_cB : Nat → Int32} {a_results a_taken : Nat → Int64} {a_waitsFor a_until : Nat → Int32} {a_turn : Nat → Int64} {a_source : Nat → Int32} {post : Int32 → SX → Prop} (h : ∃ m, wX_crash_69 post m 0 f_dues f_time f_logged f_safe f_broken 1 f_turns a_kind a_first a_size a_number a_ring a_score a_version a_ranked a_deadline a_due a_logOp a_logKey a_logA a_logB (cr_z 4 0 a_state) a_gathered (cr_z 4 0 a_answered) (cr_z 4 0 a_watching) a_seen a_cOp a_cKey a_cA a_cB a_results (cr_zL 4 10000000006 a_taken) a_waitsFor a_until a_turn a_source) : ∀ k x, x + k = 4 → ∃ m, wX_crash_21 post f_dues f_time f_logged f_safe f_broken f_silent f_turns m (nI x) a_kind a_first a_size a_number a_ring a_score a_version a_ranked a_deadline a_due a_logOp a_logKey a_logA a_logB (cr_z x 0 a_state) a_gathered (cr_z x 0 a_answered) (cr_z x 0 a_watching) a_seen a_cOp a_cKey a_cA a_cB a_results (cr_zL x 10000000006 a_taken) a_waitsFor a_until a_turn a_source := by
  intro k
  induction k with
  | zero =>
    intro x hx
    have e : x = 4 := by omega
    subst e
    exact ⟨1, br_t (nI_le (a := 4) (b := 4) (by omega) (by omega)) h⟩
  | succ k ih =>
    intro x hx
    obtain ⟨m, hm⟩ := ih (x + 1) (by omega)
    have cx : (nI x).toNatClampNeg = x := nI_clamp (by omega)
    have hi : vp_in (nI x) 4 := vp_in_nI (by omega) (by omega)
    refine ⟨m + 1, br_f (nI_ge (b := 4) (by omega) (by omega)) (And.intro hi (nm_r (e' := cr_z (x + 1) 0 a_state) ?_ (And.intro hi (nm_r (e' := cr_z (x + 1) 0 a_watching) ?_ (And.intro hi (nm_r (e' := cr_z (x + 1) 0 a_answered) ?_ (And.intro hi (nm_r (e' := cr_zL (x + 1) 10000000006 a_taken) ?_ (nm_r (nI_1 x) hm)))))))))⟩
    · rw [cx, nu_b0, cr_zs]
    · rw [cx, nu_b0, cr_zs]
    · rw [cx, nu_b0, cr_zs]
    · rw [cx, cr_zLs]
/-- the log is read again, in silence -/
theorem cr_69 {m N : Nat} {f_safe : Int32} {L : lo_T} (hsf : f_safe = nI m) (hm : m ≤ N) (hN : N ≤ 200) (hv : ∀ i, i < N → vp_in (L.2.2.2.1 i) 8 ∧ ak_ok (L.2.2.1 i) (L.2.2.2.1 i).toNatClampNeg (L.2.2.2.2.1 i)) : ∀ (d i bd : Nat) (K : xk_T) (V : Nat → Int32), i + d = m → xr_K (lo_rp L.2.2.1 L.2.2.2.1 L.2.2.2.2.1 L.2.2.2.2.2 i) K → (∀ j, j < 8 → ∃ n : Nat, n ≤ bd ∧ V j = nI n) → ∃ (K2 : xk_T) (V2 : Nat → Int32), xr_K (lo_rp L.2.2.1 L.2.2.2.1 L.2.2.2.2.1 L.2.2.2.2.2 m) K2 ∧ (∀ j, j < 8 → ∃ n : Nat, n ≤ bd + d ∧ V2 j = nI n) ∧ ∀ {f_time : Int32} {f_turns : Int64} {a_state a_gathered a_answered a_watching a_seen a_cOp a_cKey a_cA a_cB : Nat → Int32} {a_results a_taken : Nat → Int64} {a_waitsFor a_until : Nat → Int32} {a_turn : Nat → Int64} {a_source : Nat → Int32} (post : Int32 → SX → Prop), (∀ m', wX_crash_69 post (m' + 1) (nI m) K2.1 f_time L.1 f_safe L.2.1 1 f_turns K2.2.1 K2.2.2.1 K2.2.2.2.1 K2.2.2.2.2.1 K2.2.2.2.2.2.1 K2.2.2.2.2.2.2.1 V2 K2.2.2.2.2.2.2.2.1 K2.2.2.2.2.2.2.2.2.1 K2.2.2.2.2.2.2.2.2.2 L.2.2.1 L.2.2.2.1 L.2.2.2.2.1 L.2.2.2.2.2 a_state a_gathered a_answered a_watching a_seen a_cOp a_cKey a_cA a_cB a_results a_taken a_waitsFor a_until a_turn a_source) → ∃ m', wX_crash_69 post m' (nI i) K.1 f_time L.1 f_safe L.2.1 1 f_turns K.2.1 K.2.2.1 K.2.2.2.1 K.2.2.2.2.1 K.2.2.2.2.2.1 K.2.2.2.2.2.2.1 V K.2.2.2.2.2.2.2.1 K.2.2.2.2.2.2.2.2.1 K.2.2.2.2.2.2.2.2.2 L.2.2.1 L.2.2.2.1 L.2.2.2.2.1 L.2.2.2.2.2 a_state a_gathered a_answered a_watching a_seen a_cOp a_cKey a_cA a_cB a_results a_taken a_waitsFor a_until a_turn a_source := by
  intro d
  induction d with
  | zero =>
    intro i bd K V hi hK hV
    have e : i = m := by omega
    subst e
    refine ⟨K, V, hK, hV, ?_⟩
    intro f_time f_turns a_state a_gathered a_answered a_watching a_seen a_cOp a_cKey a_cA a_cB a_results a_taken a_waitsFor a_until a_turn a_source post h
    exact ⟨1, h 0⟩
  | succ d ih =>
    intro i bd K V hi hK hV
    obtain ⟨hk, hok⟩ := hv i (by omega)
    have hin : vp_in (nI i) 200 := vp_in_nI (by omega) (by omega)
    have ci : (nI i).toNatClampNeg = i := nI_clamp (by omega)
    obtain ⟨K1, L1, hK1, _, hs, W⟩ := xa_all (B := fun _ => ak_E) (b := L.2.2.2.2.2 i) hk hok hK (show lo_R 1 f_safe L (lo_rp L.2.2.1 L.2.2.2.1 L.2.2.2.2.1 L.2.2.2.2.2 i) (fun _ => ak_E) from Or.inr rfl)
    have eL : L1 = L := hs rfl
    subst eL
    have hV1 : ∀ ch : Nat → Bool, ∀ j, j < 8 → ∃ n : Nat, n ≤ bd + 1 ∧ xv_u ch V j = nI n := fun ch j hj => by
      obtain ⟨n, hn, e⟩ := hV j hj
      unfold xv_u
      by_cases z : ch j = true
      · exact ⟨n + 1, by omega, by rw [if_pos z, e, nI_1]⟩
      · exact ⟨n, by omega, by rw [if_neg z, e, Int32.add_zero]⟩
    obtain ⟨K2, V2, h1, h2, h3⟩ := ih (i + 1) (bd + 1) K1 _ (by omega) hK1 (hV1 _)
    refine ⟨K2, V2, h1, fun j hj => ?_, ?_⟩
    · obtain ⟨n, hn, e⟩ := h2 j hj
      exact ⟨n, by omega, e⟩
    · intro f_time f_turns a_state a_gathered a_answered a_watching a_seen a_cOp a_cKey a_cA a_cB a_results a_taken a_waitsFor a_until a_turn a_source post h
      obtain ⟨m', hm'⟩ := h3 _ h
      refine ⟨m' + 1, br_f (by rw [hsf]; exact nI_ge (by omega) (by omega)) (And.intro hin (And.intro hin (And.intro hin (And.intro hin ?_))))⟩
      rw [ci]
      exact W _ (nm_r (nI_1 i) hm')
theorem cr_139 {A : Nat → ak_T} {K : xk_T} (hK : xr_K A K) {f_time f_logged f_safe f_broken f_silent : Int32} {f_turns : Int64} {a_version a_logOp a_logKey a_logA a_logB a_state a_gathered a_answered a_watching a_seen a_cOp a_cKey a_cA a_cB : Nat → Int32} {a_results a_taken : Nat → Int64} {a_waitsFor a_until : Nat → Int32} {a_turn : Nat → Int64} {a_source : Nat → Int32} {post : Int32 → SX → Prop} : ∀ (d i c : Nat), i + d = 8 → post (nI (c + en_C 8 (fun k => decide (i ≤ k ∧ ¬ (A k).1 = 0)))) (K.1, f_time, f_logged, f_safe, f_broken, f_silent, f_turns, K.2.1, K.2.2.1, K.2.2.2.1, K.2.2.2.2.1, K.2.2.2.2.2.1, K.2.2.2.2.2.2.1, a_version, K.2.2.2.2.2.2.2.1, K.2.2.2.2.2.2.2.2.1, K.2.2.2.2.2.2.2.2.2, a_logOp, a_logKey, a_logA, a_logB, a_state, a_gathered, a_answered, a_watching, a_seen, a_cOp, a_cKey, a_cA, a_cB, a_results, a_taken, a_waitsFor, a_until, a_turn, a_source) → ∃ m, wX_crash_139 post K.1 f_time f_logged f_safe f_broken f_silent f_turns K.2.1 K.2.2.1 K.2.2.2.1 K.2.2.2.2.1 K.2.2.2.2.2.1 K.2.2.2.2.2.2.1 a_version K.2.2.2.2.2.2.2.1 K.2.2.2.2.2.2.2.2.1 K.2.2.2.2.2.2.2.2.2 a_logOp a_logKey a_logA a_logB a_state a_gathered a_answered a_watching a_seen a_cOp a_cKey a_cA a_cB a_results a_taken a_waitsFor a_until a_turn a_source m (nI c) (nI i) := by
  intro d
  induction d with
  | zero =>
    intro i c hi hpost
    have e : i = 8 := by omega
    subst e
    rw [en_C0 (fun k hk => decide_eq_false (fun h => by omega))] at hpost
    exact ⟨1, br_t (nI_le (a := 8) (b := 8) (by omega) (by omega)) hpost⟩
  | succ d ih =>
    intro i c hi hpost
    have ci : (nI i).toNatClampNeg = i := nI_clamp (by omega)
    have hin : vp_in (nI i) 8 := vp_in_nI (by omega) (by omega)
    obtain ⟨Gi, k1, _⟩ := hK.2.1 i (by omega)
    have hq : ∀ j, j < 8 → j ≠ i → (fun k => decide (i ≤ k ∧ ¬ (A k).1 = 0)) j = (fun k => decide (i + 1 ≤ k ∧ ¬ (A k).1 = 0)) j := fun j hj hne => by
      dsimp only
      by_cases w : i ≤ j ∧ ¬ (A j).1 = 0
      · rw [decide_eq_true w, decide_eq_true ⟨by omega, w.2⟩]
      · rw [decide_eq_false w, decide_eq_false (fun h => w ⟨by omega, h.2⟩)]
    have h0 : (fun k => decide (i + 1 ≤ k ∧ ¬ (A k).1 = 0)) i = false := decide_eq_false (fun h => by omega)
    by_cases w : (A i).1 = 0
    · have e : en_C 8 (fun k => decide (i ≤ k ∧ ¬ (A k).1 = 0)) = en_C 8 (fun k => decide (i + 1 ≤ k ∧ ¬ (A k).1 = 0)) := by
        refine en_Ccg (fun j hj => ?_)
        by_cases z : j = i
        · subst z
          exact (decide_eq_false (fun h => h.2 w)).trans h0.symm
        · exact hq j hj z
      rw [e] at hpost
      obtain ⟨m, hm⟩ := ih (i + 1) c (by omega) hpost
      exact ⟨m + 1, br_f (nI_ge (b := 8) (by omega) (by omega)) (And.intro hin (br_t (by rw [ci, k1, cr_k0 Gi]; exact w) (nm_r (nI_1 i) hm)))⟩
    · have e : en_C 8 (fun k => decide (i ≤ k ∧ ¬ (A k).1 = 0)) = en_C 8 (fun k => decide (i + 1 ≤ k ∧ ¬ (A k).1 = 0)) + 1 := en_Cadd (by omega) h0 (decide_eq_true ⟨Nat.le_refl i, w⟩) hq
      rw [e, show c + (en_C 8 (fun k => decide (i + 1 ≤ k ∧ ¬ (A k).1 = 0)) + 1) = c + 1 + en_C 8 (fun k => decide (i + 1 ≤ k ∧ ¬ (A k).1 = 0)) from by omega] at hpost
      obtain ⟨m, hm⟩ := ih (i + 1) (c + 1) (by omega) hpost
      exact ⟨m + 1, br_f (nI_ge (b := 8) (by omega) (by omega)) (And.intro hin (br_f (by rw [ci, k1, cr_k0 Gi]; exact w) (nm_r (nI_1 c) (nm_r (nI_1 i) hm))))⟩
theorem cr_X {A B : Nat → ak_T} {bd : Nat} {f_time f_safe : Int32} {K : xk_T} {L : lo_T} {V : Nat → Int32} (hK : xr_K A K) (hL : lo_I f_safe L A B) (hV : ∀ j, j < 8 → ∃ n : Nat, n ≤ bd ∧ V j = nI n) : ∃ (K2 : xk_T) (L2 : lo_T) (V2 : Nat → Int32), xr_K (ex_A f_time B) K2 ∧ lo_I f_safe L2 (ex_A f_time B) B ∧ (∀ j, j < 8 → ∃ n : Nat, n ≤ bd + 201 ∧ V2 j = nI n) ∧ ∀ {f_turns : Int64} {a_state a_gathered a_answered a_watching a_seen a_cOp a_cKey a_cA a_cB : Nat → Int32} {a_results a_taken : Nat → Int64} {a_waitsFor a_until : Nat → Int32} {a_turn : Nat → Int64} {a_source : Nat → Int32} (post : Int32 → SX → Prop), post (nI (en_C 8 (fun k => decide (0 ≤ k ∧ ¬ (ex_A f_time B k).1 = 0)))) (K2.1, f_time, L2.1, f_safe, L2.2.1, 0, f_turns, K2.2.1, K2.2.2.1, K2.2.2.2.1, K2.2.2.2.2.1, K2.2.2.2.2.2.1, K2.2.2.2.2.2.2.1, V2, K2.2.2.2.2.2.2.2.1, K2.2.2.2.2.2.2.2.2.1, K2.2.2.2.2.2.2.2.2.2, L2.2.2.1, L2.2.2.2.1, L2.2.2.2.2.1, L2.2.2.2.2.2, cr_z 4 0 a_state, a_gathered, cr_z 4 0 a_answered, cr_z 4 0 a_watching, a_seen, a_cOp, a_cKey, a_cA, a_cB, a_results, cr_zL 4 10000000006 a_taken, a_waitsFor, a_until, a_turn, a_source) → wpX_crash post (K.1, f_time, L.1, f_safe, L.2.1, 0, f_turns, K.2.1, K.2.2.1, K.2.2.2.1, K.2.2.2.2.1, K.2.2.2.2.2.1, K.2.2.2.2.2.2.1, V, K.2.2.2.2.2.2.2.1, K.2.2.2.2.2.2.2.2.1, K.2.2.2.2.2.2.2.2.2, L.2.2.1, L.2.2.2.1, L.2.2.2.2.1, L.2.2.2.2.2, a_state, a_gathered, a_answered, a_watching, a_seen, a_cOp, a_cKey, a_cA, a_cB, a_results, a_taken, a_waitsFor, a_until, a_turn, a_source) := by
  obtain ⟨n, m, e1, e2, hmn, hn, hv, hB, _⟩ := hL
  obtain ⟨K1, hK1, W1⟩ := cr_2 8 0 A K (by omega) hK
  have eE : cr_E 0 A = lo_rp L.2.2.1 L.2.2.2.1 L.2.2.2.2.1 L.2.2.2.2.2 0 := by
    funext j
    show (if 0 ≤ j ∧ j < 8 then ak_E else A j) = ak_E
    by_cases z : 0 ≤ j ∧ j < 8
    · rw [if_pos z]
    · rw [if_neg z]; exact hK.1 j (by omega)
  rw [eE] at hK1
  obtain ⟨K3, V3, hK3, hV3, W3⟩ := cr_69 e2 hmn hn hv m 0 bd K1 V (by omega) hK1 hV
  rw [hB] at hK3
  have hL3 : lo_R 0 f_safe (f_safe, 0, L.2.2.1, L.2.2.2.1, L.2.2.2.2.1, L.2.2.2.2.2) B B := Or.inl ⟨rfl, m, m, e2, e2, Nat.le_refl m, by omega, fun i hi => hv i (by omega), hB, fun _ => hB⟩
  obtain ⟨K2, L2, hK2, hL2, W4⟩ := ex_X (f_time := f_time) (ex_n f_time B) 0 B K3 _ V3 rfl hK3 hL3
  refine ⟨K2, L2, xv_u (ex_c f_time B) V3, hK2, ?_, fun j hj => ?_, ?_⟩
  · rcases hL2 with h | h
    · exact h.2
    · exact absurd h (by decide)
  · obtain ⟨x, hx, e⟩ := hV3 j hj
    unfold xv_u
    by_cases z : ex_c f_time B j = true
    · exact ⟨x + 1, by omega, by rw [if_pos z, e, nI_1]⟩
    · exact ⟨x, by omega, by rw [if_neg z, e, Int32.add_zero]⟩
  · intro f_turns a_state a_gathered a_answered a_watching a_seen a_cOp a_cKey a_cA a_cB a_results a_taken a_waitsFor a_until a_turn a_source post hpost
    refine W1 _ ?_
    have hw := cr_21 (post := post) (f_dues := K1.1) (f_time := f_time) (f_logged := L.1) (f_safe := f_safe) (f_broken := L.2.1) (f_silent := 0) (f_turns := f_turns) (a_kind := K1.2.1) (a_first := K1.2.2.1) (a_size := K1.2.2.2.1) (a_number := K1.2.2.2.2.1) (a_ring := K1.2.2.2.2.2.1) (a_score := K1.2.2.2.2.2.2.1) (a_version := V) (a_ranked := K1.2.2.2.2.2.2.2.1) (a_deadline := K1.2.2.2.2.2.2.2.2.1) (a_due := K1.2.2.2.2.2.2.2.2.2) (a_logOp := L.2.2.1) (a_logKey := L.2.2.2.1) (a_logA := L.2.2.2.2.1) (a_logB := L.2.2.2.2.2) (a_state := a_state) (a_gathered := a_gathered) (a_answered := a_answered) (a_watching := a_watching) (a_seen := a_seen) (a_cOp := a_cOp) (a_cKey := a_cKey) (a_cA := a_cA) (a_cB := a_cB) (a_results := a_results) (a_taken := a_taken) (a_waitsFor := a_waitsFor) (a_until := a_until) (a_turn := a_turn) (a_source := a_source) ?_ 4 0 (by omega)
    · rw [cr_z0, cr_z0, cr_z0, cr_zL0] at hw
      exact hw
    · refine W3 _ (fun m' => br_t (by rw [e2]; exact nI_le (Nat.le_refl m) (by omega)) (W4 _ ?_))
      exact cr_139 hK2 8 0 0 (by omega) (by rw [Nat.zero_add]; exact hpost)
end
section
/-! ===== the relation ===== -/
def rl_C (S ga an co ck ca : Nat → Int32) (T : Nat → Int64) (R wf u qu fi se u2 : Nat → Int32) (F : Nat → Int64) : Prop :=
  (∀ c, c < 4 → (S c = 0 ∨ S c = 1 ∨ S c = 2) ∧ (S c = 2 → ∃ n : Nat, n ≤ 8 ∧ ga c = nI n ∧ qu c = nI n ∧ ∀ i, i < n → cm_ok (co (8 * c + i)) (ck (8 * c + i)) (ca (8 * c + i))) ∧ (∃ n : Nat, n ≤ 8 ∧ an c = nI n) ∧ (S c = 1 → ((u c = -1 ∧ u2 c = 0) ∨ (u c = u2 c ∧ 0 < u2 c)))) ∧ sv_W S wf fi se ∧ sv_T T R F
def rl_all (k : Nat) (f_dues f_time f_logged f_safe f_broken f_silent : Int32) (f_turns : Int64) (a_kind a_first a_size a_number a_ring a_score a_version a_ranked a_deadline a_due a_logOp a_logKey a_logA a_logB a_state a_gathered a_answered a_watching a_seen a_cOp a_cKey a_cA a_cB : Nat → Int32) (a_results a_taken : Nat → Int64) (a_waitsFor a_until : Nat → Int32) (a_turn : Nat → Int64) (a_source : Nat → Int32) (g_time : Int32) (g_waited : Int64) (b_kind b_number b_size b_item b_score b_deadline b_state b_first b_second b_until : Nat → Int32) (b_since : Nat → Int64) (b_watched b_deceived b_op b_opKey b_opA b_opB b_queued : Nat → Int32) (b_answers : Nat → Int64) (b_answered : Nat → Int32) (b_took b_tookFrom : Nat → Int64) : Prop :=
  (g_time = f_time ∧ g_waited = f_turns ∧ b_state = a_state ∧ b_since = a_turn ∧ b_op = a_cOp ∧ b_opKey = a_cKey ∧ b_opA = a_cA ∧ b_opB = a_cB ∧ b_answers = a_results ∧ b_answered = a_answered ∧ b_took = a_taken) ∧ f_silent = 0 ∧ (∃ t : Nat, t ≤ 1000000000 ∧ f_time = nI t) ∧ rl_C a_state a_gathered a_answered a_cOp a_cKey a_cA a_taken a_source a_waitsFor a_until b_queued b_first b_second b_until b_tookFrom ∧ ∃ A B : Nat → ak_T, pr_S (64 * k) 0 f_safe a_seen a_watching b_watched A B (f_dues, a_kind, a_first, a_size, a_number, a_ring, a_score, a_ranked, a_deadline, a_due) (f_logged, f_broken, a_logOp, a_logKey, a_logA, a_logB) a_version (b_kind, b_number, b_size, b_item, b_score, b_deadline) b_deceived
def i_Rel (k : Nat) (u : SX) (v : SY) : Prop := rl_all k (u.1) (u.2.1) (u.2.2.1) (u.2.2.2.1) (u.2.2.2.2.1) (u.2.2.2.2.2.1) (u.2.2.2.2.2.2.1) (u.2.2.2.2.2.2.2.1) (u.2.2.2.2.2.2.2.2.1) (u.2.2.2.2.2.2.2.2.2.1) (u.2.2.2.2.2.2.2.2.2.2.1) (u.2.2.2.2.2.2.2.2.2.2.2.1) (u.2.2.2.2.2.2.2.2.2.2.2.2.1) (u.2.2.2.2.2.2.2.2.2.2.2.2.2.1) (u.2.2.2.2.2.2.2.2.2.2.2.2.2.2.1) (u.2.2.2.2.2.2.2.2.2.2.2.2.2.2.2.1) (u.2.2.2.2.2.2.2.2.2.2.2.2.2.2.2.2.1) (u.2.2.2.2.2.2.2.2.2.2.2.2.2.2.2.2.2.1) (u.2.2.2.2.2.2.2.2.2.2.2.2.2.2.2.2.2.2.1) (u.2.2.2.2.2.2.2.2.2.2.2.2.2.2.2.2.2.2.2.1) (u.2.2.2.2.2.2.2.2.2.2.2.2.2.2.2.2.2.2.2.2.1) (u.2.2.2.2.2.2.2.2.2.2.2.2.2.2.2.2.2.2.2.2.2.1) (u.2.2.2.2.2.2.2.2.2.2.2.2.2.2.2.2.2.2.2.2.2.2.1) (u.2.2.2.2.2.2.2.2.2.2.2.2.2.2.2.2.2.2.2.2.2.2.2.1) (u.2.2.2.2.2.2.2.2.2.2.2.2.2.2.2.2.2.2.2.2.2.2.2.2.1) (u.2.2.2.2.2.2.2.2.2.2.2.2.2.2.2.2.2.2.2.2.2.2.2.2.2.1) (u.2.2.2.2.2.2.2.2.2.2.2.2.2.2.2.2.2.2.2.2.2.2.2.2.2.2.1) (u.2.2.2.2.2.2.2.2.2.2.2.2.2.2.2.2.2.2.2.2.2.2.2.2.2.2.2.1) (u.2.2.2.2.2.2.2.2.2.2.2.2.2.2.2.2.2.2.2.2.2.2.2.2.2.2.2.2.1) (u.2.2.2.2.2.2.2.2.2.2.2.2.2.2.2.2.2.2.2.2.2.2.2.2.2.2.2.2.2.1) (u.2.2.2.2.2.2.2.2.2.2.2.2.2.2.2.2.2.2.2.2.2.2.2.2.2.2.2.2.2.2.1) (u.2.2.2.2.2.2.2.2.2.2.2.2.2.2.2.2.2.2.2.2.2.2.2.2.2.2.2.2.2.2.2.1) (u.2.2.2.2.2.2.2.2.2.2.2.2.2.2.2.2.2.2.2.2.2.2.2.2.2.2.2.2.2.2.2.2.1) (u.2.2.2.2.2.2.2.2.2.2.2.2.2.2.2.2.2.2.2.2.2.2.2.2.2.2.2.2.2.2.2.2.2.1) (u.2.2.2.2.2.2.2.2.2.2.2.2.2.2.2.2.2.2.2.2.2.2.2.2.2.2.2.2.2.2.2.2.2.2.1) (u.2.2.2.2.2.2.2.2.2.2.2.2.2.2.2.2.2.2.2.2.2.2.2.2.2.2.2.2.2.2.2.2.2.2.2) (v.1) (v.2.1) (v.2.2.1) (v.2.2.2.1) (v.2.2.2.2.1) (v.2.2.2.2.2.1) (v.2.2.2.2.2.2.1) (v.2.2.2.2.2.2.2.1) (v.2.2.2.2.2.2.2.2.1) (v.2.2.2.2.2.2.2.2.2.1) (v.2.2.2.2.2.2.2.2.2.2.1) (v.2.2.2.2.2.2.2.2.2.2.2.1) (v.2.2.2.2.2.2.2.2.2.2.2.2.1) (v.2.2.2.2.2.2.2.2.2.2.2.2.2.1) (v.2.2.2.2.2.2.2.2.2.2.2.2.2.2.1) (v.2.2.2.2.2.2.2.2.2.2.2.2.2.2.2.1) (v.2.2.2.2.2.2.2.2.2.2.2.2.2.2.2.2.1) (v.2.2.2.2.2.2.2.2.2.2.2.2.2.2.2.2.2.1) (v.2.2.2.2.2.2.2.2.2.2.2.2.2.2.2.2.2.2.1) (v.2.2.2.2.2.2.2.2.2.2.2.2.2.2.2.2.2.2.2.1) (v.2.2.2.2.2.2.2.2.2.2.2.2.2.2.2.2.2.2.2.2.1) (v.2.2.2.2.2.2.2.2.2.2.2.2.2.2.2.2.2.2.2.2.2.1) (v.2.2.2.2.2.2.2.2.2.2.2.2.2.2.2.2.2.2.2.2.2.2.1) (v.2.2.2.2.2.2.2.2.2.2.2.2.2.2.2.2.2.2.2.2.2.2.2)
theorem zz_el {k : Nat} {u : SX} {v : SY} {P : SX → SY → Prop} (h : ∀ {f_dues f_logged f_safe f_broken : Int32} {f_turns : Int64} {a_kind a_first a_size a_number a_ring a_score a_version a_ranked a_deadline a_due a_logOp a_logKey a_logA a_logB a_state a_gathered a_answered a_watching a_seen a_cOp a_cKey a_cA a_cB : Nat → Int32} {a_results a_taken : Nat → Int64} {a_waitsFor a_until : Nat → Int32} {a_turn : Nat → Int64} {a_source : Nat → Int32} {b_kind b_number b_size b_item b_score b_deadline b_first b_second b_until b_watched b_deceived b_queued : Nat → Int32} {b_tookFrom : Nat → Int64} (t : Nat) (A B : Nat → ak_T), t ≤ 1000000000 → rl_C a_state a_gathered a_answered a_cOp a_cKey a_cA a_taken a_source a_waitsFor a_until b_queued b_first b_second b_until b_tookFrom → pr_S (64 * k) 0 f_safe a_seen a_watching b_watched A B (f_dues, a_kind, a_first, a_size, a_number, a_ring, a_score, a_ranked, a_deadline, a_due) (f_logged, f_broken, a_logOp, a_logKey, a_logA, a_logB) a_version (b_kind, b_number, b_size, b_item, b_score, b_deadline) b_deceived → P (f_dues, nI t, f_logged, f_safe, f_broken, 0, f_turns, a_kind, a_first, a_size, a_number, a_ring, a_score, a_version, a_ranked, a_deadline, a_due, a_logOp, a_logKey, a_logA, a_logB, a_state, a_gathered, a_answered, a_watching, a_seen, a_cOp, a_cKey, a_cA, a_cB, a_results, a_taken, a_waitsFor, a_until, a_turn, a_source) (nI t, f_turns, b_kind, b_number, b_size, b_item, b_score, b_deadline, a_state, b_first, b_second, b_until, a_turn, b_watched, b_deceived, a_cOp, a_cKey, a_cA, a_cB, b_queued, a_results, a_answered, a_taken, b_tookFrom)) (I : i_Rel k u v) : P u v := by
  obtain ⟨f_dues, f_time, f_logged, f_safe, f_broken, f_silent, f_turns, a_kind, a_first, a_size, a_number, a_ring, a_score, a_version, a_ranked, a_deadline, a_due, a_logOp, a_logKey, a_logA, a_logB, a_state, a_gathered, a_answered, a_watching, a_seen, a_cOp, a_cKey, a_cA, a_cB, a_results, a_taken, a_waitsFor, a_until, a_turn, a_source⟩ := u
  obtain ⟨g_time, g_waited, b_kind, b_number, b_size, b_item, b_score, b_deadline, b_state, b_first, b_second, b_until, b_since, b_watched, b_deceived, b_op, b_opKey, b_opA, b_opB, b_queued, b_answers, b_answered, b_took, b_tookFrom⟩ := v
  have J : rl_all k f_dues f_time f_logged f_safe f_broken f_silent f_turns a_kind a_first a_size a_number a_ring a_score a_version a_ranked a_deadline a_due a_logOp a_logKey a_logA a_logB a_state a_gathered a_answered a_watching a_seen a_cOp a_cKey a_cA a_cB a_results a_taken a_waitsFor a_until a_turn a_source g_time g_waited b_kind b_number b_size b_item b_score b_deadline b_state b_first b_second b_until b_since b_watched b_deceived b_op b_opKey b_opA b_opB b_queued b_answers b_answered b_took b_tookFrom := I
  obtain ⟨⟨e1, e2, e3, e4, e5, e6, e7, e8, e9, e10, e11⟩, e12, ⟨t, ht, e13⟩, hC, A, B, hS⟩ := J
  subst e1 e2 e3 e4 e5 e6 e7 e8 e9 e10 e11 e12 e13
  exact h t A B ht hC hS
theorem zz_in {k : Nat} {f_dues f_logged f_safe f_broken : Int32} {f_turns : Int64} {a_kind a_first a_size a_number a_ring a_score a_version a_ranked a_deadline a_due a_logOp a_logKey a_logA a_logB a_state a_gathered a_answered a_watching a_seen a_cOp a_cKey a_cA a_cB : Nat → Int32} {a_results a_taken : Nat → Int64} {a_waitsFor a_until : Nat → Int32} {a_turn : Nat → Int64} {a_source : Nat → Int32} {b_kind b_number b_size b_item b_score b_deadline b_first b_second b_until b_watched b_deceived b_queued : Nat → Int32} {b_tookFrom : Nat → Int64} {t : Nat} {A B : Nat → ak_T} (ht : t ≤ 1000000000) (hC : rl_C a_state a_gathered a_answered a_cOp a_cKey a_cA a_taken a_source a_waitsFor a_until b_queued b_first b_second b_until b_tookFrom) (hS : pr_S (64 * k) 0 f_safe a_seen a_watching b_watched A B (f_dues, a_kind, a_first, a_size, a_number, a_ring, a_score, a_ranked, a_deadline, a_due) (f_logged, f_broken, a_logOp, a_logKey, a_logA, a_logB) a_version (b_kind, b_number, b_size, b_item, b_score, b_deadline) b_deceived) : i_Rel k (f_dues, nI t, f_logged, f_safe, f_broken, 0, f_turns, a_kind, a_first, a_size, a_number, a_ring, a_score, a_version, a_ranked, a_deadline, a_due, a_logOp, a_logKey, a_logA, a_logB, a_state, a_gathered, a_answered, a_watching, a_seen, a_cOp, a_cKey, a_cA, a_cB, a_results, a_taken, a_waitsFor, a_until, a_turn, a_source) (nI t, f_turns, b_kind, b_number, b_size, b_item, b_score, b_deadline, a_state, b_first, b_second, b_until, a_turn, b_watched, b_deceived, a_cOp, a_cKey, a_cA, a_cB, b_queued, a_results, a_answered, a_taken, b_tookFrom) :=
  show rl_all k f_dues (nI t) f_logged f_safe f_broken 0 f_turns a_kind a_first a_size a_number a_ring a_score a_version a_ranked a_deadline a_due a_logOp a_logKey a_logA a_logB a_state a_gathered a_answered a_watching a_seen a_cOp a_cKey a_cA a_cB a_results a_taken a_waitsFor a_until a_turn a_source (nI t) f_turns b_kind b_number b_size b_item b_score b_deadline a_state b_first b_second b_until a_turn b_watched b_deceived a_cOp a_cKey a_cA a_cB b_queued a_results a_answered a_taken b_tookFrom from ⟨⟨rfl, rfl, rfl, rfl, rfl, rfl, rfl, rfl, rfl, rfl, rfl⟩, rfl, ⟨t, ht, rfl⟩, hC, A, B, hS⟩
theorem pr_Sb {bd bd' : Nat} {f_silent f_safe : Int32} {sn wx wy : Nat → Int32} {A B : Nat → ak_T} {K : xk_T} {L : lo_T} {V : Nat → Int32} {M : yk_T} {D : Nat → Int32} (h : pr_S bd f_silent f_safe sn wx wy A B K L V M D) (hb : bd ≤ bd') : pr_S bd' f_silent f_safe sn wx wy A B K L V M D := ⟨h.1, h.2.1, h.2.2.1, rl_Vb h.2.2.2 hb⟩
theorem i_up {k : Nat} {u : SX} {v : SY} (h : i_Rel k u v) : i_Rel (k + 6) u v := by
  refine zz_el (P := fun u v => i_Rel (k + 6) u v) ?_ h
  intro f_dues f_logged f_safe f_broken f_turns a_kind a_first a_size a_number a_ring a_score a_version a_ranked a_deadline a_due a_logOp a_logKey a_logA a_logB a_state a_gathered a_answered a_watching a_seen a_cOp a_cKey a_cA a_cB a_results a_taken a_waitsFor a_until a_turn a_source b_kind b_number b_size b_item b_score b_deadline b_first b_second b_until b_watched b_deceived b_queued b_tookFrom t A B ht hC hS
  exact zz_in ht hC (pr_Sb hS (by omega))
end
section
/-! ===== clients: the small calls ===== -/
theorem am_X {p : Int32} {N : Nat} (hN : N < 2 ^ 31) {post : Int32 → Prop} (hy : vp_in p N → post 1) (hn : ¬ vp_in p N → post 0) : wpX_among post p (nI N) := by
  refine br_c (fun h => hn (fun w => w (Or.inl h))) (fun h => br_c (fun h2 => hn (fun w => ?_)) (fun h2 => hy ?_))
  · obtain ⟨j, hj, rfl⟩ := vp_in_of w hN
    exact absurd h2 (nI_ge hj hN)
  · obtain ⟨j, hj, rfl⟩ := nI_of h
    rw [nI_leI hN hj] at h2
    exact vp_in_nI (by omega) hN
theorem am_Y {p : Int32} {N : Nat} (hN : N < 2 ^ 31) {g_time : Int32} {g_waited : Int64} {b_kind b_number b_size b_item b_score b_deadline b_state b_first b_second b_until : Nat → Int32} {b_since : Nat → Int64} {b_watched b_deceived b_op b_opKey b_opA b_opB b_queued : Nat → Int32} {b_answers : Nat → Int64} {b_answered : Nat → Int32} {b_took b_tookFrom : Nat → Int64} {post : Int32 → Prop} (hy : vp_in p N → post 1) (hn : ¬ vp_in p N → post 0) : wpY_among post (g_time, g_waited, b_kind, b_number, b_size, b_item, b_score, b_deadline, b_state, b_first, b_second, b_until, b_since, b_watched, b_deceived, b_op, b_opKey, b_opA, b_opB, b_queued, b_answers, b_answered, b_took, b_tookFrom) p (nI N) := by
  refine br_c (fun h => hn (fun w => w (Or.inl h))) (fun h => br_c (fun h2 => hn (fun w => ?_)) (fun h2 => hy ?_))
  · obtain ⟨j, hj, rfl⟩ := vp_in_of w hN
    exact absurd h2 (nI_ge hj hN)
  · obtain ⟨j, hj, rfl⟩ := nI_of h
    rw [nI_leI hN hj] at h2
    exact vp_in_nI (by omega) hN
theorem am_Xy {p : Int32} (N : Nat) (h : vp_in p N) {post : Int32 → Prop} (hy : post 1) (hN : N < 2 ^ 31 := by omega) : wpX_among post p (nI N) := am_X hN (fun _ => hy) (fun w => absurd h w)
theorem am_Xn {p : Int32} (N : Nat) (h : ¬ vp_in p N) {post : Int32 → Prop} (hy : post 0) (hN : N < 2 ^ 31 := by omega) : wpX_among post p (nI N) := am_X hN (fun w => absurd w h) (fun _ => hy)
theorem am_Yy {p : Int32} (N : Nat) (h : vp_in p N) {g_time : Int32} {g_waited : Int64} {b_kind b_number b_size b_item b_score b_deadline b_state b_first b_second b_until : Nat → Int32} {b_since : Nat → Int64} {b_watched b_deceived b_op b_opKey b_opA b_opB b_queued : Nat → Int32} {b_answers : Nat → Int64} {b_answered : Nat → Int32} {b_took b_tookFrom : Nat → Int64} {post : Int32 → Prop} (hy : post 1) (hN : N < 2 ^ 31 := by omega) : wpY_among post (g_time, g_waited, b_kind, b_number, b_size, b_item, b_score, b_deadline, b_state, b_first, b_second, b_until, b_since, b_watched, b_deceived, b_op, b_opKey, b_opA, b_opB, b_queued, b_answers, b_answered, b_took, b_tookFrom) p (nI N) := am_Y hN (fun _ => hy) (fun w => absurd h w)
theorem am_Yn {p : Int32} (N : Nat) (h : ¬ vp_in p N) {g_time : Int32} {g_waited : Int64} {b_kind b_number b_size b_item b_score b_deadline b_state b_first b_second b_until : Nat → Int32} {b_since : Nat → Int64} {b_watched b_deceived b_op b_opKey b_opA b_opB b_queued : Nat → Int32} {b_answers : Nat → Int64} {b_answered : Nat → Int32} {b_took b_tookFrom : Nat → Int64} {post : Int32 → Prop} (hy : post 0) (hN : N < 2 ^ 31 := by omega) : wpY_among post (g_time, g_waited, b_kind, b_number, b_size, b_item, b_score, b_deadline, b_state, b_first, b_second, b_until, b_since, b_watched, b_deceived, b_op, b_opKey, b_opA, b_opB, b_queued, b_answers, b_answered, b_took, b_tookFrom) p (nI N) := am_Y hN (fun w => absurd w h) (fun _ => hy)
theorem ic_y {c s : Int32} (hc : vp_in c 4) {a_state : Nat → Int32} (hs : a_state c.toNatClampNeg = s) {f_dues f_time f_logged f_safe f_broken f_silent : Int32} {f_turns : Int64} {a_kind a_first a_size a_number a_ring a_score a_version a_ranked a_deadline a_due a_logOp a_logKey a_logA a_logB a_gathered a_answered a_watching a_seen a_cOp a_cKey a_cA a_cB : Nat → Int32} {a_results a_taken : Nat → Int64} {a_waitsFor a_until : Nat → Int32} {a_turn : Nat → Int64} {a_source : Nat → Int32} {post : Int32 → Prop} (hp : post 1) : wpX_isClient post (f_dues, f_time, f_logged, f_safe, f_broken, f_silent, f_turns, a_kind, a_first, a_size, a_number, a_ring, a_score, a_version, a_ranked, a_deadline, a_due, a_logOp, a_logKey, a_logA, a_logB, a_state, a_gathered, a_answered, a_watching, a_seen, a_cOp, a_cKey, a_cA, a_cB, a_results, a_taken, a_waitsFor, a_until, a_turn, a_source) c s := by
  unfold wpX_isClient
  exact am_Xy 4 hc (br_f (by decide) (And.intro hc (br_t hs hp)))
theorem ic_n {c s : Int32} {a_state : Nat → Int32} (h : ¬ (vp_in c 4 ∧ a_state c.toNatClampNeg = s)) {f_dues f_time f_logged f_safe f_broken f_silent : Int32} {f_turns : Int64} {a_kind a_first a_size a_number a_ring a_score a_version a_ranked a_deadline a_due a_logOp a_logKey a_logA a_logB a_gathered a_answered a_watching a_seen a_cOp a_cKey a_cA a_cB : Nat → Int32} {a_results a_taken : Nat → Int64} {a_waitsFor a_until : Nat → Int32} {a_turn : Nat → Int64} {a_source : Nat → Int32} {post : Int32 → Prop} (hp : post 0) : wpX_isClient post (f_dues, f_time, f_logged, f_safe, f_broken, f_silent, f_turns, a_kind, a_first, a_size, a_number, a_ring, a_score, a_version, a_ranked, a_deadline, a_due, a_logOp, a_logKey, a_logA, a_logB, a_state, a_gathered, a_answered, a_watching, a_seen, a_cOp, a_cKey, a_cA, a_cB, a_results, a_taken, a_waitsFor, a_until, a_turn, a_source) c s := by
  unfold wpX_isClient
  by_cases hc : vp_in c 4
  · exact am_Xy 4 hc (br_f (by decide) (And.intro hc (br_f (fun e => h ⟨hc, e⟩) hp)))
  · exact am_Xn 4 hc (br_t rfl hp)
theorem rd_y {c : Int32} (hc : vp_in c 4) {b_state : Nat → Int32} (hs : b_state c.toNatClampNeg = 0) {g_time : Int32} {g_waited : Int64} {b_kind b_number b_size b_item b_score b_deadline b_first b_second b_until : Nat → Int32} {b_since : Nat → Int64} {b_watched b_deceived b_op b_opKey b_opA b_opB b_queued : Nat → Int32} {b_answers : Nat → Int64} {b_answered : Nat → Int32} {b_took b_tookFrom : Nat → Int64} {post : Int32 → Prop} (hp : post 1) : wpY_ready post (g_time, g_waited, b_kind, b_number, b_size, b_item, b_score, b_deadline, b_state, b_first, b_second, b_until, b_since, b_watched, b_deceived, b_op, b_opKey, b_opA, b_opB, b_queued, b_answers, b_answered, b_took, b_tookFrom) c := by
  unfold wpY_ready
  exact am_Yy 4 hc (br_f (by decide) (And.intro hc (br_t hs hp)))
theorem rd_n {c : Int32} {b_state : Nat → Int32} (h : ¬ (vp_in c 4 ∧ b_state c.toNatClampNeg = 0)) {g_time : Int32} {g_waited : Int64} {b_kind b_number b_size b_item b_score b_deadline b_first b_second b_until : Nat → Int32} {b_since : Nat → Int64} {b_watched b_deceived b_op b_opKey b_opA b_opB b_queued : Nat → Int32} {b_answers : Nat → Int64} {b_answered : Nat → Int32} {b_took b_tookFrom : Nat → Int64} {post : Int32 → Prop} (hp : post 0) : wpY_ready post (g_time, g_waited, b_kind, b_number, b_size, b_item, b_score, b_deadline, b_state, b_first, b_second, b_until, b_since, b_watched, b_deceived, b_op, b_opKey, b_opA, b_opB, b_queued, b_answers, b_answered, b_took, b_tookFrom) c := by
  unfold wpY_ready
  by_cases hc : vp_in c 4
  · exact am_Yy 4 hc (br_f (by decide) (And.intro hc (br_f (fun e => h ⟨hc, e⟩) hp)))
  · exact am_Yn 4 hc (br_t rfl hp)
/-! begin -/
theorem bg_C {c : Nat} (hc : c < 4) {S ga an co ck ca : Nat → Int32} {T : Nat → Int64} {R wf u qu fi se u2 : Nat → Int32} {F : Nat → Int64} (h : rl_C S ga an co ck ca T R wf u qu fi se u2 F) : rl_C (upd S c 2) (upd ga c 0) an co ck ca T R wf u (upd qu c 0) fi se u2 F := by
  obtain ⟨h1, h2, h3⟩ := h
  refine ⟨fun i hi => ?_, sv_W1 h2 c (by decide), h3⟩
  obtain ⟨a1, a2, a3, a4⟩ := h1 i hi
  by_cases z : i = c
  · subst z
    rw [pk_us, pk_us, pk_us]
    exact ⟨Or.inr (Or.inr rfl), fun _ => ⟨0, by omega, rfl, rfl, fun j hj => by omega⟩, a3, fun e => absurd e (by decide)⟩
  · rw [pk_un z, pk_un z, pk_un z]; exact ⟨a1, a2, a3, a4⟩
theorem i_vc_begin {k : Nat} {u : SX} {v : SY} (I : i_Rel k u v) (hk : k + 6 ≤ 3072) (v1 : Int32) : wpX_begin (fun r u' => wpY_begin (fun r' v' => r' = r ∧ i_Rel (k + 6) u' v') v v1) u v1 := by
  refine zz_el (P := fun u v => wpX_begin (fun r u' => wpY_begin (fun r' v' => r' = r ∧ i_Rel (k + 6) u' v') v v1) u v1) ?_ I
  intro f_dues f_logged f_safe f_broken f_turns a_kind a_first a_size a_number a_ring a_score a_version a_ranked a_deadline a_due a_logOp a_logKey a_logA a_logB a_state a_gathered a_answered a_watching a_seen a_cOp a_cKey a_cA a_cB a_results a_taken a_waitsFor a_until a_turn a_source b_kind b_number b_size b_item b_score b_deadline b_first b_second b_until b_watched b_deceived b_queued b_tookFrom t A B ht hC hS
  by_cases h : vp_in v1 4 ∧ a_state v1.toNatClampNeg = 0
  · obtain ⟨hc, hs⟩ := h
    unfold wpX_begin
    refine ic_y hc hs (br_f (by decide) (And.intro hc (nm_r (e' := upd a_state v1.toNatClampNeg 2) (by rw [nu_b2]) (And.intro hc (nm_r (e' := upd a_gathered v1.toNatClampNeg 0) (by rw [nu_b0]) ?_)))))
    unfold wpY_begin
    exact rd_y hc hs (br_f (by decide) (And.intro hc (nm_e (And.intro hc (nm_e ⟨rfl, zz_in ht (bg_C (nu_key hc (by omega)).2 hC) (pr_Sb hS (by omega))⟩)))))
  · unfold wpX_begin
    refine ic_n h (br_t rfl ?_)
    unfold wpY_begin
    exact rd_n h (br_t rfl ⟨rfl, zz_in ht hC (pr_Sb hS (by omega))⟩)
/-! cancel -/
theorem yb_0 : ∀ j, j < 8 → ¬ yb_t 0 (nI j) := by decide +kernel
theorem rl_Vz {bd c : Nat} {V sn wx wy D : Nat → Int32} (h : rl_V bd V sn wx wy D) : rl_V bd V sn (upd wx c 0) (upd wy c 0) (upd D c 0) := by
  obtain ⟨h1, h2⟩ := h
  refine ⟨h1, fun i hi => ?_⟩
  by_cases z : i = c
  · subst z
    rw [pk_us, pk_us, pk_us]
    exact ⟨fun j hj => Iff.rfl, fun j hj w => absurd w (yb_0 j hj), Or.inl rfl, ⟨fun e => absurd e (by decide), fun ⟨j, hj, w, _⟩ => absurd w (yb_0 j hj)⟩⟩
  · rw [pk_un z, pk_un z, pk_un z]; exact h2 i hi
theorem cn_C {c : Nat} {S ga an co ck ca : Nat → Int32} {T : Nat → Int64} {R wf u qu fi se u2 : Nat → Int32} {F : Nat → Int64} (h : rl_C S ga an co ck ca T R wf u qu fi se u2 F) : rl_C (upd S c 0) ga an co ck ca T R wf u (upd qu c 0) fi se u2 F := by
  obtain ⟨h1, h2, h3⟩ := h
  refine ⟨fun i hi => ?_, sv_W1 h2 c (by decide), h3⟩
  obtain ⟨a1, a2, a3, a4⟩ := h1 i hi
  by_cases z : i = c
  · subst z
    rw [pk_us, pk_us]
    exact ⟨Or.inl rfl, fun e => absurd e (by decide), a3, fun e => absurd e (by decide)⟩
  · rw [pk_un z, pk_un z]; exact ⟨a1, a2, a3, a4⟩
theorem i_vc_cancel {k : Nat} {u : SX} {v : SY} (I : i_Rel k u v) (hk : k + 6 ≤ 3072) (v1 : Int32) : wpX_cancel (fun r u' => wpY_cancel (fun r' v' => r' = r ∧ i_Rel (k + 6) u' v') v v1) u v1 := by
  refine zz_el (P := fun u v => wpX_cancel (fun r u' => wpY_cancel (fun r' v' => r' = r ∧ i_Rel (k + 6) u' v') v v1) u v1) ?_ I
  intro f_dues f_logged f_safe f_broken f_turns a_kind a_first a_size a_number a_ring a_score a_version a_ranked a_deadline a_due a_logOp a_logKey a_logA a_logB a_state a_gathered a_answered a_watching a_seen a_cOp a_cKey a_cA a_cB a_results a_taken a_waitsFor a_until a_turn a_source b_kind b_number b_size b_item b_score b_deadline b_first b_second b_until b_watched b_deceived b_queued b_tookFrom t A B ht hC hS
  unfold wpX_cancel
  by_cases hc : vp_in v1 4
  · refine am_Xy 4 hc (br_f (by decide) (And.intro hc ?_))
    by_cases hs : a_state v1.toNatClampNeg = 1
    · refine br_t hs ?_
      unfold wpY_cancel
      exact am_Yy 4 hc (br_f (by decide) (And.intro hc (br_t hs ⟨rfl, zz_in ht hC (pr_Sb hS (by omega))⟩)))
    · refine br_f hs (And.intro hc (nm_r (e' := upd a_state v1.toNatClampNeg 0) (by rw [nu_b0]) (And.intro hc (nm_r (e' := upd a_watching v1.toNatClampNeg 0) (by rw [nu_b0]) ?_))))
      unfold wpY_cancel
      exact am_Yy 4 hc (br_f (by decide) (And.intro hc (br_f hs (cr_uw hc ⟨rfl, zz_in ht (cn_C hC) ⟨hS.1, hS.2.1, hS.2.2.1, rl_Vz (rl_Vb hS.2.2.2 (by omega))⟩⟩))))
  · refine am_Xn 4 hc (br_t rfl ?_)
    unfold wpY_cancel
    exact am_Yn 4 hc (br_t rfl ⟨rfl, zz_in ht hC (pr_Sb hS (by omega))⟩)
/-! result, got -/
theorem i_vc_result {k : Nat} {u : SX} {v : SY} (I : i_Rel k u v) (hk : k + 6 ≤ 3072) (v1 : Int32) (v2 : Int32) : wpX_result (fun r => wpY_result (fun r' => r' = r ∧ i_Rel (k + 6) u v) v v1 v2) u v1 v2 := by
  refine zz_el (P := fun u v => wpX_result (fun r => wpY_result (fun r' => r' = r ∧ i_Rel (k + 6) u v) v v1 v2) u v1 v2) ?_ I
  intro f_dues f_logged f_safe f_broken f_turns a_kind a_first a_size a_number a_ring a_score a_version a_ranked a_deadline a_due a_logOp a_logKey a_logA a_logB a_state a_gathered a_answered a_watching a_seen a_cOp a_cKey a_cA a_cB a_results a_taken a_waitsFor a_until a_turn a_source b_kind b_number b_size b_item b_score b_deadline b_first b_second b_until b_watched b_deceived b_queued b_tookFrom t A B ht hC hS
  unfold wpX_result
  by_cases hc : vp_in v1 4
  · obtain ⟨n, hn, en⟩ := (hC.1 _ (nu_key hc (by omega)).2).2.2.1
    refine am_Xy 4 hc (br_f (by decide) (And.intro hc ?_))
    rw [en]
    by_cases h2 : vp_in v2 n
    · obtain ⟨j, hj, rfl⟩ := vp_in_of h2 (by omega)
      refine am_Xy n h2 (br_f (by decide) (And.intro (nu_8x hc (by omega)) ?_))
      unfold wpY_result
      refine am_Yy 4 hc (br_f (by decide) (And.intro hc ?_))
      rw [en]
      exact am_Yy n h2 (br_f (by decide) (And.intro (nu_8x hc (by omega)) ⟨rfl, zz_in ht hC (pr_Sb hS (by omega))⟩))
    · refine am_Xn n h2 (br_t rfl ?_)
      unfold wpY_result
      refine am_Yy 4 hc (br_f (by decide) (And.intro hc ?_))
      rw [en]
      exact am_Yn n h2 (br_t rfl ⟨rfl, zz_in ht hC (pr_Sb hS (by omega))⟩)
  · refine am_Xn 4 hc (br_t rfl ?_)
    unfold wpY_result
    exact am_Yn 4 hc (br_t rfl ⟨rfl, zz_in ht hC (pr_Sb hS (by omega))⟩)
theorem i_vc_got {k : Nat} {u : SX} {v : SY} (I : i_Rel k u v) (hk : k + 6 ≤ 3072) (v1 : Int32) (v2 : Int32) : wpX_got (fun r => wpY_got (fun r' => r' = r ∧ i_Rel (k + 6) u v) v v1 v2) u v1 v2 := by
  refine zz_el (P := fun u v => wpX_got (fun r => wpY_got (fun r' => r' = r ∧ i_Rel (k + 6) u v) v v1 v2) u v1 v2) ?_ I
  intro f_dues f_logged f_safe f_broken f_turns a_kind a_first a_size a_number a_ring a_score a_version a_ranked a_deadline a_due a_logOp a_logKey a_logA a_logB a_state a_gathered a_answered a_watching a_seen a_cOp a_cKey a_cA a_cB a_results a_taken a_waitsFor a_until a_turn a_source b_kind b_number b_size b_item b_score b_deadline b_first b_second b_until b_watched b_deceived b_queued b_tookFrom t A B ht hC hS
  unfold wpX_got
  by_cases hc : vp_in v1 4
  · have kc := (nu_key hc (by omega)).2
    refine am_Xy 4 hc (br_f (by decide) ?_)
    by_cases h0 : v2 = 0
    · subst h0
      refine br_f (by decide) (br_f (by decide) (br_t rfl (And.intro hc ?_)))
      unfold wpY_got
      exact am_Yy 4 hc (br_f (by decide) (br_t rfl (And.intro hc ⟨rfl, zz_in ht hC (pr_Sb hS (by omega))⟩)))
    · by_cases h1 : v2 = 1
      · subst h1
        refine br_f (by decide) (br_f (by decide) (br_f (by decide) (br_t rfl (And.intro hc ?_))))
        unfold wpY_got
        exact am_Yy 4 hc (br_f (by decide) (br_f (by decide) (br_t rfl (And.intro hc ⟨rfl, zz_in ht hC (pr_Sb hS (by omega))⟩))))
      · by_cases h2 : v2 = 2
        · subst h2
          refine br_f (by decide) (br_f (by decide) (br_f (by decide) (br_f (by decide) (br_t rfl (And.intro hc ?_)))))
          rcases hC.2.2 _ kc with ⟨e1, e2⟩ | ⟨e1, e2⟩
          · refine br_t e1 ?_
            unfold wpY_got
            exact am_Yy 4 hc (br_f (by decide) (br_f (by decide) (br_f (by decide) (br_t rfl (And.intro hc ⟨e2, zz_in ht hC (pr_Sb hS (by omega))⟩)))))
          · refine br_f e1 (And.intro hc ?_)
            unfold wpY_got
            exact am_Yy 4 hc (br_f (by decide) (br_f (by decide) (br_f (by decide) (br_t rfl (And.intro hc ⟨e2, zz_in ht hC (pr_Sb hS (by omega))⟩)))))
        · by_cases h3 : v2 = 3
          · subst h3
            refine br_f (by decide) (br_f (by decide) (br_f (by decide) (br_f (by decide) (br_f (by decide) (br_t rfl (And.intro hc ?_))))))
            by_cases hs : a_state v1.toNatClampNeg = 1
            · refine br_t hs (And.intro hc ?_)
              rcases (hC.1 _ kc).2.2.2 hs with ⟨e1, e2⟩ | ⟨e1, e2⟩
              · refine br_t e1 ?_
                unfold wpY_got
                exact am_Yy 4 hc (br_f (by decide) (br_f (by decide) (br_f (by decide) (br_f (by decide) (br_t rfl (And.intro hc (br_t hs (And.intro hc (br_t (by rw [e2]; decide) ⟨rfl, zz_in ht hC (pr_Sb hS (by omega))⟩)))))))))
              · refine br_f (fun e => by rw [← e1, e] at e2; exact absurd e2 (by decide)) (And.intro hc ?_)
                unfold wpY_got
                exact am_Yy 4 hc (br_f (by decide) (br_f (by decide) (br_f (by decide) (br_f (by decide) (br_t rfl (And.intro hc (br_t hs (And.intro hc (br_f (Int32.not_le.mpr e2) (And.intro hc ⟨by rw [e1], zz_in ht hC (pr_Sb hS (by omega))⟩))))))))))
            · refine br_f hs ?_
              unfold wpY_got
              exact am_Yy 4 hc (br_f (by decide) (br_f (by decide) (br_f (by decide) (br_f (by decide) (br_t rfl (And.intro hc (br_f hs ⟨rfl, zz_in ht hC (pr_Sb hS (by omega))⟩)))))))
          · have hY : wpY_got (fun r' => r' = 10000000006 ∧ i_Rel (k + 6) (f_dues, nI t, f_logged, f_safe, f_broken, 0, f_turns, a_kind, a_first, a_size, a_number, a_ring, a_score, a_version, a_ranked, a_deadline, a_due, a_logOp, a_logKey, a_logA, a_logB, a_state, a_gathered, a_answered, a_watching, a_seen, a_cOp, a_cKey, a_cA, a_cB, a_results, a_taken, a_waitsFor, a_until, a_turn, a_source) (nI t, f_turns, b_kind, b_number, b_size, b_item, b_score, b_deadline, a_state, b_first, b_second, b_until, a_turn, b_watched, b_deceived, a_cOp, a_cKey, a_cA, a_cB, b_queued, a_results, a_answered, a_taken, b_tookFrom)) (nI t, f_turns, b_kind, b_number, b_size, b_item, b_score, b_deadline, a_state, b_first, b_second, b_until, a_turn, b_watched, b_deceived, a_cOp, a_cKey, a_cA, a_cB, b_queued, a_results, a_answered, a_taken, b_tookFrom) v1 v2 := by
              unfold wpY_got
              exact am_Yy 4 hc (br_f (by decide) (br_f h0 (br_f h1 (br_f h2 (br_f h3 ⟨rfl, zz_in ht hC (pr_Sb hS (by omega))⟩)))))
            exact br_c (fun _ => hY) (fun _ => br_c (fun _ => hY) (fun _ => br_f h0 (br_f h1 (br_f h2 (br_f h3 trivial)))))
  · refine am_Xn 4 hc (br_t rfl ?_)
    unfold wpY_got
    exact am_Yn 4 hc (br_t rfl ⟨rfl, zz_in ht hC (pr_Sb hS (by omega))⟩)
end
section
/-! ===== watch ===== -/
theorem bp_b (x : Int32) : x.toInt8.toInt32 &&& 255 = x &&& 255 := by
  apply Int32.toBitVec_inj.mp
  rw [Int32.toBitVec_and, Int32.toBitVec_and, Int8.toBitVec_toInt32, Int32.toBitVec_toInt8]
  apply BitVec.eq_of_getLsbD_eq
  intro i hi
  rw [BitVec.getLsbD_and, BitVec.getLsbD_and]
  have hm : ∀ i < 32, 8 ≤ i → (255 : Int32).toBitVec.getLsbD i = false := by decide
  rcases Nat.lt_or_ge i 8 with z | z
  · rw [BitVec.getLsbD_signExtend, BitVec.getLsbD_signExtend, if_pos z, if_pos hi]
    simp only [z, hi, decide_true, Bool.true_and]
  · rw [hm i hi z]; simp
theorem yb_b1 : ∀ i, i < 32 → bt 1 i = decide (i = 0) := by decide +kernel
theorem yb_bt {w : Int32} {j : Nat} (hj : j < 32) : yb_t w (nI j) ↔ bt w j = true := by
  have h0 : bt ((w >>> (nI j &&& 31)) &&& 1) 0 = bt w j := by
    rw [b_and, b_sshr j hj w (by omega), if_pos (by omega), Nat.add_zero, yb_b1 0 (by omega)]
    exact Bool.and_true _
  refine ⟨fun e => ?_, fun h => ?_⟩
  · have e : ((w >>> (nI j &&& 31)) &&& 1) = 1 := e
    rw [e, yb_b1 0 (by omega)] at h0
    exact h0.symm
  · show ((w >>> (nI j &&& 31)) &&& 1) = 1
    refine b_ext (fun i hi => ?_)
    rcases Nat.eq_zero_or_pos i with z | z
    · rw [z, h0, h, yb_b1 0 (by omega)]; rfl
    · rw [b_and, yb_b1 i hi, decide_eq_false (by omega)]; exact Bool.and_false _
theorem yb_z {w p : Int32} : ((w >>> (p &&& 31)) &&& 1) = 0 ↔ ¬ yb_t w p := by
  refine ⟨fun e h => ?_, fun h => ?_⟩
  · have h : ((w >>> (p &&& 31)) &&& 1) = 1 := h
    rw [e] at h
    exact absurd h (by decide)
  · obtain ⟨i, hi, e⟩ := pk_andE (w >>> (p &&& 31)) (m := 1) 1 (by decide)
    rcases (by omega : i = 0 ∨ i = 1) with z | z
    · rw [e, z]; rfl
    · rw [z] at e; exact absurd e h
theorem yb_sl : ∀ k, k < 8 → ∀ j, j < 8 → bt ((1 : Int32) <<< (nI k &&& 31)) j = decide (j = k) := by decide +kernel
theorem yb_or {w : Int32} {k j : Nat} (hk : k < 8) (hj : j < 8) : yb_t (w ||| ((1 : Int32) <<< (nI k &&& 31))) (nI j) ↔ (yb_t w (nI j) ∨ j = k) := by
  rw [yb_bt (by omega), yb_bt (by omega), b_or, yb_sl k hk j hj, Bool.or_eq_true, decide_eq_true_iff]
theorem yb_8 {x : Int32} {j : Nat} (hj : j < 8) : yb_t x.toInt8.toInt32 (nI j) ↔ yb_t x (nI j) := by
  have := congrArg (fun y => bt y j) (bp_b x)
  rw [b_and, b_and, b_255, decide_eq_true hj, Bool.and_true, Bool.and_true] at this
  rw [yb_bt (by omega), yb_bt (by omega), this]
theorem wt_V {bd c k : Nat} (hk : k < 8) {V sn wx wy D : Nat → Int32} (h : rl_V bd V sn wx wy D) {sn' : Nat → Int32} (hc4 : c < 4) (h1 : ¬ yb_t (wx c) (nI k) → sn' = upd sn (8 * c + k) (V k)) (h2 : yb_t (wx c) (nI k) → sn' = sn) : rl_V bd V sn' (upd wx c (wx c ||| ((1 : Int32) <<< (nI k &&& 31))).toInt8.toInt32) (upd wy c (wy c ||| ((1 : Int32) <<< (nI k &&& 31)))) D := by
  obtain ⟨a1, a2⟩ := h
  refine ⟨a1, fun i hi => ?_⟩
  obtain ⟨b1, b2, b3, b4⟩ := a2 i hi
  by_cases z : i = c
  · subst z
    have hsn : ∀ j, j < 8 → yb_t (wy i) (nI j) → sn' (8 * i + j) = sn (8 * i + j) := fun j hj hw => by
      by_cases y : yb_t (wx i) (nI k)
      · rw [h2 y]
      · have : j ≠ k := fun e => y (by rw [← e]; exact (b1 j hj).mpr hw)
        rw [h1 y, pk_un (by omega)]
    have hsk : ¬ yb_t (wx i) (nI k) → sn' (8 * i + k) = V k := fun y => by rw [h1 y, pk_us]
    rw [pk_us, pk_us]
    refine ⟨fun j hj => ?_, fun j hj hw => ?_, b3, ?_⟩
    · rw [yb_8 hj, yb_or hk hj, yb_or hk hj, b1 j hj]
    · rw [yb_or hk hj] at hw
      by_cases y : yb_t (wy i) (nI j)
      · rw [hsn j hj y]; exact b2 j hj y
      · have e := hw.resolve_left y
        subst e
        obtain ⟨n, hn, en⟩ := a1 j hj
        exact ⟨n, n, Nat.le_refl n, hn, by rw [hsk (fun q => y ((b1 j hj).mp q)), en], en⟩
    · rw [b4]
      refine ⟨fun ⟨j, hj, hw, hd⟩ => ⟨j, hj, (yb_or hk hj).mpr (Or.inl hw), by rw [hsn j hj hw]; exact hd⟩, fun ⟨j, hj, hw, hd⟩ => ?_⟩
      rw [yb_or hk hj] at hw
      by_cases y : yb_t (wy i) (nI j)
      · exact ⟨j, hj, y, by rw [hsn j hj y] at hd; exact hd⟩
      · have e := hw.resolve_left y
        subst e
        exact absurd (hsk (fun q => y ((b1 j hj).mp q))) hd
  · have hsn : ∀ j, j < 8 → sn' (8 * i + j) = sn (8 * i + j) := fun j hj => by
      by_cases y : yb_t (wx c) (nI k)
      · rw [h2 y]
      · rw [h1 y, pk_un (by omega)]
    rw [pk_un z, pk_un z]
    refine ⟨b1, fun j hj hw => by rw [hsn j hj]; exact b2 j hj hw, b3, ?_⟩
    rw [b4]
    exact ⟨fun ⟨j, hj, hw, hd⟩ => ⟨j, hj, hw, by rw [hsn j hj]; exact hd⟩, fun ⟨j, hj, hw, hd⟩ => ⟨j, hj, hw, by rw [hsn j hj] at hd; exact hd⟩⟩
theorem i_vc_watch {k : Nat} {u : SX} {v : SY} (I : i_Rel k u v) (hk : k + 6 ≤ 3072) (v1 : Int32) (v2 : Int32) : wpX_watch (fun r u' => wpY_watch (fun r' v' => r' = r ∧ i_Rel (k + 6) u' v') v v1 v2) u v1 v2 := by
  refine zz_el (P := fun u v => wpX_watch (fun r u' => wpY_watch (fun r' v' => r' = r ∧ i_Rel (k + 6) u' v') v v1 v2) u v1 v2) ?_ I
  intro f_dues f_logged f_safe f_broken f_turns a_kind a_first a_size a_number a_ring a_score a_version a_ranked a_deadline a_due a_logOp a_logKey a_logA a_logB a_state a_gathered a_answered a_watching a_seen a_cOp a_cKey a_cA a_cB a_results a_taken a_waitsFor a_until a_turn a_source b_kind b_number b_size b_item b_score b_deadline b_first b_second b_until b_watched b_deceived b_queued b_tookFrom t A B ht hC hS
  unfold wpX_watch
  by_cases h : vp_in v1 4 ∧ a_state v1.toNatClampNeg = 0
  · obtain ⟨hc, hs⟩ := h
    have kc := (nu_key hc (by omega)).2
    by_cases h2 : vp_in v2 8
    · obtain ⟨j, hj, rfl⟩ := vp_in_of h2 (by omega)
      refine ic_y hc hs (br_f (by decide) (am_Xy 8 h2 (br_f (by decide) (And.intro hc ?_))))
      have cj : (nI j).toNatClampNeg = j := nI_clamp (by omega)
      by_cases hb : yb_t (a_watching v1.toNatClampNeg) (nI j)
      · refine br_f (fun e => yb_z.mp e hb) (And.intro hc (And.intro hc (nm_r (by rw [pk_vb]) ?_)))
        unfold wpY_watch
        exact rd_y hc hs (br_f (by decide) (am_Yy 8 h2 (br_f (by decide) (And.intro hc (And.intro hc (nm_e ⟨rfl, zz_in ht hC ⟨hS.1, hS.2.1, hS.2.2.1, wt_V hj (rl_Vb hS.2.2.2 (by omega)) kc (fun y => absurd hb y) (fun _ => rfl)⟩⟩))))))
      · refine br_t (yb_z.mpr hb) (And.intro h2 (And.intro (nu_8x hc hj) (nm_r (e' := upd a_seen (8 * v1.toNatClampNeg + j) (a_version j)) (by rw [nu_8c hc (by omega), cj]) (And.intro hc (And.intro hc (nm_r (by rw [pk_vb]) ?_))))))
        unfold wpY_watch
        exact rd_y hc hs (br_f (by decide) (am_Yy 8 h2 (br_f (by decide) (And.intro hc (And.intro hc (nm_e ⟨rfl, zz_in ht hC ⟨hS.1, hS.2.1, hS.2.2.1, wt_V hj (rl_Vb hS.2.2.2 (by omega)) kc (fun _ => rfl) (fun y => absurd y hb)⟩⟩))))))
    · refine ic_y hc hs (br_f (by decide) (am_Xn 8 h2 (br_t rfl ?_)))
      unfold wpY_watch
      exact rd_y hc hs (br_f (by decide) (am_Yn 8 h2 (br_t rfl ⟨rfl, zz_in ht hC (pr_Sb hS (by omega))⟩)))
  · refine ic_n h (br_t rfl ?_)
    unfold wpY_watch
    exact rd_n h (br_t rfl ⟨rfl, zz_in ht hC (pr_Sb hS (by omega))⟩)
end
section
/-! ===== looking ===== -/
theorem lk_Y {bd : Nat} {f_silent f_safe : Int32} {sn wx wy : Nat → Int32} {A B : Nat → ak_T} {K : xk_T} {L : lo_T} {V : Nat → Int32} {M : yk_T} {D : Nat → Int32} (h : pr_S bd f_silent f_safe sn wx wy A B K L V M D) {k : Nat} (hk : k < 8) : yr_1 k (A k) M.1 M.2.1 M.2.2.1 M.2.2.2.1 M.2.2.2.2.1 M.2.2.2.2.2 := by
  have := (h.2.2.1 k (by omega)).2
  rw [ab_lo hk] at this
  exact this
theorem lk_d {bd : Nat} {f_silent f_safe : Int32} {sn wx wy : Nat → Int32} {A B : Nat → ak_T} {K : xk_T} {L : lo_T} {V : Nat → Int32} {M : yk_T} {D : Nat → Int32} (h : pr_S bd f_silent f_safe sn wx wy A B K L V M D) {k : Nat} (hk : k < 8) : K.2.2.2.2.2.2.2.2.1 k = ak_dl (A k) := by
  obtain ⟨n, g, _, _, _, _, hl⟩ := h.1.2.2
  exact hl k hk
theorem i_vc_ask {k : Nat} {u : SX} {v : SY} (I : i_Rel k u v) (hk : k + 6 ≤ 3072) (v1 : Int32) (v2 : Int32) : wpX_ask (fun r => wpY_ask (fun r' => r' = r ∧ i_Rel (k + 6) u v) v v1 v2) u v1 v2 := by
  refine zz_el (P := fun u v => wpX_ask (fun r => wpY_ask (fun r' => r' = r ∧ i_Rel (k + 6) u v) v v1 v2) u v1 v2) ?_ I
  intro f_dues f_logged f_safe f_broken f_turns a_kind a_first a_size a_number a_ring a_score a_version a_ranked a_deadline a_due a_logOp a_logKey a_logA a_logB a_state a_gathered a_answered a_watching a_seen a_cOp a_cKey a_cA a_cB a_results a_taken a_waitsFor a_until a_turn a_source b_kind b_number b_size b_item b_score b_deadline b_first b_second b_until b_watched b_deceived b_queued b_tookFrom t A B ht hC hS
  unfold wpX_ask
  by_cases hp : vp_in v1 8
  · have kp := (nu_key hp (by omega)).2
    have p16 := nu_up hp (M := 16) (by omega) (by omega)
    obtain ⟨Gp, x1, x2, x3, _⟩ := hS.1.2.1 _ kp
    obtain ⟨y1, y2, y3, y4, _⟩ := lk_Y hS kp
    have xd := lk_d hS kp
    dsimp only at x1 x2 x3 y1 y2 y3 y4 xd
    obtain ⟨z1, z2, z3⟩ := yr_dz (ak_Gd Gp)
    refine am_Xy 8 hp (br_f (by decide) ?_)
    by_cases h0 : v2 = 0
    · subst h0
      refine br_f (by decide) (br_f (by decide) (br_t rfl (And.intro hp ?_)))
      unfold wpY_ask
      exact am_Yy 8 hp (br_f (by decide) (am_Yy (p := 0) 4 (vp_in_nI (n := 0) (by omega) (by omega)) (br_f (by decide) (br_f (by decide) (br_t rfl (And.intro p16 ⟨y1.trans x1.symm, zz_in ht hC (pr_Sb hS (by omega))⟩))))))
    · by_cases h1 : v2 = 1
      · subst h1
        refine br_f (by decide) (br_f (by decide) (br_f (by decide) (br_t rfl (And.intro hp ?_))))
        have hY : ∀ r, (A v1.toNatClampNeg).2.1 = r → wpY_ask (fun r' => r' = r ∧ i_Rel (k + 6) (f_dues, nI t, f_logged, f_safe, f_broken, 0, f_turns, a_kind, a_first, a_size, a_number, a_ring, a_score, a_version, a_ranked, a_deadline, a_due, a_logOp, a_logKey, a_logA, a_logB, a_state, a_gathered, a_answered, a_watching, a_seen, a_cOp, a_cKey, a_cA, a_cB, a_results, a_taken, a_waitsFor, a_until, a_turn, a_source) (nI t, f_turns, b_kind, b_number, b_size, b_item, b_score, b_deadline, a_state, b_first, b_second, b_until, a_turn, b_watched, b_deceived, a_cOp, a_cKey, a_cA, a_cB, b_queued, a_results, a_answered, a_taken, b_tookFrom)) (nI t, f_turns, b_kind, b_number, b_size, b_item, b_score, b_deadline, a_state, b_first, b_second, b_until, a_turn, b_watched, b_deceived, a_cOp, a_cKey, a_cA, a_cB, b_queued, a_results, a_answered, a_taken, b_tookFrom) v1 1 := fun r er => by
          unfold wpY_ask
          exact am_Yy 8 hp (br_f (by decide) (am_Yy (p := 1) 4 (vp_in_nI (n := 1) (by omega) (by omega)) (br_f (by decide) (br_f (by decide) (br_f (by decide) (br_t rfl (And.intro p16 ⟨y2.trans er, zz_in ht hC (pr_Sb hS (by omega))⟩)))))))
        by_cases h : (A v1.toNatClampNeg).1 = 1
        · exact br_t (x1.trans h) (And.intro hp (hY _ (x3 h).symm))
        · refine br_f (fun e => h (x1.symm.trans e)) (hY _ ?_)
          rcases ak_Gk Gp with e | e | e | e
          · rw [ak_G0 Gp e]; rfl
          · exact absurd e h
          · exact (ak_G2 Gp e).1
          · exact (ak_G3 Gp e).1
      · by_cases h2 : v2 = 2
        · subst h2
          refine br_f (by decide) (br_f (by decide) (br_f (by decide) (br_f (by decide) (br_t rfl (And.intro hp ?_)))))
          unfold wpY_ask
          exact am_Yy 8 hp (br_f (by decide) (am_Yy (p := 2) 4 (vp_in_nI (n := 2) (by omega) (by omega)) (br_f (by decide) (br_f (by decide) (br_f (by decide) (br_f (by decide) (And.intro p16 ⟨y3.trans x2.symm, zz_in ht hC (pr_Sb hS (by omega))⟩)))))))
        · by_cases h3 : v2 = 3
          · subst h3
            refine br_f (by decide) (br_f (by decide) (br_f (by decide) (br_f (by decide) (br_f (by decide) (br_t rfl (And.intro hp ?_))))))
            by_cases hd : ak_dl (A v1.toNatClampNeg) = -1
            · refine br_t (xd.trans hd) ?_
              unfold wpY_ask
              exact am_Yy 8 hp (br_f (by decide) (am_Yy (p := 3) 4 (vp_in_nI (n := 3) (by omega) (by omega)) (br_f (by decide) (br_t rfl (And.intro p16 (br_t (y4.trans (z1.mpr hd)) ⟨rfl, zz_in ht hC (pr_Sb hS (by omega))⟩))))))
            · refine br_f (fun e => hd (xd.symm.trans e)) (And.intro hp ?_)
              unfold wpY_ask
              exact am_Yy 8 hp (br_f (by decide) (am_Yy (p := 3) 4 (vp_in_nI (n := 3) (by omega) (by omega)) (br_f (by decide) (br_t rfl (And.intro p16 (br_f (fun e => hd (z1.mp (y4.symm.trans e))) (And.intro p16 ⟨by rw [y4, z2 hd, xd], zz_in ht hC (pr_Sb hS (by omega))⟩)))))))
          · have h4 : ¬ vp_in v2 4 := fun w => by
              obtain ⟨j, hj, e⟩ := vp_in_of w (by omega)
              rcases (by omega : j = 0 ∨ j = 1 ∨ j = 2 ∨ j = 3) with z | z | z | z <;> subst z
              · exact h0 e
              · exact h1 e
              · exact h2 e
              · exact h3 e
            have hY : wpY_ask (fun r' => r' = -1 ∧ i_Rel (k + 6) (f_dues, nI t, f_logged, f_safe, f_broken, 0, f_turns, a_kind, a_first, a_size, a_number, a_ring, a_score, a_version, a_ranked, a_deadline, a_due, a_logOp, a_logKey, a_logA, a_logB, a_state, a_gathered, a_answered, a_watching, a_seen, a_cOp, a_cKey, a_cA, a_cB, a_results, a_taken, a_waitsFor, a_until, a_turn, a_source) (nI t, f_turns, b_kind, b_number, b_size, b_item, b_score, b_deadline, a_state, b_first, b_second, b_until, a_turn, b_watched, b_deceived, a_cOp, a_cKey, a_cA, a_cB, b_queued, a_results, a_answered, a_taken, b_tookFrom)) (nI t, f_turns, b_kind, b_number, b_size, b_item, b_score, b_deadline, a_state, b_first, b_second, b_until, a_turn, b_watched, b_deceived, a_cOp, a_cKey, a_cA, a_cB, b_queued, a_results, a_answered, a_taken, b_tookFrom) v1 v2 := by
              unfold wpY_ask
              exact am_Yy 8 hp (br_f (by decide) (am_Yn 4 h4 (br_t rfl ⟨rfl, zz_in ht hC (pr_Sb hS (by omega))⟩)))
            exact br_c (fun _ => hY) (fun _ => br_c (fun _ => hY) (fun _ => br_f h0 (br_f h1 (br_f h2 (br_f h3 trivial)))))
  · refine am_Xn 8 hp (br_t rfl ?_)
    unfold wpY_ask
    exact am_Yn 8 hp (br_t rfl ⟨rfl, zz_in ht hC (pr_Sb hS (by omega))⟩)
theorem i_vc_element {k : Nat} {u : SX} {v : SY} (I : i_Rel k u v) (hk : k + 6 ≤ 3072) (v1 : Int32) (v2 : Int32) : wpX_element (fun r => wpY_element (fun r' => r' = r ∧ i_Rel (k + 6) u v) v v1 v2) u v1 v2 := by
  refine zz_el (P := fun u v => wpX_element (fun r => wpY_element (fun r' => r' = r ∧ i_Rel (k + 6) u v) v v1 v2) u v1 v2) ?_ I
  intro f_dues f_logged f_safe f_broken f_turns a_kind a_first a_size a_number a_ring a_score a_version a_ranked a_deadline a_due a_logOp a_logKey a_logA a_logB a_state a_gathered a_answered a_watching a_seen a_cOp a_cKey a_cA a_cB a_results a_taken a_waitsFor a_until a_turn a_source b_kind b_number b_size b_item b_score b_deadline b_first b_second b_until b_watched b_deceived b_queued b_tookFrom t A B ht hC hS
  unfold wpX_element
  by_cases hp : vp_in v1 8
  · have kp := (nu_key hp (by omega)).2
    have p16 := nu_up hp (M := 16) (by omega) (by omega)
    obtain ⟨Gp, x1, x2, x3, ⟨f, hf, x4, x5⟩, g, x6⟩ := hS.1.2.1 _ kp
    obtain ⟨y1, y2, y3, y4, y5, g2, y6⟩ := lk_Y hS kp
    dsimp only at x1 x2 x3 x4 x5 x6 y1 y2 y3 y4 y5 y6
    have hsz := ak_Gsz Gp
    refine am_Xy 8 hp (br_f (by decide) (And.intro hp ?_))
    rw [x2]
    by_cases h2 : vp_in v2 (ak_sz (A v1.toNatClampNeg))
    · obtain ⟨j, hj, rfl⟩ := vp_in_of h2 (by omega)
      refine am_Xy _ h2 (br_f (by decide) (And.intro hp ?_))
      by_cases hk2 : (A v1.toNatClampNeg).1 = 2
      · obtain ⟨hr, hs⟩ := xo_lsz Gp (Or.inr hk2)
        have hm12 : (f + j) % 12 < 12 := Nat.mod_lt _ (by omega)
        have ez : a_first v1.toNatClampNeg + nI j - (a_first v1.toNatClampNeg + nI j) / 12 * 12 = nI ((f + j) % 12) := by rw [x4, xl_f2 hf (by omega)]
        refine br_t (x1.trans hk2) (And.intro hp (And.intro nu_n12 ?_))
        rw [ez]
        refine And.intro (nu_12x hp hm12) ?_
        rw [nu_12c p16 (by omega), x5 j (by omega)]
        unfold wpY_element
        refine am_Yy 8 hp (br_f (by decide) (And.intro p16 ?_))
        rw [y3]
        refine am_Yy _ h2 (br_f (by decide) (And.intro p16 (br_t (y1.trans hk2) (And.intro (nu_12y p16 (by omega)) ⟨?_, zz_in ht hC (pr_Sb hS (by omega))⟩))))
        rw [nu_12c p16 (by omega), y5 j (by omega)]
      · have hk3 : (A v1.toNatClampNeg).1 = 3 := by
          rcases ak_Gk Gp with e | e | e | e
          · rw [ak_G0 Gp e, ak_szE] at hj; omega
          · rw [ak_c_size (ak_G1 Gp e).1 (ak_G1 Gp e).2] at hj; omega
          · exact absurd e hk2
          · exact e
        obtain ⟨hl, hs, h16⟩ := xo_rsz Gp (Or.inr hk3)
        rw [hs] at hj hsz
        have hat : ak_at (ak_rk (A v1.toNatClampNeg)) j (g j) := ⟨(x6.1.1 j hj).1, (x6.1.1 j hj).2, ak_nbG x6.1 x6.2.1 hj⟩
        have hex : ∃ c, c < ak_n (ak_rk (A v1.toNatClampNeg)) ∧ yr_c (12 * v1.toNatClampNeg) c b_item b_score (ak_n (ak_rk (A v1.toNatClampNeg))) = j := by
          obtain ⟨c, hc, ec⟩ := y6.1.2.2 (g j) hat.1 hat.2.1
          exact ⟨c, hc, by rw [yr_cnb y6 hc, ec]; exact hat.2.2⟩
        obtain ⟨c, hc, ec, W⟩ := yp_place (v := j) (a_size := b_size) p16 hsz (by omega) (by rw [y3, hs]) hex
        have hat2 : ak_at (ak_rk (A v1.toNatClampNeg)) j (g2 c) := ⟨(y6.1.1 c hc).1, (y6.1.1 c hc).2, by rw [← yr_cnb y6 hc]; exact ec⟩
        have eg := ak_atU hat hat2
        refine br_f (fun e => hk2 (x1.symm.trans e)) (And.intro (nu_12x hp (by omega)) ?_)
        rw [nu_12c p16 (by omega), (x6.2.2 j hj).1]
        unfold wpY_element
        refine am_Yy 8 hp (br_f (by decide) (And.intro p16 ?_))
        rw [y3]
        refine am_Yy _ h2 (br_f (by decide) (And.intro p16 (br_f (fun e => hk2 (y1.symm.trans e)) (W _ (And.intro (nu_12y p16 (by omega)) ⟨?_, zz_in ht hC (pr_Sb hS (by omega))⟩)))))
        rw [nu_12c p16 (by omega), (y6.2 c hc).1, eg]
    · refine am_Xn _ h2 (br_t rfl ?_)
      unfold wpY_element
      refine am_Yy 8 hp (br_f (by decide) (And.intro p16 ?_))
      rw [y3]
      exact am_Yn _ h2 (br_t rfl ⟨rfl, zz_in ht hC (pr_Sb hS (by omega))⟩)
  · refine am_Xn 8 hp (br_t rfl ?_)
    unfold wpY_element
    exact am_Yn 8 hp (br_t rfl ⟨rfl, zz_in ht hC (pr_Sb hS (by omega))⟩)
end
section
/-! ===== looking at rankings ===== -/
theorem i_vc_member {k : Nat} {u : SX} {v : SY} (I : i_Rel k u v) (hk : k + 6 ≤ 3072) (v1 : Int32) (v2 : Int32) (v3 : Int32) : wpX_member (fun r => wpY_member (fun r' => r' = r ∧ i_Rel (k + 6) u v) v v1 v2 v3) u v1 v2 v3 := by
  refine zz_el (P := fun u v => wpX_member (fun r => wpY_member (fun r' => r' = r ∧ i_Rel (k + 6) u v) v v1 v2 v3) u v1 v2 v3) ?_ I
  intro f_dues f_logged f_safe f_broken f_turns a_kind a_first a_size a_number a_ring a_score a_version a_ranked a_deadline a_due a_logOp a_logKey a_logA a_logB a_state a_gathered a_answered a_watching a_seen a_cOp a_cKey a_cA a_cB a_results a_taken a_waitsFor a_until a_turn a_source b_kind b_number b_size b_item b_score b_deadline b_first b_second b_until b_watched b_deceived b_queued b_tookFrom t A B ht hC hS
  unfold wpX_member
  have hS' : i_Rel (k + 6) (f_dues, nI t, f_logged, f_safe, f_broken, 0, f_turns, a_kind, a_first, a_size, a_number, a_ring, a_score, a_version, a_ranked, a_deadline, a_due, a_logOp, a_logKey, a_logA, a_logB, a_state, a_gathered, a_answered, a_watching, a_seen, a_cOp, a_cKey, a_cA, a_cB, a_results, a_taken, a_waitsFor, a_until, a_turn, a_source) (nI t, f_turns, b_kind, b_number, b_size, b_item, b_score, b_deadline, a_state, b_first, b_second, b_until, a_turn, b_watched, b_deceived, a_cOp, a_cKey, a_cA, a_cB, b_queued, a_results, a_answered, a_taken, b_tookFrom) := zz_in ht hC (pr_Sb hS (by omega))
  by_cases hp : vp_in v1 8
  · have kp := (nu_key hp (by omega)).2
    have p16 := nu_up hp (M := 16) (by omega) (by omega)
    obtain ⟨Gp, x1, x2, x3, ⟨f, hf, x4, x5⟩, g, x6⟩ := hS.1.2.1 _ kp
    obtain ⟨y1, y2, y3, y4, y5, g2, y6⟩ := lk_Y hS kp
    dsimp only at x1 x2 x3 x4 x5 x6 y1 y2 y3 y4 y5 y6
    have hN := ak_Gn Gp
    by_cases hk3 : (A v1.toNatClampNeg).1 = 3
    · obtain ⟨hl, hs, h16⟩ := xo_rsz Gp (Or.inr hk3)
      rw [hs] at x2 y3
      by_cases h2 : vp_in v2 16
      · obtain ⟨m, hm, rfl⟩ := vp_in_of h2 (by omega)
        refine am_Xy 8 hp (br_f (by decide) (am_Xy 16 h2 (br_f (by decide) ?_)))
        by_cases hr : ak_rk (A v1.toNatClampNeg) m = none
        · have hY : wpY_member (fun r' => r' = 10000000006 ∧ i_Rel (k + 6) (f_dues, nI t, f_logged, f_safe, f_broken, 0, f_turns, a_kind, a_first, a_size, a_number, a_ring, a_score, a_version, a_ranked, a_deadline, a_due, a_logOp, a_logKey, a_logA, a_logB, a_state, a_gathered, a_answered, a_watching, a_seen, a_cOp, a_cKey, a_cA, a_cB, a_results, a_taken, a_waitsFor, a_until, a_turn, a_source) (nI t, f_turns, b_kind, b_number, b_size, b_item, b_score, b_deadline, a_state, b_first, b_second, b_until, a_turn, b_watched, b_deceived, a_cOp, a_cKey, a_cA, a_cB, b_queued, a_results, a_answered, a_taken, b_tookFrom)) (nI t, f_turns, b_kind, b_number, b_size, b_item, b_score, b_deadline, a_state, b_first, b_second, b_until, a_turn, b_watched, b_deceived, a_cOp, a_cKey, a_cA, a_cB, b_queued, a_results, a_answered, a_taken, b_tookFrom) v1 (nI m) v3 := by
            unfold wpY_member
            exact am_Yy 8 hp (br_f (by decide) (And.intro p16 (br_t (y1.trans hk3) (yf_non p16 hm hN y3 y6 hr (br_t (by decide) ⟨rfl, hS'⟩)))))
          by_cases h3 : vp_in v3 2
          · refine am_Xy 2 h3 (br_f (by decide) (xk_is hp hm hN (Or.inl (x1.trans hk3)) x2 x6 ?_))
            rw [if_pos hr]
            exact br_t rfl hY
          · exact am_Xn 2 h3 (br_t rfl hY)
        · obtain ⟨s, es⟩ := Option.ne_none_iff_exists'.mp hr
          obtain ⟨c, hc, ec, esc, W⟩ := yf_mem p16 hm hN y3 y6 es
          have c12 : c < 12 := by omega
          have esx : a_score (16 * v1.toNatClampNeg + m) = s := by
            obtain ⟨i, hi, ei⟩ := x6.1.2.2 m hm (xr_is es)
            have := (x6.2.2 i hi).2
            rw [ei, es] at this
            exact (Option.some.inj this).symm
          by_cases h3 : vp_in v3 2
          · refine am_Xy 2 h3 (br_f (by decide) (xk_is hp hm hN (Or.inl (x1.trans hk3)) x2 x6 ?_))
            rw [if_neg hr]
            refine br_f (by decide) (And.intro (nu_16x hp hm) (nm_r (e' := s) (by rw [nu_16c hp hm, esx]) ?_))
            by_cases h0 : v3 = 0
            · refine br_t h0 ?_
              unfold wpY_member
              refine am_Yy 8 hp (br_f (by decide) (And.intro p16 (br_t (y1.trans hk3) (W _ (br_f (nI_pos (by omega)) (am_Yy 2 h3 (br_f (by decide) (br_t h0 (And.intro (nu_12y p16 c12) ⟨?_, hS'⟩)))))))))
              rw [nu_12c p16 (by omega), esc]
            · obtain ⟨cx, hcx, ecx, _, _, WX⟩ := xk_place (m := nI m) (s := s) hp hN x2 x6
              refine br_f h0 (WX _ ?_)
              unfold wpY_member
              refine am_Yy 8 hp (br_f (by decide) (And.intro p16 (br_t (y1.trans hk3) (W _ (br_f (nI_pos (by omega)) (am_Yy 2 h3 (br_f (by decide) (br_f h0 (yr_rank p16 hN c12 y3 ⟨?_, hS'⟩)))))))))
              rw [yr_cnb y6 hc, ec, xo_gg es, ecx]
          · refine am_Xn 2 h3 (br_t rfl ?_)
            unfold wpY_member
            exact am_Yy 8 hp (br_f (by decide) (And.intro p16 (br_t (y1.trans hk3) (W _ (br_f (nI_pos (by omega)) (am_Yn 2 h3 (br_t rfl ⟨rfl, hS'⟩)))))))
      · refine am_Xy 8 hp (br_f (by decide) (am_Xn 16 h2 (br_t rfl ?_)))
        unfold wpY_member
        refine am_Yy 8 hp (br_f (by decide) (And.intro p16 (br_t (y1.trans hk3) (yf_miss p16 hN y3 (fun j hj e => ?_) (br_t (by decide) ⟨rfl, hS'⟩)))))
        rw [(y6.2 j hj).1] at e
        have g16 := (y6.1.1 j hj).1
        exact h2 (by rw [← e]; exact vp_in_nI g16 (by omega))
    · have hr0 : ak_rk (A v1.toNatClampNeg) = ak_0 := (xo_k3 Gp rfl).resolve_left hk3
      have hY : wpY_member (fun r' => r' = 10000000006 ∧ i_Rel (k + 6) (f_dues, nI t, f_logged, f_safe, f_broken, 0, f_turns, a_kind, a_first, a_size, a_number, a_ring, a_score, a_version, a_ranked, a_deadline, a_due, a_logOp, a_logKey, a_logA, a_logB, a_state, a_gathered, a_answered, a_watching, a_seen, a_cOp, a_cKey, a_cA, a_cB, a_results, a_taken, a_waitsFor, a_until, a_turn, a_source) (nI t, f_turns, b_kind, b_number, b_size, b_item, b_score, b_deadline, a_state, b_first, b_second, b_until, a_turn, b_watched, b_deceived, a_cOp, a_cKey, a_cA, a_cB, b_queued, a_results, a_answered, a_taken, b_tookFrom)) (nI t, f_turns, b_kind, b_number, b_size, b_item, b_score, b_deadline, a_state, b_first, b_second, b_until, a_turn, b_watched, b_deceived, a_cOp, a_cKey, a_cA, a_cB, b_queued, a_results, a_answered, a_taken, b_tookFrom) v1 v2 v3 := by
        unfold wpY_member
        exact am_Yy 8 hp (br_f (by decide) (And.intro p16 (br_f (fun e => hk3 (y1.symm.trans e)) (br_t (by decide) ⟨rfl, hS'⟩))))
      refine am_Xy 8 hp (br_f (by decide) ?_)
      by_cases h2 : vp_in v2 16
      · refine am_Xy 16 h2 (br_f (by decide) ?_)
        by_cases h3 : vp_in v3 2
        · exact am_Xy 2 h3 (br_f (by decide) (And.intro hp (br_f (fun e => hk3 (x1.symm.trans e)) (br_t rfl hY))))
        · exact am_Xn 2 h3 (br_t rfl hY)
      · exact am_Xn 16 h2 (br_t rfl hY)
  · refine am_Xn 8 hp (br_t rfl ?_)
    unfold wpY_member
    exact am_Yn 8 hp (br_t rfl (br_t (by decide) ⟨rfl, hS'⟩))
/-! between -/
theorem bw_dis {p1 p2 p3 : Nat → Bool} : ∀ N, (∀ j, j < N → p1 j = (p2 j || p3 j)) → (∀ j, j < N → p2 j = true → p3 j = false) → en_C N p1 = en_C N p2 + en_C N p3 := by
  intro N
  induction N with
  | zero => intro _ _; rfl
  | succ N ih =>
    intro h1 h2
    rw [en_Cs, en_Cs, en_Cs, ih (fun j hj => h1 j (by omega)) (fun j hj => h2 j (by omega)), h1 N (by omega)]
    cases e2 : p2 N with
    | true => rw [h2 N (by omega) e2]; simp; omega
    | false => cases p3 N <;> simp <;> omega
theorem bw_31 {p lo hi : Int32} (hp : vp_in p 16) {n : Nat} (hn : n ≤ 12) {b_size b_score : Nat → Int32} (hs : b_size p.toNatClampNeg = nI n) {g_time : Int32} {g_waited : Int64} {b_kind b_number b_item b_deadline b_state b_first b_second b_until : Nat → Int32} {b_since : Nat → Int64} {b_watched b_deceived b_op b_opKey b_opA b_opB b_queued : Nat → Int32} {b_answers : Nat → Int64} {b_answered : Nat → Int32} {b_took b_tookFrom : Nat → Int64} {post : Int32 → Prop} (hpost : post (nI ((List.range n).countP (fun i => decide (¬ b_score (12 * p.toNatClampNeg + i) < lo ∧ ¬ hi < b_score (12 * p.toNatClampNeg + i)))))) : ∀ k x, x + k = n → ∀ m, k < m → wY_between_31 post p lo hi g_time g_waited b_kind b_number b_size b_item b_score b_deadline b_state b_first b_second b_until b_since b_watched b_deceived b_op b_opKey b_opA b_opB b_queued b_answers b_answered b_took b_tookFrom m (nI ((List.range x).countP (fun i => decide (¬ b_score (12 * p.toNatClampNeg + i) < lo ∧ ¬ hi < b_score (12 * p.toNatClampNeg + i))))) (nI (12 * p.toNatClampNeg + x)) := by
  have kp := (nu_key hp (by omega)).2
  intro k
  induction k with
  | zero =>
    intro x hx m hm
    obtain ⟨m, rfl⟩ := nu_suc hm
    have e : x = n := by omega
    subst e
    exact And.intro hp (br_t (by rw [hs, nu_12 hp]; exact nI_le (by omega) (by omega)) hpost)
  | succ k ih =>
    intro x hx m hm
    obtain ⟨m, rfl⟩ := nu_suc hm
    have hxl : (nI (12 * p.toNatClampNeg + x)).toNatClampNeg = 12 * p.toNatClampNeg + x := nI_clamp (by omega)
    have hxv : vp_in (nI (12 * p.toNatClampNeg + x)) 192 := vp_in_nI (by omega) (by omega)
    have go := ih (x + 1) (by omega) m (by omega)
    have e1 : nI (12 * p.toNatClampNeg + x) + 1 = nI (12 * p.toNatClampNeg + (x + 1)) := nI_1 _
    rw [List.range_succ, List.countP_append, List.countP_singleton] at go
    refine And.intro hp (br_f (by rw [hs, nu_12 hp]; exact nI_ge (by omega) (by omega)) (And.intro hxv ?_))
    rw [hxl]
    by_cases z : ¬ b_score (12 * p.toNatClampNeg + x) < lo ∧ ¬ hi < b_score (12 * p.toNatClampNeg + x)
    · rw [if_pos (decide_eq_true z)] at go
      exact br_f z.1 (And.intro hxv (br_f z.2 (nm_r (nI_1 _) (nm_r e1 go))))
    · rw [if_neg (by rw [decide_eq_true_iff]; exact z), Nat.add_zero] at go
      exact br_c (fun _ => nm_r e1 go) (fun h1 => And.intro hxv (br_c (fun _ => nm_r e1 go) (fun h2 => absurd ⟨h1, h2⟩ z)))
theorem bw_16 : ∀ j, j < 16 → nI j < (16 : Int32) ∧ ¬ nI j < (-1 : Int32) := by decide +kernel
theorem i_vc_between {k : Nat} {u : SX} {v : SY} (I : i_Rel k u v) (hk : k + 6 ≤ 3072) (v1 : Int32) (v2 : Int32) (v3 : Int32) : wpX_between (fun r => wpY_between (fun r' => r' = r ∧ i_Rel (k + 6) u v) v v1 v2 v3) u v1 v2 v3 := by
  refine zz_el (P := fun u v => wpX_between (fun r => wpY_between (fun r' => r' = r ∧ i_Rel (k + 6) u v) v v1 v2 v3) u v1 v2 v3) ?_ I
  intro f_dues f_logged f_safe f_broken f_turns a_kind a_first a_size a_number a_ring a_score a_version a_ranked a_deadline a_due a_logOp a_logKey a_logA a_logB a_state a_gathered a_answered a_watching a_seen a_cOp a_cKey a_cA a_cB a_results a_taken a_waitsFor a_until a_turn a_source b_kind b_number b_size b_item b_score b_deadline b_first b_second b_until b_watched b_deceived b_queued b_tookFrom t A B ht hC hS
  unfold wpX_between
  have hS' : i_Rel (k + 6) (f_dues, nI t, f_logged, f_safe, f_broken, 0, f_turns, a_kind, a_first, a_size, a_number, a_ring, a_score, a_version, a_ranked, a_deadline, a_due, a_logOp, a_logKey, a_logA, a_logB, a_state, a_gathered, a_answered, a_watching, a_seen, a_cOp, a_cKey, a_cA, a_cB, a_results, a_taken, a_waitsFor, a_until, a_turn, a_source) (nI t, f_turns, b_kind, b_number, b_size, b_item, b_score, b_deadline, a_state, b_first, b_second, b_until, a_turn, b_watched, b_deceived, a_cOp, a_cKey, a_cA, a_cB, b_queued, a_results, a_answered, a_taken, b_tookFrom) := zz_in ht hC (pr_Sb hS (by omega))
  by_cases hp : vp_in v1 8
  · have kp := (nu_key hp (by omega)).2
    have p16 := nu_up hp (M := 16) (by omega) (by omega)
    obtain ⟨Gp, x1, x2, x3, ⟨f, hf, x4, x5⟩, g, x6⟩ := hS.1.2.1 _ kp
    obtain ⟨y1, y2, y3, y4, y5, g2, y6⟩ := lk_Y hS kp
    dsimp only at x1 x2 x3 x4 x5 x6 y1 y2 y3 y4 y5 y6
    have hN := ak_Gn Gp
    refine am_Xy 8 hp (br_f (by decide) (And.intro hp ?_))
    by_cases hk3 : (A v1.toNatClampNeg).1 = 3
    · obtain ⟨hl, hs, h16⟩ := xo_rsz Gp (Or.inr hk3)
      rw [hs] at x2 y3
      have hY : ∀ r, nI ((List.range (ak_n (ak_rk (A v1.toNatClampNeg)))).countP (fun i => decide (¬ b_score (12 * v1.toNatClampNeg + i) < v2 ∧ ¬ v3 < b_score (12 * v1.toNatClampNeg + i)))) = r → wpY_between (fun r' => r' = r ∧ i_Rel (k + 6) (f_dues, nI t, f_logged, f_safe, f_broken, 0, f_turns, a_kind, a_first, a_size, a_number, a_ring, a_score, a_version, a_ranked, a_deadline, a_due, a_logOp, a_logKey, a_logA, a_logB, a_state, a_gathered, a_answered, a_watching, a_seen, a_cOp, a_cKey, a_cA, a_cB, a_results, a_taken, a_waitsFor, a_until, a_turn, a_source) (nI t, f_turns, b_kind, b_number, b_size, b_item, b_score, b_deadline, a_state, b_first, b_second, b_until, a_turn, b_watched, b_deceived, a_cOp, a_cKey, a_cA, a_cB, b_queued, a_results, a_answered, a_taken, b_tookFrom)) (nI t, f_turns, b_kind, b_number, b_size, b_item, b_score, b_deadline, a_state, b_first, b_second, b_until, a_turn, b_watched, b_deceived, a_cOp, a_cKey, a_cA, a_cB, b_queued, a_results, a_answered, a_taken, b_tookFrom) v1 v2 v3 := fun r er => by
        unfold wpY_between
        exact am_Yy 8 hp (br_f (by decide) (And.intro p16 (br_t (y1.trans hk3) (nm_r (nu_12z p16) ⟨_, bw_31 p16 hN y3 (post := fun r' => r' = r ∧ i_Rel (k + 6) (f_dues, nI t, f_logged, f_safe, f_broken, 0, f_turns, a_kind, a_first, a_size, a_number, a_ring, a_score, a_version, a_ranked, a_deadline, a_due, a_logOp, a_logKey, a_logA, a_logB, a_state, a_gathered, a_answered, a_watching, a_seen, a_cOp, a_cKey, a_cA, a_cB, a_results, a_taken, a_waitsFor, a_until, a_turn, a_source) (nI t, f_turns, b_kind, b_number, b_size, b_item, b_score, b_deadline, a_state, b_first, b_second, b_until, a_turn, b_watched, b_deceived, a_cOp, a_cKey, a_cA, a_cB, b_queued, a_results, a_answered, a_taken, b_tookFrom)) ⟨er, hS'⟩ (ak_n (ak_rk (A v1.toNatClampNeg))) 0 (by omega) (ak_n (ak_rk (A v1.toNatClampNeg)) + 1) (by omega)⟩))))
      refine br_t (x1.trans hk3) ?_
      have hcnt : (List.range (ak_n (ak_rk (A v1.toNatClampNeg)))).countP (fun i => decide (¬ b_score (12 * v1.toNatClampNeg + i) < v2 ∧ ¬ v3 < b_score (12 * v1.toNatClampNeg + i))) = en_C 16 (fun m => decide (¬ ak_g (ak_rk (A v1.toNatClampNeg)) m < v2 ∧ ¬ v3 < ak_g (ak_rk (A v1.toNatClampNeg)) m) && (ak_rk (A v1.toNatClampNeg) m).isSome) := by
        rw [← en_cnt y6.1 (fun m => decide (¬ ak_g (ak_rk (A v1.toNatClampNeg)) m < v2 ∧ ¬ v3 < ak_g (ak_rk (A v1.toNatClampNeg)) m))]
        refine List.countP_congr (fun i hi => ?_)
        have hi' := List.mem_range.mp hi
        rw [xo_gg (y6.2 i hi').2]
      by_cases hle : v2 ≤ v3
      · refine br_t hle ?_
        obtain ⟨c1, hc1, e1, _, _, W1⟩ := xk_place (m := 16) (s := v3) hp hN x2 x6
        obtain ⟨c2, hc2, e2, _, _, W2⟩ := xk_place (m := -1) (s := v2) hp hN x2 x6
        refine W1 _ (W2 _ (hY _ ?_))
        have hd : ak_nb (ak_rk (A v1.toNatClampNeg)) v3 16 = ak_nb (ak_rk (A v1.toNatClampNeg)) v2 (-1) + en_C 16 (fun m => decide (¬ ak_g (ak_rk (A v1.toNatClampNeg)) m < v2 ∧ ¬ v3 < ak_g (ak_rk (A v1.toNatClampNeg)) m) && (ak_rk (A v1.toNatClampNeg) m).isSome) := by
          refine bw_dis 16 (fun j hj => ?_) (fun j hj => ?_)
          · cases hsome : (ak_rk (A v1.toNatClampNeg) j).isSome with
            | false => simp
            | true =>
              rw [Bool.and_true, Bool.and_true, Bool.and_true]
              have b := bw_16 j hj
              rw [Bool.eq_iff_iff, Bool.or_eq_true, decide_eq_true_iff, decide_eq_true_iff, decide_eq_true_iff]
              have hle' := Int32.le_iff_toInt_le.mp hle
              constructor
              · intro h
                by_cases q : ak_g (ak_rk (A v1.toNatClampNeg)) j < v2
                · exact Or.inl (Or.inl q)
                · refine Or.inr ⟨q, fun w => ?_⟩
                  rcases h with h | h
                  · exact Int32.lt_irrefl (Int32.lt_trans h w)
                  · rw [h.1] at w; exact Int32.lt_irrefl w
              · intro h
                rcases h with (h | h) | h
                · exact Or.inl (Int32.lt_of_lt_of_le h hle)
                · exact absurd h.2 b.2
                · rcases Int32.lt_or_eq_of_le (Int32.not_lt.mp h.2) with w | w
                  · exact Or.inl w
                  · exact Or.inr ⟨w, b.1⟩
          · intro h
            rw [Bool.and_eq_true, decide_eq_true_iff] at h
            have b := bw_16 j hj
            rcases h.1 with w | w
            · rw [decide_eq_false (fun q => q.1 w)]; rfl
            · exact absurd w.2 b.2
        rw [hcnt]
        have : c1 = c2 + en_C 16 (fun m => decide (¬ ak_g (ak_rk (A v1.toNatClampNeg)) m < v2 ∧ ¬ v3 < ak_g (ak_rk (A v1.toNatClampNeg)) m) && (ak_rk (A v1.toNatClampNeg) m).isSome) := by rw [e1, e2]; exact hd
        rw [pk_sub (by omega)]
        exact congrArg nI (by omega)
      · refine br_f hle (hY _ ?_)
        rw [hcnt, en_C0 (fun j hj => ?_)]
        · rfl
        · rw [decide_eq_false (fun q => hle (Int32.le_trans (Int32.not_lt.mp q.1) (Int32.not_lt.mp q.2)))]; rfl
    · refine br_f (fun e => hk3 (x1.symm.trans e)) ?_
      unfold wpY_between
      exact am_Yy 8 hp (br_f (by decide) (And.intro p16 (br_f (fun e => hk3 (y1.symm.trans e)) ⟨rfl, hS'⟩)))
  · refine am_Xn 8 hp (br_t rfl ?_)
    unfold wpY_between
    exact am_Yn 8 hp (br_t rfl ⟨rfl, hS'⟩)
end
section
/-! ===== listen ===== -/
theorem ls_CT {S ga an co ck ca : Nat → Int32} {T T2 : Nat → Int64} {R R2 wf u qu fi se u2 : Nat → Int32} {F F2 : Nat → Int64} (h : rl_C S ga an co ck ca T R wf u qu fi se u2 F) (h2 : sv_T T2 R2 F2) : rl_C S ga an co ck ca T2 R2 wf u qu fi se u2 F2 := ⟨h.1, h.2.1, h2⟩
theorem ls_Tn {T : Nat → Int64} {R : Nat → Int32} {F : Nat → Int64} (h : sv_T T R F) (c : Nat) : sv_T (vp_updL T c 10000000006) R (vp_updL F c 10000000006) := fun i hi => by
  by_cases z : i = c
  · subst z
    rw [pk_uLs, pk_uLs]; exact Or.inl ⟨rfl, rfl⟩
  · rw [pk_uLn z, pk_uLn z]; exact h i hi
theorem ls_C {c x y : Nat} (hx : x < 8) (hy : y < 8) {S ga an co ck ca : Nat → Int32} {T T2 : Nat → Int64} {R R2 wf u qu fi se u2 : Nat → Int32} {F F2 : Nat → Int64} {v w : Int32} (h : rl_C S ga an co ck ca T R wf u qu fi se u2 F) (h2 : sv_T T2 R2 F2) (hv : (v = -1 ∧ w = 0) ∨ (v = w ∧ 0 < w)) : rl_C (upd S c 1) ga an co ck ca T2 R2 (upd wf c (lf_wf x y)) (upd u c v) qu (upd fi c (nI x)) (upd se c (nI y)) (upd u2 c w) F2 := by
  obtain ⟨h1, h3, h4⟩ := h
  refine ⟨fun i hi => ?_, fun i hi e => ?_, h2⟩
  · obtain ⟨a1, a2, a3, a4⟩ := h1 i hi
    by_cases z : i = c
    · subst z
      rw [pk_us, pk_us, pk_us]
      exact ⟨Or.inr (Or.inl rfl), fun e => absurd e (by decide), a3, fun _ => hv⟩
    · rw [pk_un z, pk_un z, pk_un z]; exact ⟨a1, a2, a3, a4⟩
  · by_cases z : i = c
    · subst z
      rw [pk_us, pk_us, pk_us]
      exact ⟨x, y, hx, hy, rfl, rfl, rfl⟩
    · rw [pk_un z] at e
      rw [pk_un z, pk_un z, pk_un z]; exact h3 i hi e
theorem ls_f6 {x : ak_T} (h : ak_G x) : ((x.1 = 0 ∨ x.1 = 2) → ak_fit 6 x.1 = 1) ∧ (¬ (x.1 = 0 ∨ x.1 = 2) → ak_fit 6 x.1 = 0 ∧ (x.1 = 1 ∨ (¬ x.1 = 1 ∧ x.1 = 3))) := by
  refine ⟨fun hw => ?_, fun hw => ?_⟩
  · rcases hw with e | e <;> rw [e] <;> decide
  · rcases ak_Gk h with e | e | e | e
    · exact absurd (Or.inl e) hw
    · rw [e]; decide
    · exact absurd (Or.inr e) hw
    · rw [e]; decide
theorem i_vc_listen {k : Nat} {u : SX} {v : SY} (I : i_Rel k u v) (hk : k + 6 ≤ 3072) (v1 : Int32) (v2 : Int32) (v3 : Int32) (v4 : Int32) : wpX_listen (fun r u' => wpY_listen (fun r' v' => r' = r ∧ i_Rel (k + 6) u' v') v v1 v2 v3 v4) u v1 v2 v3 v4 := by
  refine zz_el (P := fun u v => wpX_listen (fun r u' => wpY_listen (fun r' v' => r' = r ∧ i_Rel (k + 6) u' v') v v1 v2 v3 v4) u v1 v2 v3 v4) ?_ I
  intro f_dues f_logged f_safe f_broken f_turns a_kind a_first a_size a_number a_ring a_score a_version a_ranked a_deadline a_due a_logOp a_logKey a_logA a_logB a_state a_gathered a_answered a_watching a_seen a_cOp a_cKey a_cA a_cB a_results a_taken a_waitsFor a_until a_turn a_source b_kind b_number b_size b_item b_score b_deadline b_first b_second b_until b_watched b_deceived b_queued b_tookFrom t A B ht hC hS
  have hS' : i_Rel (k + 6) (f_dues, nI t, f_logged, f_safe, f_broken, 0, f_turns, a_kind, a_first, a_size, a_number, a_ring, a_score, a_version, a_ranked, a_deadline, a_due, a_logOp, a_logKey, a_logA, a_logB, a_state, a_gathered, a_answered, a_watching, a_seen, a_cOp, a_cKey, a_cA, a_cB, a_results, a_taken, a_waitsFor, a_until, a_turn, a_source) (nI t, f_turns, b_kind, b_number, b_size, b_item, b_score, b_deadline, a_state, b_first, b_second, b_until, a_turn, b_watched, b_deceived, a_cOp, a_cKey, a_cA, a_cB, b_queued, a_results, a_answered, a_taken, b_tookFrom) := zz_in ht hC (pr_Sb hS (by omega))
  unfold wpX_listen
  by_cases h : vp_in v1 4 ∧ a_state v1.toNatClampNeg = 0
  · obtain ⟨hc, hs⟩ := h
    have kc := (nu_key hc (by omega)).2
    refine ic_y hc hs (br_f (by decide) ?_)
    by_cases h2 : vp_in v2 8
    · refine am_Xy 8 h2 (br_f (by decide) ?_)
      by_cases h3 : vp_in v3 8
      · refine am_Xy 8 h3 (br_f (by decide) ?_)
        by_cases h4 : vp_in v4 51
        · refine am_Xy 51 h4 (br_f (by decide) ?_)
          have k2 := (nu_key h2 (by omega)).2
          have k3 := (nu_key h3 (by omega)).2
          have p2 := nu_up h2 (M := 16) (by omega) (by omega)
          have p3 := nu_up h3 (M := 16) (by omega) (by omega)
          have G2 := (hS.1.2.1 _ k2).1
          have G3 := (hS.1.2.1 _ k3).1
          obtain ⟨x2, y2⟩ := pr_kd hS k2
          obtain ⟨x3, y3⟩ := pr_kd hS k3
          dsimp only at x2 y2 x3 y3
          obtain ⟨f2a, f2b⟩ := ls_f6 G2
          obtain ⟨f3a, f3b⟩ := ls_f6 G3
          by_cases w2 : (A v2.toNatClampNeg).1 = 0 ∨ (A v2.toNatClampNeg).1 = 2
          · have n21 : ¬ b_kind v2.toNatClampNeg = 1 := by rw [y2]; rcases w2 with e | e <;> rw [e] <;> decide
            have n23 : ¬ b_kind v2.toNatClampNeg = 3 := by rw [y2]; rcases w2 with e | e <;> rw [e] <;> decide
            refine xa_fit1 h2 x2 (f2a w2) (br_f (by decide) ?_)
            by_cases w3 : (A v3.toNatClampNeg).1 = 0 ∨ (A v3.toNatClampNeg).1 = 2
            · have n31 : ¬ b_kind v3.toNatClampNeg = 1 := by rw [y3]; rcases w3 with e | e <;> rw [e] <;> decide
              have n33 : ¬ b_kind v3.toNatClampNeg = 3 := by rw [y3]; rcases w3 with e | e <;> rw [e] <;> decide
              refine xa_fit1 h3 x3 (f3a w3) (br_f (by decide) (And.intro hc (nm_e (And.intro h2 ?_))))
              have hTn := ls_Tn hC.2.2 v1.toNatClampNeg
              -- an element is there: from which key
              have hgrab : ∀ p, vp_in p 8 → (A p.toNatClampNeg).1 = 2 → (∀ Q : Int64 → SY → Prop, (∃ m : Nat, m = 0) → wY_listen_107 Q v1 v2 v3 v4 p (nI t) f_turns b_kind b_number b_size b_item b_score b_deadline a_state b_first b_second b_until a_turn b_watched b_deceived a_cOp a_cKey a_cA a_cB b_queued a_results a_answered (vp_updL a_taken v1.toNatClampNeg 10000000006) (vp_updL b_tookFrom v1.toNatClampNeg 10000000006) → wpY_listen Q (nI t, f_turns, b_kind, b_number, b_size, b_item, b_score, b_deadline, a_state, b_first, b_second, b_until, a_turn, b_watched, b_deceived, a_cOp, a_cKey, a_cA, a_cB, b_queued, a_results, a_answered, a_taken, b_tookFrom) v1 v2 v3 v4) → wX_listen_111 (fun r u' => wpY_listen (fun r' v' => r' = r ∧ i_Rel (k + 6) u' v') (nI t, f_turns, b_kind, b_number, b_size, b_item, b_score, b_deadline, a_state, b_first, b_second, b_until, a_turn, b_watched, b_deceived, a_cOp, a_cKey, a_cA, a_cB, b_queued, a_results, a_answered, a_taken, b_tookFrom) v1 v2 v3 v4) v1 p v1 f_dues (nI t) f_logged f_safe f_broken 0 f_turns a_kind a_first a_size a_number a_ring a_score a_version a_ranked a_deadline a_due a_logOp a_logKey a_logA a_logB a_state a_gathered a_answered a_watching a_seen a_cOp a_cKey a_cA a_cB a_results (vp_updL a_taken v1.toNatClampNeg 10000000006) a_waitsFor a_until a_turn a_source := fun p hp hp2 hYl => by
                have pk := (nu_key hp (by omega)).2
                have pp := nu_up hp (M := 16) (by omega) (by omega)
                obtain ⟨xp, yp⟩ := pr_kd hS pk
                dsimp only at xp yp
                obtain ⟨A1, K1, L1, V1, M1, D1, v, hS1, hA1, WX, WY⟩ := pr_take hp (by omega) hS hp2
                unfold wX_listen_111 wpX_grab
                refine WX _ (And.intro hc (nm_e (And.intro hc (nm_r (e' := upd a_source v1.toNatClampNeg p) (by rw [nu_pb pp]) (And.intro hc ?_)))))
                refine hYl _ ⟨0, rfl⟩ (And.intro pp (br_t (by rw [yp]; exact hp2) ?_))
                unfold wpY_take
                refine WY _ (And.intro hc (nm_e (And.intro hc (nm_e (And.intro hc (nm_r (xd_upI hs) (And.intro hc ⟨?_, ?_⟩)))))))
                · rw [pk_uLs]
                · exact zz_in ht (ls_CT hC (sv_T1 hTn v1.toNatClampNeg v p)) (pr_Sb hS1 (by omega))
              have hYall : ∀ (Q : Int64 → SY → Prop), (b_kind v2.toNatClampNeg = 2 → wY_listen_107 Q v1 v2 v3 v4 v2 (nI t) f_turns b_kind b_number b_size b_item b_score b_deadline a_state b_first b_second b_until a_turn b_watched b_deceived a_cOp a_cKey a_cA a_cB b_queued a_results a_answered (vp_updL a_taken v1.toNatClampNeg 10000000006) (vp_updL b_tookFrom v1.toNatClampNeg 10000000006)) → (¬ b_kind v2.toNatClampNeg = 2 → wY_listen_107 Q v1 v2 v3 v4 v3 (nI t) f_turns b_kind b_number b_size b_item b_score b_deadline a_state b_first b_second b_until a_turn b_watched b_deceived a_cOp a_cKey a_cA a_cB b_queued a_results a_answered (vp_updL a_taken v1.toNatClampNeg 10000000006) (vp_updL b_tookFrom v1.toNatClampNeg 10000000006)) → wpY_listen Q (nI t, f_turns, b_kind, b_number, b_size, b_item, b_score, b_deadline, a_state, b_first, b_second, b_until, a_turn, b_watched, b_deceived, a_cOp, a_cKey, a_cA, a_cB, b_queued, a_results, a_answered, a_taken, b_tookFrom) v1 v2 v3 v4 := fun Q q1 q2 => by
                unfold wpY_listen
                exact rd_y hc hs (br_f (by decide) (am_Yy 8 h2 (br_f (by decide) (am_Yy 8 h3 (br_f (by decide) (am_Yy 51 h4 (br_f (by decide) (And.intro p2 (br_f n21 (And.intro p2 (br_f n23 (And.intro p3 (br_f n31 (And.intro p3 (br_f n33 (cr_ft hc (And.intro p2 (br_c q1 q2))))))))))))))))))
              by_cases e2 : (A v2.toNatClampNeg).1 = 2
              · refine br_t (x2.trans e2) (And.intro h2 (br_t (x2.trans e2) (hgrab v2 h2 e2 (fun Q _ q => hYall Q (fun _ => q) (fun n => absurd (y2.trans e2) n)))))
              · have nx2 : ¬ a_kind v2.toNatClampNeg = 2 := fun e => e2 (x2.symm.trans e)
                have ny2 : ¬ b_kind v2.toNatClampNeg = 2 := fun e => e2 (y2.symm.trans e)
                refine br_f nx2 (And.intro h3 ?_)
                by_cases e3 : (A v3.toNatClampNeg).1 = 2
                · exact br_t (x3.trans e3) (And.intro h2 (br_f nx2 (hgrab v3 h3 e3 (fun Q _ q => hYall Q (fun n => absurd n ny2) (fun _ => q)))))
                · have nx3 : ¬ a_kind v3.toNatClampNeg = 2 := fun e => e3 (x3.symm.trans e)
                  have ny3 : ¬ b_kind v3.toNatClampNeg = 2 := fun e => e3 (y3.symm.trans e)
                  obtain ⟨j, hj, rfl⟩ := vp_in_of h4 (by omega)
                  have ew : upd a_waitsFor v1.toNatClampNeg (vp_nar .short ((((1 : Int32) <<< (v2 &&& 31)) ||| ((1 : Int32) <<< (v3 &&& 31))).toInt16.toInt32)) = upd a_waitsFor v1.toNatClampNeg (lf_wf v2.toNatClampNeg v3.toNatClampNeg) := by
                    unfold lf_wf
                    rw [pk_vs, ← (nu_key h2 (by omega)).1, ← (nu_key h3 (by omega)).1]
                  have fin : ∀ vx vy : Int32, ((vx = -1 ∧ vy = 0) ∨ (vx = vy ∧ 0 < vy)) → i_Rel (k + 6) (f_dues, nI t, f_logged, f_safe, f_broken, 0, f_turns + 1, a_kind, a_first, a_size, a_number, a_ring, a_score, a_version, a_ranked, a_deadline, a_due, a_logOp, a_logKey, a_logA, a_logB, upd a_state v1.toNatClampNeg 1, a_gathered, a_answered, a_watching, a_seen, a_cOp, a_cKey, a_cA, a_cB, a_results, vp_updL a_taken v1.toNatClampNeg 10000000006, upd a_waitsFor v1.toNatClampNeg (lf_wf v2.toNatClampNeg v3.toNatClampNeg), upd a_until v1.toNatClampNeg vx, vp_updL a_turn v1.toNatClampNeg f_turns, a_source) (nI t, f_turns + 1, b_kind, b_number, b_size, b_item, b_score, b_deadline, upd a_state v1.toNatClampNeg 1, upd b_first v1.toNatClampNeg v2, upd b_second v1.toNatClampNeg v3, upd b_until v1.toNatClampNeg vy, vp_updL a_turn v1.toNatClampNeg f_turns, b_watched, b_deceived, a_cOp, a_cKey, a_cA, a_cB, b_queued, a_results, a_answered, vp_updL a_taken v1.toNatClampNeg 10000000006, vp_updL b_tookFrom v1.toNatClampNeg 10000000006) := fun vx vy hv => by
                    have := ls_C (c := v1.toNatClampNeg) k2 k3 hC hTn hv
                    rw [← (nu_key h2 (by omega)).1, ← (nu_key h3 (by omega)).1] at this
                    exact zz_in ht this (pr_Sb hS (by omega))
                  refine br_f nx3 (And.intro hc (nm_r (e' := upd a_state v1.toNatClampNeg 1) (by rw [nu_b1]) (And.intro hc (nm_r ew ?_))))
                  by_cases z : nI j = 0
                  · refine br_t z (And.intro hc (nm_e (nm_e (And.intro hc (nm_e ?_)))))
                    refine hYall _ (fun n => absurd n ny2) (fun _ => And.intro p3 (br_f ny3 (And.intro hc (nm_e (And.intro hc (nm_e (And.intro hc (nm_e (br_t z (And.intro hc (nm_e (nm_e (And.intro hc (nm_e ⟨rfl, ?_⟩))))))))))))))
                    exact fin (-1) 0 (Or.inl ⟨rfl, rfl⟩)
                  · have hj0 : 0 < j := Nat.pos_of_ne_zero (fun e => z (by rw [e]; rfl))
                    refine br_f z (And.intro hc (nm_e (nm_e (And.intro hc (nm_e ?_)))))
                    refine hYall _ (fun n => absurd n ny2) (fun _ => And.intro p3 (br_f ny3 (And.intro hc (nm_e (And.intro hc (nm_e (And.intro hc (nm_e (br_f z (And.intro hc (nm_e (nm_e (And.intro hc (nm_e ⟨rfl, ?_⟩))))))))))))))
                    refine fin (nI t + nI j) (nI t + nI j) (Or.inr ⟨rfl, ?_⟩)
                    rw [nI_add]; exact nI_lt (a := 0) (by omega) (by omega)
            · obtain ⟨f0, f13⟩ := f3b w3
              refine xa_fits h3 x3 ?_
              rw [f0]
              refine br_t rfl ?_
              unfold wpY_listen
              refine rd_y hc hs (br_f (by decide) (am_Yy 8 h2 (br_f (by decide) (am_Yy 8 h3 (br_f (by decide) (am_Yy 51 h4 (br_f (by decide) (And.intro p2 (br_f n21 (And.intro p2 (br_f n23 (And.intro p3 ?_))))))))))))
              rw [y3]
              rcases f13 with e | ⟨e1, e3⟩
              · exact br_t e ⟨rfl, hS'⟩
              · exact br_f e1 (And.intro p3 (br_t e3 ⟨rfl, hS'⟩))
          · obtain ⟨f0, f13⟩ := f2b w2
            refine xa_fits h2 x2 ?_
            rw [f0]
            refine br_t rfl ?_
            unfold wpY_listen
            refine rd_y hc hs (br_f (by decide) (am_Yy 8 h2 (br_f (by decide) (am_Yy 8 h3 (br_f (by decide) (am_Yy 51 h4 (br_f (by decide) (And.intro p2 ?_))))))))
            rw [y2]
            rcases f13 with e | ⟨e1, e3⟩
            · exact br_t e ⟨rfl, hS'⟩
            · exact br_f e1 (And.intro p2 (br_t e3 ⟨rfl, hS'⟩))
        · refine am_Xn 51 h4 (br_t rfl ?_)
          unfold wpY_listen
          exact rd_y hc hs (br_f (by decide) (am_Yy 8 h2 (br_f (by decide) (am_Yy 8 h3 (br_f (by decide) (am_Yn 51 h4 (br_t rfl ⟨rfl, hS'⟩)))))))
      · refine am_Xn 8 h3 (br_t rfl ?_)
        unfold wpY_listen
        exact rd_y hc hs (br_f (by decide) (am_Yy 8 h2 (br_f (by decide) (am_Yn 8 h3 (br_t rfl ⟨rfl, hS'⟩)))))
    · refine am_Xn 8 h2 (br_t rfl ?_)
      unfold wpY_listen
      exact rd_y hc hs (br_f (by decide) (am_Yn 8 h2 (br_t rfl ⟨rfl, hS'⟩)))
  · refine ic_n h (br_t rfl ?_)
    unfold wpY_listen
    exact rd_n h (br_t rfl ⟨rfl, hS'⟩)
end
section
/-! ===== command ===== -/
theorem vl_X {o k a : Int32} {post : Int32 → Prop} (hy : cm_ok o k a → post 1) (hn : ¬ cm_ok o k a → post 0) : wpX_valid post o k a := by
  unfold wpX_valid
  by_cases h1 : vp_in o 12
  · refine am_Xy 12 h1 (br_f (by decide) ?_)
    obtain ⟨n, hn12, rfl⟩ := vp_in_of h1 (by omega)
    by_cases h2 : vp_in k 8
    · refine am_Xy 8 h2 (br_f (by decide) ?_)
      by_cases o3 : nI n = 3
      · refine br_t o3 ?_
        have ne : ∀ c : Int32, ¬ (3 : Int32) = c → nI n = c → False := fun c hc e => hc (o3.symm.trans e)
        by_cases h3 : vp_in a 101
        · exact am_Xy 101 h3 (And.intro rfl (hy ⟨h2, ⟨n, hn12, rfl⟩, fun _ => h3, fun w => by rw [o3] at w; exact absurd w (by decide), fun w => (ne 11 (by decide) w).elim⟩))
        · exact am_Xn 101 h3 (And.intro rfl (hn (fun w => h3 (w.2.2.1 o3))))
      · refine br_f o3 ?_
        by_cases o11 : nI n = 11
        · refine br_t o11 ?_
          by_cases h3 : vp_in a 8
          · refine am_Xy 8 h3 (br_f (by decide) ?_)
            by_cases ek : a = k
            · exact br_t ek (hn (fun w => (w.2.2.2.2 o11).2 (by rw [ek])))
            · refine br_f ek (hy ⟨h2, ⟨n, hn12, rfl⟩, fun w => absurd w o3, fun w => by rw [o11] at w; exact absurd w (by decide), fun _ => ⟨h3, fun e => ek ?_⟩⟩)
              rw [(nu_key h3 (by omega)).1, e, ← (nu_key h2 (by omega)).1]
          · exact am_Xn 8 h3 (br_t rfl (hn (fun w => h3 (w.2.2.2.2 o11).1)))
        · refine br_f o11 ?_
          by_cases o7 : nI n < 7
          · refine br_t o7 (hy ⟨h2, ⟨n, hn12, rfl⟩, fun w => absurd w o3, fun w => ?_, fun w => absurd w o11⟩)
            rcases w with w | w | w <;> rw [w] at o7 <;> exact absurd o7 (by decide)
          · refine br_f o7 ?_
            by_cases o10 : nI n = 10
            · exact br_t o10 (hy ⟨h2, ⟨n, hn12, rfl⟩, fun w => absurd w o3, fun w => by rw [o10] at w; exact absurd w (by decide), fun w => absurd w o11⟩)
            · refine br_f o10 ?_
              by_cases h3 : vp_in a 16
              · exact am_Xy 16 h3 (br_f (by decide) (hy ⟨h2, ⟨n, hn12, rfl⟩, fun w => absurd w o3, fun _ => h3, fun w => absurd w o11⟩))
              · refine am_Xn 16 h3 (br_t rfl (hn (fun w => h3 (w.2.2.2.1 ?_))))
                rw [show (7 : Int32) = nI 7 from rfl, nI_ltI (by omega) (by omega)] at o7
                have q10 : n ≠ 10 := fun e => o10 (by rw [e]; rfl)
                have q11 : n ≠ 11 := fun e => o11 (by rw [e]; rfl)
                rcases (by omega : n = 7 ∨ n = 8 ∨ n = 9) with e | e | e <;> subst e <;> decide
    · exact am_Xn 8 h2 (br_t rfl (hn (fun w => h2 w.1)))
  · refine am_Xn 12 h1 (br_t rfl (hn (fun w => h1 ?_)))
    obtain ⟨n, hn12, e⟩ := w.2.1
    rw [e]; exact vp_in_nI hn12 (by omega)
theorem vl_Y {o k a : Int32} {g_time : Int32} {g_waited : Int64} {b_kind b_number b_size b_item b_score b_deadline b_state b_first b_second b_until : Nat → Int32} {b_since : Nat → Int64} {b_watched b_deceived b_op b_opKey b_opA b_opB b_queued : Nat → Int32} {b_answers : Nat → Int64} {b_answered : Nat → Int32} {b_took b_tookFrom : Nat → Int64} {post : Int32 → Prop} (hy : cm_ok o k a → post 1) (hn : ¬ cm_ok o k a → post 0) : wpY_fits post (g_time, g_waited, b_kind, b_number, b_size, b_item, b_score, b_deadline, b_state, b_first, b_second, b_until, b_since, b_watched, b_deceived, b_op, b_opKey, b_opA, b_opB, b_queued, b_answers, b_answered, b_took, b_tookFrom) o k a := by
  unfold wpY_fits
  by_cases h1 : vp_in o 12
  · refine am_Yy 12 h1 (br_f (by decide) ?_)
    obtain ⟨n, hn12, rfl⟩ := vp_in_of h1 (by omega)
    by_cases h2 : vp_in k 8
    · refine am_Yy 8 h2 (br_f (by decide) ?_)
      have h42 : ¬ (nI n = 7 ∨ nI n = 8 ∨ nI n = 9) → wY_fits_42 post (nI n) k a g_time g_waited b_kind b_number b_size b_item b_score b_deadline b_state b_first b_second b_until b_since b_watched b_deceived b_op b_opKey b_opA b_opB b_queued b_answers b_answered b_took b_tookFrom := fun h789 => by
        by_cases o11 : nI n = 11
        · refine br_t o11 ?_
          have o3 : ¬ nI n = 3 := by rw [o11]; decide
          by_cases h3 : vp_in a 8
          · refine am_Yy 8 h3 (br_f (by decide) ?_)
            by_cases ek : a = k
            · exact br_t ek (hn (fun w => (w.2.2.2.2 o11).2 (by rw [ek])))
            · refine br_f ek (hy ⟨h2, ⟨n, hn12, rfl⟩, fun w => absurd w o3, fun w => absurd w h789, fun _ => ⟨h3, fun e => ek ?_⟩⟩)
              rw [(nu_key h3 (by omega)).1, e, ← (nu_key h2 (by omega)).1]
          · exact am_Yn 8 h3 (br_t rfl (hn (fun w => h3 (w.2.2.2.2 o11).1)))
        · refine br_f o11 ?_
          by_cases o3 : nI n = 3
          · refine br_t o3 ?_
            by_cases h3 : vp_in a 101
            · exact am_Yy 101 h3 (br_f (by decide) (hy ⟨h2, ⟨n, hn12, rfl⟩, fun _ => h3, fun w => absurd w h789, fun w => absurd w o11⟩))
            · exact am_Yn 101 h3 (br_t rfl (hn (fun w => h3 (w.2.2.1 o3))))
          · exact br_f o3 (hy ⟨h2, ⟨n, hn12, rfl⟩, fun w => absurd w o3, fun w => absurd w h789, fun w => absurd w o11⟩)
      by_cases o6 : nI n ≤ 6
      · refine br_t o6 (h42 (fun w => ?_))
        rcases w with w | w | w <;> rw [w] at o6 <;> exact absurd o6 (by decide)
      · refine br_f o6 ?_
        by_cases o10 : 10 ≤ nI n
        · refine br_t o10 (h42 (fun w => ?_))
          rcases w with w | w | w <;> rw [w] at o10 <;> exact absurd o10 (by decide)
        · refine br_f o10 ?_
          rw [show (6 : Int32) = nI 6 from rfl, nI_leI (by omega) (by omega)] at o6
          rw [show (10 : Int32) = nI 10 from rfl, nI_leI (by omega) (by omega)] at o10
          have h789 : nI n = 7 ∨ nI n = 8 ∨ nI n = 9 := by
            rcases (by omega : n = 7 ∨ n = 8 ∨ n = 9) with e | e | e <;> subst e <;> decide
          have o3 : ¬ nI n = 3 := by rcases h789 with e | e | e <;> rw [e] <;> decide
          have o11 : ¬ nI n = 11 := by rcases h789 with e | e | e <;> rw [e] <;> decide
          by_cases h3 : vp_in a 16
          · exact am_Yy 16 h3 (And.intro rfl (hy ⟨h2, ⟨n, hn12, rfl⟩, fun w => absurd w o3, fun _ => h3, fun w => absurd w o11⟩))
          · exact am_Yn 16 h3 (And.intro rfl (hn (fun w => h3 (w.2.2.2.1 h789))))
    · exact am_Yn 8 h2 (br_t rfl (hn (fun w => h2 w.1)))
  · refine am_Yn 12 h1 (br_t rfl (hn (fun w => h1 ?_)))
    obtain ⟨n, hn12, e⟩ := w.2.1
    rw [e]; exact vp_in_nI hn12 (by omega)
/-- clients after serve -/
theorem co_S {S S2 ga an co ck ca : Nat → Int32} {T T2 : Nat → Int64} {R R2 wf u qu fi se u2 : Nat → Int32} {F F2 : Nat → Int64} (h : rl_C S ga an co ck ca T R wf u qu fi se u2 F) (h2 : ∀ c, S2 c = S c ∨ (S c = 1 ∧ S2 c = 0)) (h3 : sv_T T2 R2 F2) : rl_C S2 ga an co ck ca T2 R2 wf u qu fi se u2 F2 := by
  obtain ⟨h1, hW, _⟩ := h
  refine ⟨fun i hi => ?_, fun i hi e => ?_, h3⟩
  · obtain ⟨a1, a2, a3, a4⟩ := h1 i hi
    rcases h2 i with e | ⟨_, e⟩
    · rw [e]; exact ⟨a1, a2, a3, a4⟩
    · rw [e]; exact ⟨Or.inl rfl, fun w => absurd w (by decide), a3, fun w => absurd w (by decide)⟩
  · rcases h2 i with w | ⟨_, w⟩
    · rw [w] at e; exact hW i hi e
    · rw [w] at e; exact absurd e (by decide)
/-- one command more is gathered -/
theorem co_G {c n : Nat} (hn : n < 8) {o p a : Int32} (hk : cm_ok o p a) {S ga an co ck ca : Nat → Int32} {T : Nat → Int64} {R wf u qu fi se u2 : Nat → Int32} {F : Nat → Int64} (h : rl_C S ga an co ck ca T R wf u qu fi se u2 F) (hg : ga c = nI n) (hs : S c = 2) (hc : c < 4) : rl_C S (upd ga c (nI (n + 1))) an (upd co (8 * c + n) o) (upd ck (8 * c + n) p) (upd ca (8 * c + n) a) T R wf u (upd qu c (nI (n + 1))) fi se u2 F := by
  obtain ⟨h1, h2, h3⟩ := h
  refine ⟨fun i hi => ?_, h2, h3⟩
  obtain ⟨a1, a2, a3, a4⟩ := h1 i hi
  by_cases z : i = c
  · subst z
    rw [pk_us, pk_us]
    refine ⟨a1, fun w => ⟨n + 1, by omega, rfl, rfl, fun j hj => ?_⟩, a3, a4⟩
    by_cases y : j = n
    · subst y
      rw [pk_us, pk_us, pk_us]; exact hk
    · obtain ⟨n', hn', e1, e2, hall⟩ := a2 w
      have en : n' = n := by
        rw [hg] at e1
        exact ((nI_eq (by omega) (by omega)).mp e1).symm
      subst en
      rw [pk_un (by omega), pk_un (by omega), pk_un (by omega)]; exact hall j (by omega)
  · rw [pk_un z, pk_un z]
    refine ⟨a1, fun w => ?_, a3, a4⟩
    obtain ⟨n', hn', e1, e2, hall⟩ := a2 w
    refine ⟨n', hn', e1, e2, fun j hj => ?_⟩
    rw [pk_un (by omega), pk_un (by omega), pk_un (by omega)]; exact hall j hj
theorem i_vc_command {k : Nat} {u : SX} {v : SY} (I : i_Rel k u v) (hk : k + 6 ≤ 3072) (v1 : Int32) (v2 : Int32) (v3 : Int32) (v4 : Int32) (v5 : Int32) : wpX_command (fun r u' => wpY_command (fun r' v' => r' = r ∧ i_Rel (k + 6) u' v') v v1 v2 v3 v4 v5) u v1 v2 v3 v4 v5 := by
  refine zz_el (P := fun u v => wpX_command (fun r u' => wpY_command (fun r' v' => r' = r ∧ i_Rel (k + 6) u' v') v v1 v2 v3 v4 v5) u v1 v2 v3 v4 v5) ?_ I
  intro f_dues f_logged f_safe f_broken f_turns a_kind a_first a_size a_number a_ring a_score a_version a_ranked a_deadline a_due a_logOp a_logKey a_logA a_logB a_state a_gathered a_answered a_watching a_seen a_cOp a_cKey a_cA a_cB a_results a_taken a_waitsFor a_until a_turn a_source b_kind b_number b_size b_item b_score b_deadline b_first b_second b_until b_watched b_deceived b_queued b_tookFrom t A B ht hC hS
  have hS' : i_Rel (k + 6) (f_dues, nI t, f_logged, f_safe, f_broken, 0, f_turns, a_kind, a_first, a_size, a_number, a_ring, a_score, a_version, a_ranked, a_deadline, a_due, a_logOp, a_logKey, a_logA, a_logB, a_state, a_gathered, a_answered, a_watching, a_seen, a_cOp, a_cKey, a_cA, a_cB, a_results, a_taken, a_waitsFor, a_until, a_turn, a_source) (nI t, f_turns, b_kind, b_number, b_size, b_item, b_score, b_deadline, a_state, b_first, b_second, b_until, a_turn, b_watched, b_deceived, a_cOp, a_cKey, a_cA, a_cB, b_queued, a_results, a_answered, a_taken, b_tookFrom) := zz_in ht hC (pr_Sb hS (by omega))
  unfold wpX_command
  by_cases hc : vp_in v1 4
  · have kc := (nu_key hc (by omega)).2
    refine am_Xy 4 hc (br_f (by decide) (And.intro hc ?_))
    by_cases s1 : a_state v1.toNatClampNeg = 1
    · refine br_t s1 ?_
      unfold wpY_command
      exact am_Yy 4 hc (br_f (by decide) (And.intro hc (br_t s1 ⟨rfl, hS'⟩)))
    · refine br_f s1 (vl_X (fun hok => br_f (by decide) (And.intro hc ?_)) (fun hno => br_t rfl ?_))
      · obtain ⟨a1, a2, _, _⟩ := hC.1 _ kc
        by_cases s2 : a_state v1.toNatClampNeg = 2
        · obtain ⟨n, hn, eg, eq, hall⟩ := a2 s2
          refine br_t s2 (And.intro hc ?_)
          rw [eg]
          by_cases n8 : n = 8
          · subst n8
            refine br_t rfl ?_
            unfold wpY_command
            refine am_Yy 4 hc (br_f (by decide) (And.intro hc (br_f s1 (vl_Y (fun _ => br_f (by decide) (And.intro hc (br_f (by rw [s2]; decide) (And.intro hc (br_t eq ⟨rfl, hS'⟩))))) (fun w => absurd hok w)))))
          · have nn : ¬ nI n = 8 := fun e => n8 ((nI_eq (b := 8) (by omega) (by omega)).mp e)
            have hlt : n < 8 := by omega
            have hi : vp_in (nI (8 * v1.toNatClampNeg + n)) 32 := vp_in_nI (by omega) (by omega)
            have ci : (nI (8 * v1.toNatClampNeg + n)).toNatClampNeg = 8 * v1.toNatClampNeg + n := nI_clamp (by omega)
            have eo : vp_nar .byte v2.toInt8.toInt32 = v2 := by
              obtain ⟨q, hq, rfl⟩ := hok.2.1
              exact nu_vb (by omega)
            have ek : vp_nar .byte v3.toInt8.toInt32 = v3 := nu_pb (nu_up hok.1 (by omega) (by omega))
            refine br_f nn (And.intro hc (And.intro hc (nm_r (e' := upd a_gathered v1.toNatClampNeg (nI (n + 1))) (by rw [nI_1, nu_vb (by omega)]) (nm_r (nu_8 hc n) (And.intro hi (nm_r (e' := upd a_cOp (8 * v1.toNatClampNeg + n) v2) (by rw [ci, eo]) (And.intro hi (nm_r (e' := upd a_cKey (8 * v1.toNatClampNeg + n) v3) (by rw [ci, ek]) (And.intro hi (nm_r (e' := upd a_cA (8 * v1.toNatClampNeg + n) v4) (by rw [ci]) (And.intro hi (nm_r (e' := upd a_cB (8 * v1.toNatClampNeg + n) v5) (by rw [ci]) ?_))))))))))))
            unfold wpY_command
            refine am_Yy 4 hc (br_f (by decide) (And.intro hc (br_f s1 (vl_Y (fun _ => br_f (by decide) (And.intro hc (br_f (by rw [s2]; decide) (And.intro hc ?_)))) (fun w => absurd hok w)))))
            rw [eq]
            refine br_f nn (And.intro hc (And.intro hc (nm_r (e' := upd b_queued v1.toNatClampNeg (nI (n + 1))) (by rw [nI_1]) (nm_r (nu_8 hc n) (And.intro hi (nm_r (e' := upd a_cOp (8 * v1.toNatClampNeg + n) v2) (by rw [ci]) (And.intro hi (nm_r (e' := upd a_cKey (8 * v1.toNatClampNeg + n) v3) (by rw [ci]) (And.intro hi (nm_r (e' := upd a_cA (8 * v1.toNatClampNeg + n) v4) (by rw [ci]) (And.intro hi (nm_r (e' := upd a_cB (8 * v1.toNatClampNeg + n) v5) (by rw [ci]) ⟨rfl, ?_⟩))))))))))))
            exact zz_in ht (co_G hlt hok hC eg s2 kc) (pr_Sb hS (by omega))
        · have s0 : a_state v1.toNatClampNeg = 0 := by
            rcases a1 with e | e | e
            · exact e
            · exact absurd e s1
            · exact absurd e s2
          obtain ⟨hok1, ha⟩ := cm_ok1 hok ht
          obtain ⟨A1, K1, L1, V1, M1, D1, r, hS1, WX, WY⟩ := pr_cmd (b := v5) hok.1 (by omega) hok1 ha hS
          obtain ⟨A2, K2, L2, V2, M2, D2, S2, T2, R2, F2, q1, q2, q3, q4, q5⟩ := sv_serve (by omega) hS1 hC.2.1 hC.2.2
          refine br_f s2 (WX _ (q4 _ ?_))
          unfold wpY_command
          exact am_Yy 4 hc (br_f (by decide) (And.intro hc (br_f s1 (vl_Y (fun _ => br_f (by decide) (And.intro hc (br_t s0 (WY _ (q5 _ ⟨rfl, zz_in ht (co_S hC q3 q2) (pr_Sb q1 (by omega))⟩))))) (fun w => absurd hok w)))))
      · unfold wpY_command
        exact am_Yy 4 hc (br_f (by decide) (And.intro hc (br_f s1 (vl_Y (fun w => absurd w hno) (fun _ => br_t rfl ⟨rfl, hS'⟩)))))
  · refine am_Xn 4 hc (br_t rfl ?_)
    unfold wpY_command
    exact am_Yn 4 hc (br_t rfl ⟨rfl, hS'⟩)
end
section
/-! ===== commit ===== -/
theorem dv_2 {c : Int32} (hc : vp_in c 4) {bd : Nat} {a_version a_seen a_watching wy D : Nat → Int32} (hV : rl_V bd a_version a_seen a_watching wy D) {f_dues f_time f_logged f_safe f_broken f_silent : Int32} {f_turns : Int64} {a_kind a_first a_size a_number a_ring a_score a_ranked a_deadline a_due a_logOp a_logKey a_logA a_logB a_state a_gathered a_answered a_cOp a_cKey a_cA a_cB : Nat → Int32} {a_results a_taken : Nat → Int64} {a_waitsFor a_until : Nat → Int32} {a_turn : Nat → Int64} {a_source : Nat → Int32} {post : Int32 → Prop} (hpost : post (D c.toNatClampNeg)) : ∀ k x, x + k = 8 → (∀ j, j < x → ¬ (yb_t (wy c.toNatClampNeg) (nI j) ∧ a_seen (8 * c.toNatClampNeg + j) ≠ a_version j)) → ∀ n, k < n → wX_deceived_2 post c f_dues f_time f_logged f_safe f_broken f_silent f_turns a_kind a_first a_size a_number a_ring a_score a_version a_ranked a_deadline a_due a_logOp a_logKey a_logA a_logB a_state a_gathered a_answered a_watching a_seen a_cOp a_cKey a_cA a_cB a_results a_taken a_waitsFor a_until a_turn a_source n (nI x) := by
  have kc := (nu_key hc (by omega)).2
  obtain ⟨b1, b2, b3, b4⟩ := hV.2 _ kc
  intro k
  induction k with
  | zero =>
    intro x hx hno n hn
    obtain ⟨n, rfl⟩ := nu_suc hn
    have e : x = 8 := by omega
    subst e
    have hne : ¬ D c.toNatClampNeg = 1 := fun e => by
      obtain ⟨j, hj, h1, h2⟩ := b4.mp e
      exact hno j hj ⟨h1, h2⟩
    have hD : D c.toNatClampNeg = 0 := b3.resolve_right hne
    rw [hD] at hpost
    exact br_t (nI_le (a := 8) (b := 8) (by omega) (by omega)) hpost
  | succ k ih =>
    intro x hx hno n hn
    obtain ⟨n, rfl⟩ := nu_suc hn
    have cx : (nI x).toNatClampNeg = x := nI_clamp (by omega)
    have hx8 : x < 8 := by omega
    refine br_f (nI_ge (b := 8) hx8 (by omega)) (And.intro hc ?_)
    by_cases hb : yb_t (a_watching c.toNatClampNeg) (nI x)
    · refine br_t hb (And.intro (nu_8x hc hx8) (And.intro (vp_in_nI hx8 (by omega)) ?_))
      rw [nu_8c hc (by omega), cx]
      by_cases e : a_seen (8 * c.toNatClampNeg + x) = a_version x
      · refine br_t e (nm_r (nI_1 x) (ih (x + 1) (by omega) (fun j hj => ?_) n (by omega)))
        by_cases z : j = x
        · subst z; exact fun w => w.2 e
        · exact hno j (by omega)
      · have hD : D c.toNatClampNeg = 1 := b4.mpr ⟨x, hx8, (b1 x hx8).mp hb, e⟩
        rw [hD] at hpost
        exact br_f e hpost
    · refine br_f hb (nm_r (nI_1 x) (ih (x + 1) (by omega) (fun j hj => ?_) n (by omega)))
      by_cases z : j = x
      · subst z; exact fun w => hb ((b1 j hx8).mpr w.1)
      · exact hno j (by omega)
theorem dv_X {c : Int32} (hc : vp_in c 4) {bd : Nat} {a_version a_seen a_watching wy D : Nat → Int32} (hV : rl_V bd a_version a_seen a_watching wy D) {f_dues f_time f_logged f_safe f_broken f_silent : Int32} {f_turns : Int64} {a_kind a_first a_size a_number a_ring a_score a_ranked a_deadline a_due a_logOp a_logKey a_logA a_logB a_state a_gathered a_answered a_cOp a_cKey a_cA a_cB : Nat → Int32} {a_results a_taken : Nat → Int64} {a_waitsFor a_until : Nat → Int32} {a_turn : Nat → Int64} {a_source : Nat → Int32} {post : Int32 → Prop} (hpost : post (D c.toNatClampNeg)) : wpX_deceived post (f_dues, f_time, f_logged, f_safe, f_broken, f_silent, f_turns, a_kind, a_first, a_size, a_number, a_ring, a_score, a_version, a_ranked, a_deadline, a_due, a_logOp, a_logKey, a_logA, a_logB, a_state, a_gathered, a_answered, a_watching, a_seen, a_cOp, a_cKey, a_cA, a_cB, a_results, a_taken, a_waitsFor, a_until, a_turn, a_source) c :=
  ⟨9, dv_2 hc hV hpost 8 0 (by omega) (fun j hj => by omega) 9 (by omega)⟩
theorem ct_C {c n : Nat} (hn : n ≤ 8) {S ga an co ck ca : Nat → Int32} {T : Nat → Int64} {R wf u qu fi se u2 : Nat → Int32} {F : Nat → Int64} (h : rl_C S ga an co ck ca T R wf u qu fi se u2 F) : rl_C S ga (upd an c (nI n)) co ck ca T R wf u qu fi se u2 F := by
  obtain ⟨h1, h2, h3⟩ := h
  refine ⟨fun i hi => ?_, h2, h3⟩
  obtain ⟨a1, a2, a3, a4⟩ := h1 i hi
  refine ⟨a1, a2, ?_, a4⟩
  by_cases z : i = c
  · rw [z, pk_us]; exact ⟨n, hn, rfl⟩
  · rw [pk_un z]; exact a3
theorem i_vc_commit {k : Nat} {u : SX} {v : SY} (I : i_Rel k u v) (hk : k + 6 ≤ 3072) (v1 : Int32) : wpX_commit (fun r u' => wpY_commit (fun r' v' => r' = r ∧ i_Rel (k + 6) u' v') v v1) u v1 := by
  refine zz_el (P := fun u v => wpX_commit (fun r u' => wpY_commit (fun r' v' => r' = r ∧ i_Rel (k + 6) u' v') v v1) u v1) ?_ I
  intro f_dues f_logged f_safe f_broken f_turns a_kind a_first a_size a_number a_ring a_score a_version a_ranked a_deadline a_due a_logOp a_logKey a_logA a_logB a_state a_gathered a_answered a_watching a_seen a_cOp a_cKey a_cA a_cB a_results a_taken a_waitsFor a_until a_turn a_source b_kind b_number b_size b_item b_score b_deadline b_first b_second b_until b_watched b_deceived b_queued b_tookFrom t A B ht hC hS
  have hS' : i_Rel (k + 6) (f_dues, nI t, f_logged, f_safe, f_broken, 0, f_turns, a_kind, a_first, a_size, a_number, a_ring, a_score, a_version, a_ranked, a_deadline, a_due, a_logOp, a_logKey, a_logA, a_logB, a_state, a_gathered, a_answered, a_watching, a_seen, a_cOp, a_cKey, a_cA, a_cB, a_results, a_taken, a_waitsFor, a_until, a_turn, a_source) (nI t, f_turns, b_kind, b_number, b_size, b_item, b_score, b_deadline, a_state, b_first, b_second, b_until, a_turn, b_watched, b_deceived, a_cOp, a_cKey, a_cA, a_cB, b_queued, a_results, a_answered, a_taken, b_tookFrom) := zz_in ht hC (pr_Sb hS (by omega))
  unfold wpX_commit
  by_cases h : vp_in v1 4 ∧ a_state v1.toNatClampNeg = 2
  · obtain ⟨hc, hs⟩ := h
    have kc := (nu_key hc (by omega)).2
    obtain ⟨_, a2, _, _⟩ := hC.1 _ kc
    obtain ⟨n, hn, eg, eq, hall⟩ := a2 hs
    have hSz : pr_S (64 * k) 0 f_safe a_seen (upd a_watching v1.toNatClampNeg 0) (upd b_watched v1.toNatClampNeg 0) A B (f_dues, a_kind, a_first, a_size, a_number, a_ring, a_score, a_ranked, a_deadline, a_due) (f_logged, f_broken, a_logOp, a_logKey, a_logA, a_logB) a_version (b_kind, b_number, b_size, b_item, b_score, b_deadline) (upd b_deceived v1.toNatClampNeg 0) := ⟨hS.1, hS.2.1, hS.2.2.1, rl_Vz hS.2.2.2⟩
    refine ic_y hc hs (br_f (by decide) (And.intro hc (nm_r (e' := upd a_state v1.toNatClampNeg 0) (by rw [nu_b0]) (dv_X hc hS.2.2.2 (And.intro hc (nm_r (e' := upd a_watching v1.toNatClampNeg 0) (by rw [nu_b0]) ?_))))))
    by_cases hD : b_deceived v1.toNatClampNeg = 0
    · obtain ⟨A1, K1, L1, V1, M1, D1, Q1, hS1, WX, WY⟩ := cm_loop hc hn ht hall n 0 (64 * k) A _ _ _ _ _ a_results (by omega) (by omega) hSz
      obtain ⟨A2, K2, L2, V2, M2, D2, S2, T2, R2, F2, q1, q2, q3, q4, q5⟩ := sv_serve (by omega) hS1 (sv_W1 hC.2.1 v1.toNatClampNeg (v := 0) (by decide)) hC.2.2
      rw [hD]
      refine br_t rfl (And.intro hc (nm_r eg (nm_r (nu_8z hc) (WX _ (fun m => br_t (by rw [nu_8 hc]; exact nI_le (by omega) (by omega)) (And.intro hc (nm_r (e' := upd a_answered v1.toNatClampNeg (nI n)) (by rw [nu_vb (by omega)]) (q4 _ ?_))))))))
      unfold wpY_commit
      refine am_Yy 4 hc (br_f (by decide) (And.intro hc (br_t hs (And.intro hc (nm_r hD (And.intro hc (nm_r eq (cr_uw hc (br_t rfl (And.intro hc (nm_e (nm_r (nu_8z hc) (WY _ (fun m => br_t (by rw [nu_8 hc]; exact nI_le (by omega) (by omega)) (q5 _ ⟨rfl, ?_⟩)))))))))))))))
      exact zz_in ht (co_S (ct_C hn (cn_C hC)) q3 q2) (pr_Sb q1 (by omega))
    · refine br_f hD ?_
      unfold wpY_commit
      exact am_Yy 4 hc (br_f (by decide) (And.intro hc (br_t hs (And.intro hc (nm_e (And.intro hc (nm_r eq (cr_uw hc (br_f hD ⟨rfl, zz_in ht (cn_C hC) (pr_Sb hSz (by omega))⟩)))))))))
  · refine ic_n h (br_t rfl ?_)
    unfold wpY_commit
    by_cases hc : vp_in v1 4
    · exact am_Yy 4 hc (br_f (by decide) (And.intro hc (br_f (fun e => h ⟨hc, e⟩) ⟨rfl, hS'⟩)))
    · exact am_Yn 4 hc (br_t rfl ⟨rfl, hS'⟩)
end
section
/-! ===== tick ===== -/
theorem tc_c {t : Int32} {A B : Nat → ak_T} : ex_cY t 0 (ab_c A B) = ex_c t A := by
  funext j
  unfold ex_cY ex_c
  by_cases w : j < 8
  · rw [ab_lo w]
    by_cases q : ex_p t (A j)
    · rw [decide_eq_true ⟨⟨Nat.zero_le j, w⟩, q⟩, decide_eq_true ⟨w, q⟩]
    · rw [decide_eq_false (fun h => q h.2), decide_eq_false (fun h => q h.2)]
  · rw [decide_eq_false (fun h => w h.1.2), decide_eq_false (fun h => w h.1)]
theorem tc_Y {t : Int32} {A B : Nat → ak_T} : ex_Y t 0 (ab_c A B) = ab_c (ex_A t A) B := by
  funext j
  unfold ex_Y
  by_cases w : j < 8
  · rw [if_pos ⟨Nat.zero_le j, w⟩, ab_lo w, ab_lo w]; rfl
  · rw [if_neg (fun h => w h.2), ab_hi (by omega), ab_hi (by omega)]
theorem tc_s (t : Int32) (u S : Nat → Int32) (c : Nat) : tk_s t u S 4 c = S c ∨ (S c = 1 ∧ tk_s t u S 4 c = 0) := by
  unfold tk_s
  by_cases z : c < 4 ∧ (S c = 1 ∧ (u c ≠ -1 ∧ u c ≤ t))
  · rw [if_pos z]; exact Or.inr ⟨z.2.1, rfl⟩
  · rw [if_neg z]; exact Or.inl rfl
theorem i_vc_tick {k : Nat} {u : SX} {v : SY} (I : i_Rel k u v) (hk : k + 6 ≤ 3072) (v1 : Int32) : wpX_tick (fun r u' => wpY_tick (fun r' v' => r' = r ∧ i_Rel (k + 6) u' v') v v1) u v1 := by
  refine zz_el (P := fun u v => wpX_tick (fun r u' => wpY_tick (fun r' v' => r' = r ∧ i_Rel (k + 6) u' v') v v1) u v1) ?_ I
  intro f_dues f_logged f_safe f_broken f_turns a_kind a_first a_size a_number a_ring a_score a_version a_ranked a_deadline a_due a_logOp a_logKey a_logA a_logB a_state a_gathered a_answered a_watching a_seen a_cOp a_cKey a_cA a_cB a_results a_taken a_waitsFor a_until a_turn a_source b_kind b_number b_size b_item b_score b_deadline b_first b_second b_until b_watched b_deceived b_queued b_tookFrom t A B ht hC hS
  have hS' : i_Rel (k + 6) (f_dues, nI t, f_logged, f_safe, f_broken, 0, f_turns, a_kind, a_first, a_size, a_number, a_ring, a_score, a_version, a_ranked, a_deadline, a_due, a_logOp, a_logKey, a_logA, a_logB, a_state, a_gathered, a_answered, a_watching, a_seen, a_cOp, a_cKey, a_cA, a_cB, a_results, a_taken, a_waitsFor, a_until, a_turn, a_source) (nI t, f_turns, b_kind, b_number, b_size, b_item, b_score, b_deadline, a_state, b_first, b_second, b_until, a_turn, b_watched, b_deceived, a_cOp, a_cKey, a_cA, a_cB, b_queued, a_results, a_answered, a_taken, b_tookFrom) := zz_in ht hC (pr_Sb hS (by omega))
  unfold wpX_tick
  by_cases h1 : vp_in v1 51
  · obtain ⟨j, hj, rfl⟩ := vp_in_of h1 (by omega)
    refine am_Xy 51 h1 (br_f (by decide) ?_)
    rw [nI_add]
    by_cases h2 : t + j ≤ 1000000000
    · have hle : nI (t + j) ≤ 1000000000 := nI_le (b := 1000000000) h2 (by omega)
      obtain ⟨hK, hL, hY, hV⟩ := hS
      obtain ⟨K2, L2, hK2, hL2, WX⟩ := ex_X (f_time := nI (t + j)) (ex_n (nI (t + j)) A) 0 A _ _ a_version rfl hK hL
      obtain ⟨M2, hM2, WY⟩ := ex_T37 (g_time := nI (t + j)) 8 0 0 (ab_c A B) _ b_deceived b_watched (by omega) hY
      rw [tc_Y] at hM2
      rw [tc_c] at WY
      refine br_t hle (nm_e (WX _ ?_))
      have hw := tk_X (r := nI (0 + ex_n (nI (t + j)) A)) (S := a_state) (post := fun r u' => wpY_tick (fun r' v' => r' = r ∧ i_Rel (k + 6) u' v') (nI t, f_turns, b_kind, b_number, b_size, b_item, b_score, b_deadline, a_state, b_first, b_second, b_until, a_turn, b_watched, b_deceived, a_cOp, a_cKey, a_cA, a_cB, b_queued, a_results, a_answered, a_taken, b_tookFrom) (nI j)) (f_dues := K2.1) (f_time := nI (t + j)) (f_logged := L2.1) (f_safe := f_safe) (f_broken := L2.2.1) (f_silent := 0) (f_turns := f_turns) (a_kind := K2.2.1) (a_first := K2.2.2.1) (a_size := K2.2.2.2.1) (a_number := K2.2.2.2.2.1) (a_ring := K2.2.2.2.2.2.1) (a_score := K2.2.2.2.2.2.2.1) (a_version := xv_u (ex_c (nI (t + j)) A) a_version) (a_ranked := K2.2.2.2.2.2.2.2.1) (a_deadline := K2.2.2.2.2.2.2.2.2.1) (a_due := K2.2.2.2.2.2.2.2.2.2) (a_logOp := L2.2.2.1) (a_logKey := L2.2.2.2.1) (a_logA := L2.2.2.2.2.1) (a_logB := L2.2.2.2.2.2) (a_gathered := a_gathered) (a_answered := a_answered) (a_watching := a_watching) (a_seen := a_seen) (a_cOp := a_cOp) (a_cKey := a_cKey) (a_cA := a_cA) (a_cB := a_cB) (a_results := a_results) (a_taken := a_taken) (a_waitsFor := a_waitsFor) (a_until := a_until) (a_turn := a_turn) (a_source := a_source) ?_ 4 0 (by omega) 5 (by omega)
      · rw [tk_s0] at hw
        exact ⟨5, hw⟩
      · show wpY_tick (fun r' v' => r' = nI (0 + ex_n (nI (t + j)) A) ∧ i_Rel (k + 6) _ v') (nI t, f_turns, b_kind, b_number, b_size, b_item, b_score, b_deadline, a_state, b_first, b_second, b_until, a_turn, b_watched, b_deceived, a_cOp, a_cKey, a_cA, a_cB, b_queued, a_results, a_answered, a_taken, b_tookFrom) (nI j)
        unfold wpY_tick
        refine am_Yy 51 h1 (br_f (by decide) ?_)
        rw [nI_add]
        refine br_t hle (nm_e (WY _ (fun m => br_t (nI_le (a := 8) (b := 8) (by omega) (by omega)) ⟨5, ?_⟩)))
        have hw := tk_Y (r := nI (0 + en_C 8 (ex_c (nI (t + j)) A))) (S := a_state) (a_until := a_until) (b_until := b_until) (fun c hc => (hC.1 c hc).2.2.2) (post := fun r' v' => r' = nI (0 + ex_n (nI (t + j)) A) ∧ i_Rel (k + 6) (K2.1, nI (t + j), L2.1, f_safe, L2.2.1, 0, f_turns, K2.2.1, K2.2.2.1, K2.2.2.2.1, K2.2.2.2.2.1, K2.2.2.2.2.2.1, K2.2.2.2.2.2.2.1, xv_u (ex_c (nI (t + j)) A) a_version, K2.2.2.2.2.2.2.2.1, K2.2.2.2.2.2.2.2.2.1, K2.2.2.2.2.2.2.2.2.2, L2.2.2.1, L2.2.2.2.1, L2.2.2.2.2.1, L2.2.2.2.2.2, tk_s (nI (t + j)) a_until a_state 4, a_gathered, a_answered, a_watching, a_seen, a_cOp, a_cKey, a_cA, a_cB, a_results, a_taken, a_waitsFor, a_until, a_turn, a_source) v') (g_time := nI (t + j)) (g_waited := f_turns) (b_kind := M2.1) (b_number := M2.2.1) (b_size := M2.2.2.1) (b_item := M2.2.2.2.1) (b_score := M2.2.2.2.2.1) (b_deadline := M2.2.2.2.2.2) (b_first := b_first) (b_second := b_second) (b_since := a_turn) (b_watched := b_watched) (b_deceived := yv_u (ex_c (nI (t + j)) A) b_watched b_deceived) (b_op := a_cOp) (b_opKey := a_cKey) (b_opA := a_cA) (b_opB := a_cB) (b_queued := b_queued) (b_answers := a_results) (b_answered := a_answered) (b_took := a_taken) (b_tookFrom := b_tookFrom) ⟨rfl, ?_⟩ 4 0 (by omega) 5 (by omega)
        · rw [tk_s0] at hw
          exact hw
        · exact zz_in h2 (co_S hC (tc_s _ _ _) hC.2.2) (pr_Sb (bd := 64 * k + 1) ⟨hK2, hL2, hM2, rl_V1 (by omega) hV _⟩ (by omega))
    · have hnle : ¬ nI (t + j) ≤ 1000000000 := nI_ge (a := 1000000000) (by omega) (by omega)
      refine br_f hnle ?_
      unfold wpY_tick
      refine am_Yy 51 h1 (br_f (by decide) ?_)
      rw [nI_add]
      exact br_f hnle ⟨rfl, hS'⟩
  · refine am_Xn 51 h1 (br_t rfl ?_)
    unfold wpY_tick
    exact am_Yn 51 h1 (br_t rfl ⟨rfl, hS'⟩)
/-! ===== sync, rewrite ===== -/
theorem sy_L {f_safe : Int32} {L : lo_T} {A B : Nat → ak_T} (h : lo_R 0 f_safe L A B) : lo_I f_safe L A B := by
  rcases h with h | h
  · exact h.2
  · exact absurd h (by decide)
theorem sy_Y {A B : Nat → ak_T} {M : yk_T} (h : yr_K (cr_s 0 (ab_c A B)) M) : yr_K (ab_c A A) M := yr_eq h (fun k hk => by
  unfold cr_s
  by_cases w : k < 8
  · rw [if_neg (by omega), ab_lo w, ab_lo w]
  · rw [if_pos (by omega), ab_hi (by omega), ab_lo (by omega)])
theorem i_vc_sync {k : Nat} {u : SX} {v : SY} (I : i_Rel k u v) (hk : k + 6 ≤ 3072) : wpX_sync (fun u' => wpY_sync (fun v' => i_Rel (k + 6) u' v') v) u := by
  refine zz_el (P := fun u v => wpX_sync (fun u' => wpY_sync (fun v' => i_Rel (k + 6) u' v') v) u) ?_ I
  intro f_dues f_logged f_safe f_broken f_turns a_kind a_first a_size a_number a_ring a_score a_version a_ranked a_deadline a_due a_logOp a_logKey a_logA a_logB a_state a_gathered a_answered a_watching a_seen a_cOp a_cKey a_cA a_cB a_results a_taken a_waitsFor a_until a_turn a_source b_kind b_number b_size b_item b_score b_deadline b_first b_second b_until b_watched b_deceived b_queued b_tookFrom t A B ht hC hS
  obtain ⟨hK, hL, hY, hV⟩ := hS
  have hV' := rl_Vb (bd' := 64 * (k + 6)) hV (by omega)
  obtain ⟨M2, hM2, WY⟩ := cr_sync 8 0 (ab_c A B) _ (by omega) hY
  have hM3 := sy_Y hM2
  have hLI := sy_L hL
  by_cases hb : f_broken = 0
  · refine br_t hb (WY _ ?_)
    obtain ⟨n, m, e1, e2, hmn, hn, hv, hB, hA⟩ := hLI
    have hL' : lo_R 0 f_logged (f_logged, f_broken, a_logOp, a_logKey, a_logA, a_logB) A A := Or.inl ⟨rfl, n, n, e1, e1, Nat.le_refl n, hn, hv, hA hb, hA⟩
    exact zz_in ht hC ⟨hK, hL', hM3, hV'⟩
  · obtain ⟨L, hL1, hL2, W⟩ := wa_anew (a_logOp := a_logOp) (a_logKey := a_logKey) (a_logA := a_logA) (a_logB := a_logB) hK
    refine br_f hb (W f_safe _ (WY _ ?_))
    exact zz_in ht hC ⟨hK, Or.inl ⟨rfl, hL1⟩, hM3, hV'⟩
theorem i_vc_rewrite {k : Nat} {u : SX} {v : SY} (I : i_Rel k u v) (hk : k + 6 ≤ 3072) : wpX_rewrite (fun u' => wpY_rewrite (fun v' => i_Rel (k + 6) u' v') v) u := by
  refine zz_el (P := fun u v => wpX_rewrite (fun u' => wpY_rewrite (fun v' => i_Rel (k + 6) u' v') v) u) ?_ I
  intro f_dues f_logged f_safe f_broken f_turns a_kind a_first a_size a_number a_ring a_score a_version a_ranked a_deadline a_due a_logOp a_logKey a_logA a_logB a_state a_gathered a_answered a_watching a_seen a_cOp a_cKey a_cA a_cB a_results a_taken a_waitsFor a_until a_turn a_source b_kind b_number b_size b_item b_score b_deadline b_first b_second b_until b_watched b_deceived b_queued b_tookFrom t A B ht hC hS
  have hS' : i_Rel (k + 6) (f_dues, nI t, f_logged, f_safe, f_broken, 0, f_turns, a_kind, a_first, a_size, a_number, a_ring, a_score, a_version, a_ranked, a_deadline, a_due, a_logOp, a_logKey, a_logA, a_logB, a_state, a_gathered, a_answered, a_watching, a_seen, a_cOp, a_cKey, a_cA, a_cB, a_results, a_taken, a_waitsFor, a_until, a_turn, a_source) (nI t, f_turns, b_kind, b_number, b_size, b_item, b_score, b_deadline, a_state, b_first, b_second, b_until, a_turn, b_watched, b_deceived, a_cOp, a_cKey, a_cA, a_cB, b_queued, a_results, a_answered, a_taken, b_tookFrom) := zz_in ht hC (pr_Sb hS (by omega))
  have hY' : wpY_rewrite (fun v' => i_Rel (k + 6) (f_dues, nI t, f_logged, f_safe, f_broken, 0, f_turns, a_kind, a_first, a_size, a_number, a_ring, a_score, a_version, a_ranked, a_deadline, a_due, a_logOp, a_logKey, a_logA, a_logB, a_state, a_gathered, a_answered, a_watching, a_seen, a_cOp, a_cKey, a_cA, a_cB, a_results, a_taken, a_waitsFor, a_until, a_turn, a_source) v') (nI t, f_turns, b_kind, b_number, b_size, b_item, b_score, b_deadline, a_state, b_first, b_second, b_until, a_turn, b_watched, b_deceived, a_cOp, a_cKey, a_cA, a_cB, b_queued, a_results, a_answered, a_taken, b_tookFrom) := hS'
  by_cases hs : f_safe = f_logged
  · by_cases hb : f_broken = 0
    · obtain ⟨hK, hL, hY, hV⟩ := hS
      have hV' := rl_Vb (bd' := 64 * (k + 6)) hV (by omega)
      obtain ⟨n, m, e1, e2, hmn, hn, hv, hB, hA⟩ := sy_L hL
      have enm : m = n := by
        dsimp only at e1
        rw [e1, e2] at hs
        exact (nI_eq (by omega) (by omega)).mp hs
      subst enm
      have eAB : B = A := hB.symm.trans (hA hb)
      subst eAB
      obtain ⟨L, hL1, hL2, W⟩ := wa_anew (a_logOp := a_logOp) (a_logKey := a_logKey) (a_logA := a_logA) (a_logB := a_logB) hK
      refine br_t hs (br_t hb (W f_safe _ ?_))
      show i_Rel (k + 6) (f_dues, nI t, L.1, L.1, L.2.1, 0, f_turns, a_kind, a_first, a_size, a_number, a_ring, a_score, a_version, a_ranked, a_deadline, a_due, L.2.2.1, L.2.2.2.1, L.2.2.2.2.1, L.2.2.2.2.2, a_state, a_gathered, a_answered, a_watching, a_seen, a_cOp, a_cKey, a_cA, a_cB, a_results, a_taken, a_waitsFor, a_until, a_turn, a_source) (nI t, f_turns, b_kind, b_number, b_size, b_item, b_score, b_deadline, a_state, b_first, b_second, b_until, a_turn, b_watched, b_deceived, a_cOp, a_cKey, a_cA, a_cB, b_queued, a_results, a_answered, a_taken, b_tookFrom)
      exact zz_in ht hC ⟨hK, Or.inl ⟨rfl, hL1⟩, hY, hV'⟩
    · exact br_t hs (br_f hb hY')
  · exact br_f hs hY'
end
section
/-! ===== crash ===== -/
theorem ch_Y {t : Int32} {A B : Nat → ak_T} {M : yk_T} (h : yr_K (cr_Y t 0 (ab_c A B)) M) : yr_K (ab_c (ex_A t B) B) M := yr_eq h (fun k hk => by
  unfold cr_Y
  by_cases w : k < 8
  · rw [if_pos ⟨Nat.zero_le k, w⟩, ab_lo w, ab_hi (by omega), Nat.add_sub_cancel_left]; rfl
  · rw [if_neg (fun h => w h.2), ab_hi (by omega), ab_hi (by omega)])
theorem ch_n {t : Int32} {A B : Nat → ak_T} : cr_n t 0 (ab_c A B) = en_C 8 (fun k => decide (0 ≤ k ∧ ¬ (ex_A t B k).1 = 0)) := by
  refine en_Ccg (fun j hj => ?_)
  rw [ab_hi (by omega), Nat.add_sub_cancel_left]; rfl
theorem ch_z {x c : Nat} {v : Int32} {S : Nat → Int32} (h : c < x) : cr_z x v S c = v := if_pos h
theorem ch_zL {x c : Nat} {v : Int64} {S : Nat → Int64} (h : c < x) : cr_zL x v S c = v := if_pos h
theorem ch_C {S ga an co ck ca : Nat → Int32} {T : Nat → Int64} {R wf u qu fi se u2 : Nat → Int32} {F : Nat → Int64} : rl_C (cr_z 4 0 S) ga (cr_z 4 0 an) co ck ca (cr_zL 4 10000000006 T) R wf u (cr_z 4 0 qu) fi se u2 (cr_zL 4 10000000006 F) := by
  refine ⟨fun i hi => ?_, fun i hi e => ?_, fun i hi => ?_⟩
  · rw [ch_z hi]
    exact ⟨Or.inl rfl, fun e => absurd e (by decide), ⟨0, by omega, ch_z hi⟩, fun e => absurd e (by decide)⟩
  · rw [ch_z hi] at e; exact absurd e (by decide)
  · rw [ch_zL hi, ch_zL hi]; exact Or.inl ⟨rfl, rfl⟩
theorem ch_V {bd : Nat} {V sn wx wy D : Nat → Int32} (h : ∀ j, j < 8 → ∃ n : Nat, n ≤ bd ∧ V j = nI n) : rl_V bd V sn (cr_z 4 0 wx) (cr_z 4 0 wy) (cr_z 4 0 D) := by
  refine ⟨h, fun i hi => ?_⟩
  rw [ch_z hi, ch_z hi, ch_z hi]
  exact ⟨fun j hj => Iff.rfl, fun j hj w => absurd w (yb_0 j hj), Or.inl rfl, ⟨fun e => absurd e (by decide), fun ⟨j, hj, w, _⟩ => absurd w (yb_0 j hj)⟩⟩
theorem ch_66 {r : Int32} {g_time : Int32} {g_waited : Int64} {b_kind b_number b_size b_item b_score b_deadline b_state b_first b_second b_until : Nat → Int32} {b_since : Nat → Int64} {b_watched b_deceived b_op b_opKey b_opA b_opB b_queued : Nat → Int32} {b_answers : Nat → Int64} {b_answered : Nat → Int32} {b_took b_tookFrom : Nat → Int64} {post : Int32 → SY → Prop} (hpost : post r (g_time, g_waited, b_kind, b_number, b_size, b_item, b_score, b_deadline, cr_z 4 0 b_state, b_first, b_second, b_until, b_since, cr_z 4 0 b_watched, cr_z 4 0 b_deceived, b_op, b_opKey, b_opA, b_opB, cr_z 4 0 b_queued, b_answers, cr_z 4 0 b_answered, cr_zL 4 10000000006 b_took, cr_zL 4 10000000006 b_tookFrom)) : ∃ m, wY_crash_66 post r m 0 g_time g_waited b_kind b_number b_size b_item b_score b_deadline b_state b_first b_second b_until b_since b_watched b_deceived b_op b_opKey b_opA b_opB b_queued b_answers b_answered b_took b_tookFrom := by
  have hw := cr_66 hpost 4 0 (by omega)
  rw [cr_z0, cr_z0, cr_z0, cr_z0, cr_z0, cr_zL0, cr_zL0] at hw
  exact hw
theorem i_vc_crash {k : Nat} {u : SX} {v : SY} (I : i_Rel k u v) (hk : k + 6 ≤ 3072) : wpX_crash (fun r u' => wpY_crash (fun r' v' => r' = r ∧ i_Rel (k + 6) u' v') v) u := by
  refine zz_el (P := fun u v => wpX_crash (fun r u' => wpY_crash (fun r' v' => r' = r ∧ i_Rel (k + 6) u' v') v) u) ?_ I
  intro f_dues f_logged f_safe f_broken f_turns a_kind a_first a_size a_number a_ring a_score a_version a_ranked a_deadline a_due a_logOp a_logKey a_logA a_logB a_state a_gathered a_answered a_watching a_seen a_cOp a_cKey a_cA a_cB a_results a_taken a_waitsFor a_until a_turn a_source b_kind b_number b_size b_item b_score b_deadline b_first b_second b_until b_watched b_deceived b_queued b_tookFrom t A B ht hC hS
  obtain ⟨hK, hL, hY, hV⟩ := hS
  obtain ⟨K2, L2, V2, hK2, hL2, hV2, WX⟩ := cr_X (f_time := nI t) hK (sy_L hL) hV.1
  obtain ⟨M2, hM2, WY⟩ := cr_4 (g_time := nI t) 8 0 0 (ab_c A B) _ (by omega) hY
  have hM3 := ch_Y hM2
  rw [ch_n, Nat.zero_add] at WY
  refine WX _ (WY _ (ch_66 ⟨rfl, ?_⟩))
  exact zz_in ht ch_C (pr_Sb (bd := 64 * k + 201) ⟨hK2, Or.inl ⟨rfl, hL2⟩, hM3, ch_V hV2⟩ (by omega))
/-! ===== the constructors ===== -/
theorem in_256 {f_dues f_time f_logged f_safe f_broken f_silent : Int32} {f_turns : Int64} {a_kind a_first a_size a_number a_ring a_score a_version a_ranked a_due a_logOp a_logKey a_logA a_logB a_state a_gathered a_answered a_watching a_seen a_cOp a_cKey a_cA a_cB : Nat → Int32} {a_results a_taken : Nat → Int64} {a_waitsFor a_until : Nat → Int32} {a_turn : Nat → Int64} {a_source : Nat → Int32} {post : SX → Prop} (hpost : post (f_dues, f_time, f_logged, f_safe, f_broken, f_silent, f_turns, a_kind, a_first, a_size, a_number, a_ring, a_score, a_version, a_ranked, cr_z 8 (-1) (fun _ => 0), a_due, a_logOp, a_logKey, a_logA, a_logB, a_state, a_gathered, a_answered, a_watching, a_seen, a_cOp, a_cKey, a_cA, a_cB, a_results, a_taken, a_waitsFor, a_until, a_turn, a_source)) : ∀ k x, x + k = 8 → ∃ m, wX_init_256 post f_dues f_time f_logged f_safe f_broken f_silent f_turns m (nI x) a_kind a_first a_size a_number a_ring a_score a_version a_ranked (cr_z x (-1) (fun _ => 0)) a_due a_logOp a_logKey a_logA a_logB a_state a_gathered a_answered a_watching a_seen a_cOp a_cKey a_cA a_cB a_results a_taken a_waitsFor a_until a_turn a_source := by
  intro k
  induction k with
  | zero =>
    intro x hx
    have e : x = 8 := by omega
    subst e
    exact ⟨1, br_t (nI_le (a := 8) (b := 8) (by omega) (by omega)) hpost⟩
  | succ k ih =>
    intro x hx
    obtain ⟨m, hm⟩ := ih (x + 1) (by omega)
    have cx : (nI x).toNatClampNeg = x := nI_clamp (by omega)
    exact ⟨m + 1, br_f (nI_ge (b := 8) (by omega) (by omega)) (And.intro (vp_in_nI (by omega) (by omega)) (nm_r (by rw [cx, cr_zs]) (nm_r (nI_1 x) hm)))⟩
theorem in_234 {f_dues f_time f_logged f_safe f_broken f_silent : Int32} {f_turns : Int64} {a_kind a_first a_size a_number a_ring a_score a_version a_ranked a_deadline a_due a_logOp a_logKey a_logA a_logB a_state a_gathered a_answered a_watching a_seen a_cOp a_cKey a_cA a_cB : Nat → Int32} {a_results : Nat → Int64} {a_waitsFor a_until : Nat → Int32} {a_turn : Nat → Int64} {a_source : Nat → Int32} {post : SX → Prop} (h : ∃ m, wX_init_256 post f_dues f_time f_logged f_safe f_broken f_silent f_turns m 0 a_kind a_first a_size a_number a_ring a_score a_version a_ranked a_deadline a_due a_logOp a_logKey a_logA a_logB a_state a_gathered a_answered a_watching a_seen a_cOp a_cKey a_cA a_cB a_results (cr_zL 4 10000000006 (fun _ => 0)) a_waitsFor a_until a_turn a_source) : ∀ k x, x + k = 4 → ∃ m, wX_init_234 post f_dues f_time f_logged f_safe f_broken f_silent f_turns m (nI x) a_kind a_first a_size a_number a_ring a_score a_version a_ranked a_deadline a_due a_logOp a_logKey a_logA a_logB a_state a_gathered a_answered a_watching a_seen a_cOp a_cKey a_cA a_cB a_results (cr_zL x 10000000006 (fun _ => 0)) a_waitsFor a_until a_turn a_source := by
  intro k
  induction k with
  | zero =>
    intro x hx
    have e : x = 4 := by omega
    subst e
    exact ⟨1, br_t (nI_le (a := 4) (b := 4) (by omega) (by omega)) h⟩
  | succ k ih =>
    intro x hx
    obtain ⟨m, hm⟩ := ih (x + 1) (by omega)
    have cx : (nI x).toNatClampNeg = x := nI_clamp (by omega)
    exact ⟨m + 1, br_f (nI_ge (b := 4) (by omega) (by omega)) (And.intro (vp_in_nI (by omega) (by omega)) (nm_r (by rw [cx, cr_zLs]) (nm_r (nI_1 x) hm)))⟩
theorem in_173 {g_time : Int32} {g_waited : Int64} {b_kind b_number b_size b_item b_score b_deadline b_state b_first b_second b_until : Nat → Int32} {b_since : Nat → Int64} {b_watched b_deceived b_op b_opKey b_opA b_opB b_queued : Nat → Int32} {b_answers : Nat → Int64} {b_answered : Nat → Int32} {post : SY → Prop} (hpost : post (g_time, g_waited, b_kind, b_number, b_size, b_item, b_score, b_deadline, b_state, b_first, b_second, b_until, b_since, b_watched, b_deceived, b_op, b_opKey, b_opA, b_opB, b_queued, b_answers, b_answered, cr_zL 4 10000000006 (fun _ => 0), cr_zL 4 10000000006 (fun _ => 0))) : ∀ k x, x + k = 4 → ∃ m, wY_init_173 post m (nI x) g_time g_waited b_kind b_number b_size b_item b_score b_deadline b_state b_first b_second b_until b_since b_watched b_deceived b_op b_opKey b_opA b_opB b_queued b_answers b_answered (cr_zL x 10000000006 (fun _ => 0)) (cr_zL x 10000000006 (fun _ => 0)) := by
  intro k
  induction k with
  | zero =>
    intro x hx
    have e : x = 4 := by omega
    subst e
    exact ⟨1, br_t (nI_le (a := 4) (b := 4) (by omega) (by omega)) hpost⟩
  | succ k ih =>
    intro x hx
    obtain ⟨m, hm⟩ := ih (x + 1) (by omega)
    have cx : (nI x).toNatClampNeg = x := nI_clamp (by omega)
    refine ⟨m + 1, br_f (nI_ge (b := 4) (by omega) (by omega)) (cr_ft (vp_in_nI (by omega) (by omega)) (nm_r (nI_1 x) ?_))⟩
    rw [cx, cr_zLs]
    exact hm
theorem nu_e1 : decide ((-1 : Int32) ≠ -1) = false := by decide
theorem in_K : xr_K (fun _ => ak_E) (0, fun _ => 0, fun _ => 0, fun _ => 0, fun _ => 0, fun _ => 0, fun _ => 0, fun _ => 0, cr_z 8 (-1) (fun _ => 0), fun _ => 0) := by
  refine ⟨fun _ _ => rfl, fun k hk => ⟨ak_GE, xr_1E rfl rfl rfl rfl (fun e => absurd e nu_01) ⟨0, by omega, rfl⟩⟩, 0, fun _ => 0, rfl, en_0 (fun m _ => nu_e1), fun i j _ hj => by omega, fun i hi => by omega, fun k hk => show cr_z 8 (-1) (fun _ => 0) k = -1 from ch_z hk⟩
theorem in_L : lo_R 0 0 (0, 0, fun _ => 0, fun _ => 0, fun _ => 0, fun _ => 0) (fun _ => ak_E) (fun _ => ak_E) := Or.inl ⟨rfl, 0, 0, rfl, rfl, Nat.le_refl 0, by omega, fun i hi => by omega, rfl, fun _ => rfl⟩
theorem in_M : yr_K (ab_c (fun _ => ak_E) (fun _ => ak_E)) (fun _ => 0, fun _ => 0, fun _ => 0, fun _ => 0, fun _ => 0, fun _ => 0) := by
  intro k hk
  have e : ab_c (fun _ => ak_E) (fun _ => ak_E) k = ak_E := by
    unfold ab_c
    by_cases w : k < 8
    · rw [if_pos w]
    · rw [if_neg w]
  rw [e]
  exact ⟨ak_GE, yr_1E rfl rfl rfl rfl rfl rfl⟩
theorem nu_02 : ¬ (0 : Int32) = 2 := by decide
theorem in_V : rl_V (64 * 0) (fun _ => 0) (fun _ => 0) (fun _ => 0) (fun _ => 0) (fun _ => 0) := ⟨fun j hj => ⟨0, by omega, rfl⟩, fun c hc => ⟨fun j hj => Iff.rfl, fun j hj w => absurd w (yb_0 j hj), Or.inl rfl, ⟨fun e => absurd e nu_01, fun ⟨j, hj, w, _⟩ => absurd w (yb_0 j hj)⟩⟩⟩
theorem in_C : rl_C (fun _ => 0) (fun _ => 0) (fun _ => 0) (fun _ => 0) (fun _ => 0) (fun _ => 0) (cr_zL 4 10000000006 (fun _ => 0)) (fun _ => 0) (fun _ => 0) (fun _ => 0) (fun _ => 0) (fun _ => 0) (fun _ => 0) (fun _ => 0) (cr_zL 4 10000000006 (fun _ => 0)) := by
  refine ⟨fun i hi => ⟨Or.inl rfl, fun e => absurd e nu_02, ⟨0, by omega, rfl⟩, fun e => absurd e nu_01⟩, fun i hi e => absurd e nu_01, fun i hi => ?_⟩
  rw [ch_zL hi]; exact Or.inl ⟨rfl, rfl⟩
theorem i_vc0 : wpX_init (fun u => wpY_init (fun v => i_Rel 0 u v)) := by
  have hX := in_234 (post := fun u => wpY_init (fun v => i_Rel 0 u v)) (f_dues := 0) (f_time := 0) (f_logged := 0) (f_safe := 0) (f_broken := 0) (f_silent := 0) (f_turns := 0) (a_kind := fun _ => 0) (a_first := fun _ => 0) (a_size := fun _ => 0) (a_number := fun _ => 0) (a_ring := fun _ => 0) (a_score := fun _ => 0) (a_version := fun _ => 0) (a_ranked := fun _ => 0) (a_deadline := fun _ => 0) (a_due := fun _ => 0) (a_logOp := fun _ => 0) (a_logKey := fun _ => 0) (a_logA := fun _ => 0) (a_logB := fun _ => 0) (a_state := fun _ => 0) (a_gathered := fun _ => 0) (a_answered := fun _ => 0) (a_watching := fun _ => 0) (a_seen := fun _ => 0) (a_cOp := fun _ => 0) (a_cKey := fun _ => 0) (a_cA := fun _ => 0) (a_cB := fun _ => 0) (a_results := fun _ => 0) (a_waitsFor := fun _ => 0) (a_until := fun _ => 0) (a_turn := fun _ => 0) (a_source := fun _ => 0) ?_ 4 0 (by omega)
  · rw [cr_zL0] at hX
    exact hX
  · have h2 := in_256 (post := fun u => wpY_init (fun v => i_Rel 0 u v)) (f_dues := 0) (f_time := 0) (f_logged := 0) (f_safe := 0) (f_broken := 0) (f_silent := 0) (f_turns := 0) (a_kind := fun _ => 0) (a_first := fun _ => 0) (a_size := fun _ => 0) (a_number := fun _ => 0) (a_ring := fun _ => 0) (a_score := fun _ => 0) (a_version := fun _ => 0) (a_ranked := fun _ => 0) (a_due := fun _ => 0) (a_logOp := fun _ => 0) (a_logKey := fun _ => 0) (a_logA := fun _ => 0) (a_logB := fun _ => 0) (a_state := fun _ => 0) (a_gathered := fun _ => 0) (a_answered := fun _ => 0) (a_watching := fun _ => 0) (a_seen := fun _ => 0) (a_cOp := fun _ => 0) (a_cKey := fun _ => 0) (a_cA := fun _ => 0) (a_cB := fun _ => 0) (a_results := fun _ => 0) (a_taken := cr_zL 4 10000000006 (fun _ => 0)) (a_waitsFor := fun _ => 0) (a_until := fun _ => 0) (a_turn := fun _ => 0) (a_source := fun _ => 0) ?_ 8 0 (by omega)
    · rw [cr_z0] at h2
      exact h2
    · have hY := in_173 (post := fun v => i_Rel 0 (0, 0, 0, 0, 0, 0, 0, fun _ => 0, fun _ => 0, fun _ => 0, fun _ => 0, fun _ => 0, fun _ => 0, fun _ => 0, fun _ => 0, cr_z 8 (-1) (fun _ => 0), fun _ => 0, fun _ => 0, fun _ => 0, fun _ => 0, fun _ => 0, fun _ => 0, fun _ => 0, fun _ => 0, fun _ => 0, fun _ => 0, fun _ => 0, fun _ => 0, fun _ => 0, fun _ => 0, fun _ => 0, cr_zL 4 10000000006 (fun _ => 0), fun _ => 0, fun _ => 0, fun _ => 0, fun _ => 0) v) (g_time := 0) (g_waited := 0) (b_kind := fun _ => 0) (b_number := fun _ => 0) (b_size := fun _ => 0) (b_item := fun _ => 0) (b_score := fun _ => 0) (b_deadline := fun _ => 0) (b_state := fun _ => 0) (b_first := fun _ => 0) (b_second := fun _ => 0) (b_until := fun _ => 0) (b_since := fun _ => 0) (b_watched := fun _ => 0) (b_deceived := fun _ => 0) (b_op := fun _ => 0) (b_opKey := fun _ => 0) (b_opA := fun _ => 0) (b_opB := fun _ => 0) (b_queued := fun _ => 0) (b_answers := fun _ => 0) (b_answered := fun _ => 0) ?_ 4 0 (by omega)
      · rw [cr_zL0] at hY
        exact hY
      · exact zz_in (t := 0) (by omega) in_C ⟨in_K, in_L, in_M, in_V⟩
end
