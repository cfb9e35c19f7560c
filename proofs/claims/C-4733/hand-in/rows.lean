section
theorem pk_us {f : Nat → Int32} {k : Nat} {x : Int32} : upd f k x k = x := if_pos rfl
theorem pk_un {f : Nat → Int32} {k j : Nat} {x : Int32} (h : j ≠ k) : upd f k x j = f j := if_neg h
theorem pk_uLs {f : Nat → Int64} {k : Nat} {x : Int64} : vp_updL f k x k = x := if_pos rfl
theorem pk_uLn {f : Nat → Int64} {k j : Nat} {x : Int64} (h : j ≠ k) : vp_updL f k x j = f j := if_neg h
theorem pk_sub {a b : Nat} (h : b ≤ a) : nI a - nI b = nI (a - b) := by
  obtain ⟨c, rfl⟩ : ∃ c, a = c + b := ⟨a - b, by omega⟩
  rw [← nI_add, Int32.add_sub_cancel, Nat.add_sub_cancel]
theorem pk_m1 (n : Nat) : nI (n + 1) + (-1) = nI n := by
  rw [← nI_1, Int32.add_assoc, show (1 : Int32) + (-1) = 0 from rfl, Int32.add_zero]
theorem pk_mul (a b : Nat) : nI a * nI b = nI (a * b) := (Int32.ofNat_mul a b).symm
theorem pk_div {a d : Nat} (ha : a < 2 ^ 31) (h0 : 0 < d) (hd : d < 2 ^ 31) : nI a / nI d = nI (a / d) := by
  apply Int32.toInt_inj.mp
  rw [lg_idiv_nonneg (by rw [nI_toInt ha]; omega) (by rw [nI_toInt hd]; omega), nI_toInt ha, nI_toInt hd, nI_toInt (Nat.lt_of_le_of_lt (Nat.div_le_self a d) ha)]
  first | rfl | exact (Int.natCast_ediv _ _).symm
theorem pk_rem {a d : Nat} (ha : a < 2 ^ 31) (h0 : 0 < d) (hd : d < 2 ^ 31) : nI a - nI a / nI d * nI d = nI (a % d) := by
  rw [pk_div ha h0 hd, pk_mul, pk_sub (Nat.div_mul_le_self a d)]
  exact congrArg nI (by have := Nat.div_add_mod' a d; omega)
theorem pk_sub_toInt {a b : Nat} (ha : a < 2 ^ 30) (hb : b < 2 ^ 30) : (nI a - nI b).toInt = (a : Int) - b := by
  rw [Int32.toInt_sub, nI_toInt (by omega), nI_toInt (by omega)]
  exact Int.bmod_eq_of_le (by omega) (by omega)
theorem pk_sneg {a b : Nat} (hb : b < 2 ^ 30) (h : a < b) : nI a - nI b < 0 := by
  rw [Int32.lt_iff_toInt_lt, pk_sub_toInt (by omega) hb, show (0 : Int32).toInt = 0 from by decide]
  omega
theorem pk_ix (x : Int32) {n : Nat} (hn : n < 2 ^ 31) : x < 0 ∨ nI n ≤ x ∨ ∃ j : Nat, j < n ∧ x = nI j := by
  by_cases h : x < 0
  · exact Or.inl h
  · obtain ⟨j, hj, rfl⟩ := nI_of h
    by_cases h2 : j < n
    · exact Or.inr (Or.inr ⟨j, h2, rfl⟩)
    · exact Or.inr (Or.inl (nI_le (by omega) hj))
theorem pk_le {x y : Int32} {A B : Prop} (a b : Nat) (f : a ≤ b → A) (g : b < a → B) (hx : x = nI a := by rfl) (hy : y = nI b := by rfl) (ha : a < 2 ^ 31 := by omega) (hb : b < 2 ^ 31 := by omega) : (x ≤ y → A) ∧ (¬ x ≤ y → B) := by
  subst hx hy
  rw [nI_leI ha hb]
  exact ⟨f, fun z => g (by omega)⟩
theorem pk_lt {x y : Int32} {A B : Prop} (a b : Nat) (f : a < b → A) (g : b ≤ a → B) (hx : x = nI a := by rfl) (hy : y = nI b := by rfl) (ha : a < 2 ^ 31 := by omega) (hb : b < 2 ^ 31 := by omega) : (x < y → A) ∧ (¬ x < y → B) := by
  subst hx hy
  rw [nI_ltI ha hb]
  exact ⟨f, fun z => g (by omega)⟩
theorem pk_eq {x y : Int32} {A B : Prop} (a b : Nat) (f : a = b → A) (g : a ≠ b → B) (hx : x = nI a := by rfl) (hy : y = nI b := by rfl) (ha : a < 2 ^ 31 := by omega) (hb : b < 2 ^ 31 := by omega) : (x = y → A) ∧ (¬ x = y → B) := by
  subst hx hy
  rw [nI_eq ha hb]
  exact ⟨f, g⟩
theorem pk_in {x : Int32} (n N : Nat) (h : n < N) (hx : x = nI n := by rfl) (hN : N < 2 ^ 31 := by omega) : vp_in x N := by
  subst hx
  exact vp_in_nI h hN
theorem pk_cl {x : Int32} (n : Nat) (hx : x = nI n := by rfl) (h : n < 2 ^ 31 := by omega) : x.toNatClampNeg = n := by
  subst hx
  exact nI_clamp h
theorem pk_tn {n : Nat} (h : n < 2 ^ 32) : (nI n).toBitVec.toNat = n := Nat.mod_eq_of_lt h
theorem pk_and (x : Int32) {m : Int32} (k : Nat) (hm : m.toBitVec.toNat = 2 ^ k - 1) : x &&& m = nI (x.toBitVec.toNat % 2 ^ k) := by
  apply Int32.toBitVec_inj.mp
  apply BitVec.eq_of_toNat_eq
  rw [Int32.toBitVec_and, BitVec.toNat_and, hm, Nat.and_two_pow_sub_one_eq_mod]
  show _ = (BitVec.ofNat 32 _).toNat
  rw [BitVec.toNat_ofNat]
  exact (Nat.mod_eq_of_lt (Nat.lt_of_le_of_lt (Nat.mod_le _ _) x.toBitVec.isLt)).symm
theorem pk_andN {n : Nat} (h : n < 2 ^ 32) {m : Int32} (k : Nat) (hm : m.toBitVec.toNat = 2 ^ k - 1) : nI n &&& m = nI (n % 2 ^ k) := by
  rw [pk_and _ k hm, pk_tn h]
theorem pk_andE (x : Int32) {m : Int32} (k : Nat) (hm : m.toBitVec.toNat = 2 ^ k - 1) : ∃ j : Nat, j < 2 ^ k ∧ x &&& m = nI j := ⟨_, Nat.mod_lt _ (Nat.two_pow_pos k), pk_and x k hm⟩
theorem pk_andIn (x : Int32) {m : Int32} (k : Nat) (hm : m.toBitVec.toNat = 2 ^ k - 1) (hk : k ≤ 30) : vp_in (x &&& m) (2 ^ k) := by
  obtain ⟨j, hj, e⟩ := pk_andE x k hm
  rw [e]
  exact vp_in_nI hj (Nat.lt_of_le_of_lt (Nat.pow_le_pow_right (by decide) hk) (by decide))
theorem pk_shl (a s : Int32) (k : Nat) (hs : (s.toBitVec.smod 32).toNat = k) : (a <<< s).toBitVec.toNat = a.toBitVec.toNat * 2 ^ k % 2 ^ 32 := by
  show (a.toBitVec <<< (s.toBitVec.smod 32).toNat).toNat = _
  rw [hs, BitVec.toNat_shiftLeft, Nat.shiftLeft_eq]
theorem pk_shlN {n : Nat} (s : Int32) (k : Nat) (hs : (s.toBitVec.smod 32).toNat = k) (h : n * 2 ^ k < 2 ^ 32) : nI n <<< s = nI (n * 2 ^ k) := by
  apply Int32.toBitVec_inj.mp
  apply BitVec.eq_of_toNat_eq
  have hn : n < 2 ^ 32 := Nat.lt_of_le_of_lt (Nat.le_mul_of_pos_right n (Nat.two_pow_pos k)) h
  rw [pk_shl _ _ k hs, pk_tn hn, pk_tn h, Nat.mod_eq_of_lt h]
theorem pk_shr (a s : Int32) (k : Nat) (hs : (s.toBitVec.smod 32).toNat = k) : (a >>> s).toInt = a.toInt >>> k := by
  show (a.toBitVec.sshiftRight (s.toBitVec.smod 32).toNat).toInt = _
  rw [hs, BitVec.toInt_sshiftRight]
  rfl
theorem pk_shrN {n : Nat} (h : n < 2 ^ 31) (s : Int32) (k : Nat) (hs : (s.toBitVec.smod 32).toNat = k) : nI n >>> s = nI (n / 2 ^ k) := by
  apply Int32.toInt_inj.mp
  have h2 : n / 2 ^ k ≤ n := Nat.div_le_self _ _
  rw [pk_shr _ _ k hs, nI_toInt h, nI_toInt (by omega), Int.shiftRight_eq_div_pow]
  rfl
theorem pk_ushr (x s : Int32) (k : Nat) (hs : ((s.toUInt32 &&& Int32.toUInt32 31).toBitVec % 32).toNat = k) : (x.toUInt32 >>> (s.toUInt32 &&& Int32.toUInt32 31)).toInt32.toBitVec.toNat = x.toBitVec.toNat / 2 ^ k := by
  have e : (x.toUInt32 >>> (s.toUInt32 &&& Int32.toUInt32 31)).toInt32.toBitVec = x.toBitVec >>> k := by
    rw [← hs]
    exact UInt32.toBitVec_shiftRight _ _
  rw [e, BitVec.toNat_ushiftRight, Nat.shiftRight_eq_div_pow]
theorem pk_ushrN {n : Nat} (hn : n < 2 ^ 32) (s : Int32) (k : Nat) (hs : ((s.toUInt32 &&& Int32.toUInt32 31).toBitVec % 32).toNat = k) : ((nI n).toUInt32 >>> (s.toUInt32 &&& Int32.toUInt32 31)).toInt32 = nI (n / 2 ^ k) := by
  apply Int32.toBitVec_inj.mp
  apply BitVec.eq_of_toNat_eq
  rw [pk_ushr _ s k hs, pk_tn hn, pk_tn (Nat.lt_of_le_of_lt (Nat.div_le_self _ _) hn)]
theorem pk_nb (z : Int32) : narrow .byte (.int z.toInt8.toInt32) = .int z.toInt8.toInt32 := congrArg Value.int (by simp)
theorem pk_ns (z : Int32) : narrow .short (.int z.toInt16.toInt32) = .int z.toInt16.toInt32 := congrArg Value.int (by simp)
theorem pk_fb (r : Int32) : fits .byte (.int r.toInt8.toInt32) = true := by
  have ⟨a, b⟩ := lg_i2b_range r
  have h1 : (-128 : Int32).toInt = -128 := by decide
  have h2 : (127 : Int32).toInt = 127 := by decide
  simp only [fits, Bool.and_eq_true, decide_eq_true_eq, Int32.le_iff_toInt_le, h1, h2]
  omega
theorem pk_fs (r : Int32) : fits .short (.int r.toInt16.toInt32) = true := by
  have ⟨a, b⟩ := lg_i2s_range r
  have h1 : (-32768 : Int32).toInt = -32768 := by decide
  have h2 : (32767 : Int32).toInt = 32767 := by decide
  simp only [fits, Bool.and_eq_true, decide_eq_true_eq, Int32.le_iff_toInt_le, h1, h2]
  omega
theorem pk_charN {q : Nat} (hq : q < 65536) : narrow .char (.int (nI q)) = .int (nI q) ∧ fits .char (.int (nI q)) = true := by
  constructor
  · have e : (nI q).toUInt32.toUInt16.toUInt32.toInt32 = nI q := by
      apply Int32.toBitVec_inj.mp
      apply BitVec.eq_of_toNat_eq
      show (nI q).toUInt32.toUInt16.toUInt32.toNat = q % 2 ^ 32
      rw [UInt16.toNat_toUInt32, UInt32.toNat_toUInt16, show (nI q).toUInt32.toNat = q % 2 ^ 32 from rfl]
      omega
    exact congrArg Value.int e
  · have a : (0 : Int32) ≤ nI q := nI_pos' (by omega)
    have b : nI q ≤ 65535 := nI_le (b := 65535) (by omega) (by decide)
    show (decide ((0 : Int32) ≤ nI q) && decide (nI q ≤ 65535)) = true
    rw [decide_eq_true a, decide_eq_true b]
    rfl
theorem pk_char (x : Int32) : (x.toUInt32 % 65536).toInt32 = nI (x.toBitVec.toNat % 65536) := by
  apply Int32.toBitVec_inj.mp
  apply BitVec.eq_of_toNat_eq
  rw [pk_tn (by omega)]
  show (x.toUInt32 % 65536).toNat = _
  rw [UInt32.toNat_mod]
  rfl
theorem pk_nc (x : Int32) : narrow .char (.int (x.toUInt32 % 65536).toInt32) = .int (x.toUInt32 % 65536).toInt32 := by
  rw [pk_char]
  exact (pk_charN (Nat.mod_lt _ (by decide))).1
theorem pk_fc (x : Int32) : fits .char (.int (x.toUInt32 % 65536).toInt32) = true := by
  rw [pk_char]
  exact (pk_charN (Nat.mod_lt _ (by decide))).2
theorem pk_vb (z : Int32) : vp_nar .byte z.toInt8.toInt32 = z.toInt8.toInt32 := by rw [vp_nar_byte]; simp
theorem pk_vs (z : Int32) : vp_nar .short z.toInt16.toInt32 = z.toInt16.toInt32 := by rw [vp_nar_short]; simp
theorem pk_vc (z : Int32) : vp_nar .char (z.toUInt32 % 65536).toInt32 = (z.toUInt32 % 65536).toInt32 := Value.int.inj (pk_nc z)
theorem pk_lT {n : Nat} (h : n < 2 ^ 63) : (lN n).toInt = (n : Int) := lg_ofNat_toInt h
theorem pk_lLT {a b : Nat} (ha : a < 2 ^ 63) (hb : b < 2 ^ 63) : lN a < lN b ↔ a < b := by
  rw [Int64.lt_iff_toInt_lt, pk_lT ha, pk_lT hb]; omega
theorem pk_lLE {a b : Nat} (ha : a < 2 ^ 63) (hb : b < 2 ^ 63) : lN a ≤ lN b ↔ a ≤ b := by
  rw [Int64.le_iff_toInt_le, pk_lT ha, pk_lT hb]; omega
theorem pk_lEQ {a b : Nat} (ha : a < 2 ^ 63) (hb : b < 2 ^ 63) : lN a = lN b ↔ a = b := by
  rw [← Int64.toInt_inj, pk_lT ha, pk_lT hb]; omega
theorem pk_lOf {x : Int64} (h : ¬ x < 0) : ∃ k : Nat, k < 2 ^ 63 ∧ x = lN k := by
  rw [Int64.lt_iff_toInt_lt] at h
  have h0 : (0 : Int64).toInt = 0 := by decide
  have hx := Int64.toInt_lt x
  refine ⟨x.toInt.toNat, by omega, Int64.toInt_inj.mp ?_⟩
  rw [pk_lT (by omega)]
  omega
theorem pk_lDiv {a b : Nat} (ha : a < 2 ^ 63) (h0 : 0 < b) (hb : b < 2 ^ 63) : lN a / lN b = lN (a / b) := by
  apply Int64.toInt_inj.mp
  rw [lg_ldiv_nonneg (by rw [pk_lT ha]; omega) (by rw [pk_lT hb]; omega), pk_lT ha, pk_lT hb, pk_lT (Nat.lt_of_le_of_lt (Nat.div_le_self a b) ha)]
  rfl
theorem pk_lRem {a b : Nat} (ha : a < 2 ^ 63) (h0 : 0 < b) (hb : b < 2 ^ 63) : lN a - lN a / lN b * lN b = lN (a % b) := by
  rw [pk_lDiv ha h0 hb, lN_mul, lN_sub (Nat.div_mul_le_self a b)]
  exact congrArg lN (by have := Nat.div_add_mod' a b; omega)
theorem pk_loop {σ : Type} (W : Nat → Nat → σ → Prop) (I : Nat → σ → Prop) (e i0 : Nat) (s : σ) (hi : i0 ≤ e) (h0 : I i0 s) (hx : ∀ n s, I e s → W (n + 1) e s)
    (hs : ∀ n i s, i < e → I i s → (∀ s', I (i + 1) s' → W n (i + 1) s') → W (n + 1) i s) : ∃ n, W n i0 s :=
  ⟨e + 1, loop_i W I e hx hs (e + 1) i0 s hi (by omega) h0⟩
theorem pk_loopD {σ : Type} (W : Nat → Nat → σ → Prop) (I : Nat → σ → Prop) (hx : ∀ n s, I 0 s → W (n + 1) 0 s)
    (hs : ∀ n i s, I (i + 1) s → (∀ s', I i s' → W n i s') → W (n + 1) (i + 1) s) : ∀ (e : Nat) (s : σ), I e s → W (e + 1) e s := by
  intro e
  induction e with
  | zero => exact fun s h => hx 0 s h
  | succ e ih => exact fun s h => hs (e + 1) e s h (fun s' h' => ih s' h')
theorem pk_least (P : Nat → Prop) (h : ∃ k, P k) : ∃ k, P k ∧ ∀ j, j < k → ¬ P j := by
  obtain ⟨k, hk⟩ := h
  induction k using Nat.strongRecOn with
  | ind k ih =>
    by_cases e : ∃ j, j < k ∧ P j
    · obtain ⟨j, hj, pj⟩ := e
      exact ih j hj pj
    · exact ⟨k, hk, fun j hj pj => e ⟨j, hj, pj⟩⟩
end
section
/-! ===== Int32 by its bits: bt x i ===== -/
def bt (x : Int32) (i : Nat) : Bool := x.toBitVec.getLsbD i
theorem b_ext {x y : Int32} (h : ∀ i, i < 32 → bt x i = bt y i) : x = y := Int32.toBitVec_inj.mp (BitVec.eq_of_getLsbD_eq (fun i hi => h i hi))
theorem b_or (x y : Int32) (i : Nat) : bt (x ||| y) i = (bt x i || bt y i) := by unfold bt; rw [Int32.toBitVec_or, BitVec.getLsbD_or]
theorem b_and (x y : Int32) (i : Nat) : bt (x &&& y) i = (bt x i && bt y i) := by unfold bt; rw [Int32.toBitVec_and, BitVec.getLsbD_and]
theorem b_xor (x y : Int32) (i : Nat) : bt (x ^^^ y) i = (bt x i ^^ bt y i) := by unfold bt; rw [Int32.toBitVec_xor, BitVec.getLsbD_xor]
theorem b_big {x : Int32} {i : Nat} (h : 32 ≤ i) : bt x i = false := BitVec.getLsbD_of_ge _ _ h
theorem b_255 (i : Nat) : bt 255 i = decide (i < 8) := by
  rcases Nat.lt_or_ge i 32 with h | h
  · exact (by decide +kernel : ∀ i, i < 32 → bt 255 i = decide (i < 8)) i h
  · rw [b_big h, decide_eq_false (by omega)]
theorem b_65535 (i : Nat) : bt 65535 i = decide (i < 16) := by
  rcases Nat.lt_or_ge i 32 with h | h
  · exact (by decide +kernel : ∀ i, i < 32 → bt 65535 i = decide (i < 16)) i h
  · rw [b_big h, decide_eq_false (by omega)]
theorem b_m1 : ∀ i, i < 32 → bt (-1) i = true := by decide +kernel
theorem b_0 (i : Nat) : bt 0 i = false := BitVec.getLsbD_zero
theorem s_l : ∀ n, n < 32 → ((nI n &&& 31).toBitVec.smod 32).toNat = n := by decide +kernel
theorem s_u : ∀ n, n < 32 → (((nI n).toUInt32 &&& Int32.toUInt32 31).toBitVec % 32).toNat = n := by decide +kernel
theorem b_shl (n : Nat) (hn : n < 32) (x : Int32) {i : Nat} (hi : i < 32) : bt (x <<< (nI n &&& 31)) i = (decide (n ≤ i) && bt x (i - n)) := by
  unfold bt
  rw [Int32.toBitVec_shiftLeft]
  show (x.toBitVec <<< ((nI n &&& 31).toBitVec.smod 32).toNat).getLsbD i = _
  rw [s_l n hn, BitVec.getLsbD_shiftLeft]
  rcases Nat.lt_or_ge i n with h | h
  · simp [h, Nat.not_le.mpr h]
  · simp [hi, h, Nat.not_lt.mpr h]
theorem b_ushr (n : Nat) (hn : n < 32) (x : Int32) (i : Nat) : bt ((x.toUInt32 >>> ((nI n).toUInt32 &&& Int32.toUInt32 31)).toInt32) i = bt x (n + i) := by
  show (x.toUInt32 >>> ((nI n).toUInt32 &&& Int32.toUInt32 31)).toBitVec.getLsbD i = x.toUInt32.toBitVec.getLsbD (n + i)
  rw [UInt32.toBitVec_shiftRight]
  show (x.toUInt32.toBitVec >>> (((nI n).toUInt32 &&& Int32.toUInt32 31).toBitVec % 32).toNat).getLsbD i = _
  rw [s_u n hn, BitVec.getLsbD_ushiftRight]
theorem b_sshr (n : Nat) (hn : n < 32) (x : Int32) {i : Nat} (hi : i < 32) : bt (x >>> (nI n &&& 31)) i = if n + i < 32 then bt x (n + i) else bt x 31 := by
  unfold bt
  rw [Int32.toBitVec_shiftRight]
  show (x.toBitVec.sshiftRight ((nI n &&& 31).toBitVec.smod 32).toNat).getLsbD i = _
  rw [s_l n hn, BitVec.getLsbD_sshiftRight, BitVec.msb_eq_getLsbD_last]
  simp [hi]
theorem b_shl8 (x : Int32) {i : Nat} (hi : i < 32) : bt (x <<< ((8 : Int32) &&& 31)) i = (decide (8 ≤ i) && bt x (i - 8)) := b_shl 8 (by omega) x hi
theorem b_shl16 (x : Int32) {i : Nat} (hi : i < 32) : bt (x <<< ((16 : Int32) &&& 31)) i = (decide (16 ≤ i) && bt x (i - 16)) := b_shl 16 (by omega) x hi
theorem b_shl24 (x : Int32) {i : Nat} (hi : i < 32) : bt (x <<< ((24 : Int32) &&& 31)) i = (decide (24 ≤ i) && bt x (i - 24)) := b_shl 24 (by omega) x hi
theorem b_sshr8 (x : Int32) {i : Nat} (hi : i < 32) : bt (x >>> ((8 : Int32) &&& 31)) i = if 8 + i < 32 then bt x (8 + i) else bt x 31 := b_sshr 8 (by omega) x hi
end
section
/-! ===== counting ===== -/
noncomputable def ct_b (P : Prop) : Nat := @ite Nat P (Classical.propDecidable P) 1 0
theorem ct_bt {P : Prop} (h : P) : ct_b P = 1 := by unfold ct_b; rw [if_pos h]
theorem ct_bf {P : Prop} (h : ¬ P) : ct_b P = 0 := by unfold ct_b; rw [if_neg h]
theorem ct_ble (P : Prop) : ct_b P ≤ 1 := by
  rcases Classical.em P with h | h
  · rw [ct_bt h]; omega
  · rw [ct_bf h]; omega
theorem ct_bmono {P Q : Prop} (h : P → Q) : ct_b P ≤ ct_b Q := by
  rcases Classical.em P with hp | hp
  · rw [ct_bt hp, ct_bt (h hp)]; omega
  · rw [ct_bf hp]; omega
theorem ct_biff {P Q : Prop} (h : P ↔ Q) : ct_b P = ct_b Q := Nat.le_antisymm (ct_bmono h.mp) (ct_bmono h.mpr)
noncomputable def ct_n (P : Nat → Prop) : Nat → Nat
  | 0 => 0
  | k + 1 => ct_n P k + ct_b (P k)
theorem ct_mono {P Q : Nat → Prop} : ∀ {N : Nat}, (∀ k, k < N → P k → Q k) → ct_n P N ≤ ct_n Q N
  | 0, _ => Nat.le_refl _
  | N + 1, h => by
    have a := ct_mono (P := P) (Q := Q) (N := N) (fun k hk => h k (by omega))
    have b := ct_bmono (h N (by omega))
    simp only [ct_n]; omega
theorem ct_lt {P Q : Nat → Prop} {a : Nat} (hp : ¬ P a) (hq : Q a) : ∀ {N : Nat}, (∀ k, k < N → P k → Q k) → a < N → ct_n P N < ct_n Q N
  | 0, _, h => by omega
  | N + 1, h, ha => by
    simp only [ct_n]
    rcases Nat.lt_or_ge a N with z | z
    · have x := ct_lt hp hq (N := N) (fun k hk => h k (by omega)) z
      have b := ct_bmono (h N (by omega))
      omega
    · have e : a = N := by omega
      subst e
      have x := ct_mono (P := P) (Q := Q) (N := a) (fun k hk => h k (by omega))
      rw [ct_bt hq, ct_bf hp]; omega
theorem ct_le (P : Nat → Prop) : ∀ N, ct_n P N ≤ N
  | 0 => Nat.le_refl _
  | N + 1 => by have := ct_le P N; have := ct_ble (P N); simp only [ct_n]; omega
theorem ct_eq {P Q : Nat → Prop} {N : Nat} (h : ∀ k, k < N → (P k ↔ Q k)) : ct_n P N = ct_n Q N :=
  Nat.le_antisymm (ct_mono fun k hk => (h k hk).mp) (ct_mono fun k hk => (h k hk).mpr)
theorem ct_or {P Q : Nat → Prop} : ∀ {N : Nat}, (∀ k, k < N → P k → ¬ Q k) → ct_n (fun k => P k ∨ Q k) N = ct_n P N + ct_n Q N
  | 0, _ => rfl
  | N + 1, h => by
    have a := ct_or (P := P) (Q := Q) (N := N) (fun k hk => h k (by omega))
    simp only [ct_n]
    rw [a]
    rcases Classical.em (P N) with p | p
    · rw [ct_bt (Or.inl p), ct_bt p, ct_bf (h N (by omega) p)]; omega
    · rcases Classical.em (Q N) with q | q
      · rw [ct_bt (Or.inr q), ct_bf p, ct_bt q]; omega
      · rw [ct_bf (fun z => z.elim p q), ct_bf p, ct_bf q]; omega
theorem ct_zero {P : Nat → Prop} : ∀ {N : Nat}, (∀ k, k < N → ¬ P k) → ct_n P N = 0
  | 0, _ => rfl
  | N + 1, h => by
    simp only [ct_n]
    rw [ct_zero (N := N) (fun k hk => h k (by omega)), ct_bf (h N (by omega))]
theorem ct_one {a : Nat} : ∀ {N : Nat}, a < N → ct_n (fun k => k = a) N = 1
  | 0, h => by omega
  | N + 1, h => by
    simp only [ct_n]
    rcases Nat.lt_or_ge a N with z | z
    · rw [ct_one z, ct_bf (by omega)]
    · have e : a = N := by omega
      subst e
      rw [ct_zero (fun k hk => by omega), ct_bt rfl]
theorem ct_add {P : Nat → Prop} {a N : Nat} (hp : ¬ P a) (ha : a < N) : ct_n (fun k => P k ∨ k = a) N = ct_n P N + 1 := by
  rw [ct_or (P := P) (Q := fun k => k = a) (fun k hk p (e : k = a) => hp (e ▸ p)), ct_one ha]
theorem ct_del {P : Nat → Prop} {a N : Nat} (hp : P a) (ha : a < N) : ct_n (fun k => P k ∧ k ≠ a) N + 1 = ct_n P N := by
  rw [← ct_add (P := fun k => P k ∧ k ≠ a) (fun z => z.2 rfl) ha]
  exact ct_eq fun k hk => ⟨fun z => z.elim (fun y => y.1) (fun e => e ▸ hp), fun z => (Classical.em (k = a)).elim Or.inr (fun y => Or.inl ⟨z, y⟩)⟩
theorem ct_pos {P : Nat → Prop} {a N : Nat} (hp : P a) (ha : a < N) : 1 ≤ ct_n P N := by
  have := ct_del hp ha; omega
theorem ct_ex {P : Nat → Prop} : ∀ {N : Nat}, 1 ≤ ct_n P N → ∃ k, k < N ∧ P k := by
  intro N h
  apply Classical.byContradiction
  intro z
  rw [ct_zero (fun k hk p => z ⟨k, hk, p⟩)] at h
  omega
theorem ct_two {P : Nat → Prop} {N : Nat} (h : 2 ≤ ct_n P N) : ∃ i j, i < j ∧ j < N ∧ P i ∧ P j := by
  obtain ⟨a, ha, pa⟩ := ct_ex (P := P) (N := N) (by omega)
  have d := ct_del pa ha
  obtain ⟨b, hb, pb⟩ := ct_ex (P := fun k => P k ∧ k ≠ a) (N := N) (by omega)
  rcases Nat.lt_or_ge a b with z | z
  · exact ⟨a, b, z, hb, pa, pb.1⟩
  · exact ⟨b, a, by have := pb.2; omega, ha, pb.1, pa⟩
theorem ct_two' {P : Nat → Prop} {N i j : Nat} (h : i ≠ j) (hi : i < N) (hj : j < N) (pi : P i) (pj : P j) : 2 ≤ ct_n P N := by
  have d := ct_del pi hi
  have e := ct_pos (P := fun k => P k ∧ k ≠ i) (a := j) (N := N) ⟨pj, fun e => h e.symm⟩ hj
  omega
theorem ct_miss {P : Nat → Prop} {a N : Nat} (hp : ¬ P a) (ha : a < N) : ct_n P N < N := by
  have := ct_add hp ha
  have := ct_le (fun k => P k ∨ k = a) N
  omega
/-- a relation that is one to one from below counts -/
theorem ct_rel {Q : Nat → Prop} {F : Nat → Nat → Prop} {M : Nat} : ∀ {m : Nat} {R : Nat → Prop}, (∀ q, q < m → Q q → ∃ i, i < M ∧ R i ∧ F q i) → (∀ q q' i, q < m → q' < m → Q q → Q q' → F q i → F q' i → q = q') → ct_n Q m ≤ ct_n R M
  | 0, _, _, _ => Nat.zero_le _
  | m + 1, R, h, u => by
    simp only [ct_n]
    rcases Classical.em (Q m) with p | p
    · obtain ⟨i, hi, ri, fi⟩ := h m (by omega) p
      have d := ct_del ri hi
      have e := ct_rel (Q := Q) (F := F) (M := M) (m := m) (R := fun k => R k ∧ k ≠ i) (fun q hq pq => by
        obtain ⟨j, hj, rj, fj⟩ := h q (by omega) pq
        refine ⟨j, hj, ⟨rj, fun e => ?_⟩, fj⟩
        have := u q m i (by omega) (by omega) pq p (e ▸ fj) fi
        omega) (fun q q' i hq hq' => u q q' i (by omega) (by omega))
      rw [ct_bt p]
      omega
    · rw [ct_bf p]
      exact ct_rel (R := R) (fun q hq => h q (by omega)) (fun q q' i hq hq' => u q q' i (by omega) (by omega))
/-- counts of one value by another cut of the range -/
theorem ct_ext {P : Nat → Prop} {N : Nat} : ∀ {M : Nat}, N ≤ M → (∀ k, k < M → P k → k < N) → ct_n P M = ct_n P N
  | 0, h, _ => by have e : N = 0 := by omega
                  rw [e]
  | M + 1, h, u => by
    rcases Nat.lt_or_ge M N with z | z
    · have e : N = M + 1 := by omega
      rw [e]
    · simp only [ct_n]
      rw [ct_ext z (fun k hk => u k (by omega)), ct_bf (fun p => by have := u M (by omega) p; omega)]; rfl
/-! ===== closures ===== -/
def cl_ (E : Nat → Nat → Prop) (u v : Nat) : Prop := ∀ T : Nat → Prop, (∀ x y, E x y → (T x ↔ T y)) → (T u ↔ T v)
theorem cl_r (E : Nat → Nat → Prop) (u : Nat) : cl_ E u u := fun _ _ => Iff.rfl
theorem cl_s {E : Nat → Nat → Prop} {u v : Nat} (h : cl_ E u v) : cl_ E v u := fun T hT => (h T hT).symm
theorem cl_t {E : Nat → Nat → Prop} {u v w : Nat} (h : cl_ E u v) (g : cl_ E v w) : cl_ E u w := fun T hT => (h T hT).trans (g T hT)
theorem cl_b {E : Nat → Nat → Prop} {u v : Nat} (h : E u v) : cl_ E u v := fun _ hT => hT u v h
theorem cl_sub {E E' : Nat → Nat → Prop} (h : ∀ x y, E x y → cl_ E' x y) {u v : Nat} (g : cl_ E u v) : cl_ E' u v :=
  (g (fun x => cl_ E' u x) (fun x y e => ⟨fun z => cl_t z (h x y e), fun z => cl_t z (cl_s (h x y e))⟩)).mp (cl_r _ _)
theorem cl_mono {E E' : Nat → Nat → Prop} (h : ∀ x y, E x y → E' x y) {u v : Nat} (g : cl_ E u v) : cl_ E' u v := cl_sub (fun x y e => cl_b (h x y e)) g
theorem cl_add {E E' : Nat → Nat → Prop} {a b : Nat} (h : ∀ x y, E' x y ↔ E x y ∨ (x = a ∧ y = b)) (u v : Nat) : cl_ E' u v ↔ cl_ E u v ∨ (cl_ E u a ∧ cl_ E b v) ∨ (cl_ E u b ∧ cl_ E a v) := by
  constructor
  · intro g
    refine (g (fun x => cl_ E u x ∨ (cl_ E u a ∧ cl_ E b x) ∨ (cl_ E u b ∧ cl_ E a x)) ?_).mp (Or.inl (cl_r _ _))
    intro x y e
    rcases (h x y).mp e with z | ⟨rfl, rfl⟩
    · have z := cl_b z
      constructor
      · rintro (q | ⟨q, r⟩ | ⟨q, r⟩)
        · exact Or.inl (cl_t q z)
        · exact Or.inr (Or.inl ⟨q, cl_t r z⟩)
        · exact Or.inr (Or.inr ⟨q, cl_t r z⟩)
      · rintro (q | ⟨q, r⟩ | ⟨q, r⟩)
        · exact Or.inl (cl_t q (cl_s z))
        · exact Or.inr (Or.inl ⟨q, cl_t r (cl_s z)⟩)
        · exact Or.inr (Or.inr ⟨q, cl_t r (cl_s z)⟩)
    · constructor
      · rintro (q | ⟨q, r⟩ | ⟨q, r⟩)
        · exact Or.inr (Or.inl ⟨q, cl_r _ _⟩)
        · exact Or.inr (Or.inl ⟨q, cl_r _ _⟩)
        · exact Or.inl q
      · rintro (q | ⟨q, r⟩ | ⟨q, r⟩)
        · exact Or.inr (Or.inr ⟨q, cl_r _ _⟩)
        · exact Or.inl q
        · exact Or.inr (Or.inr ⟨q, cl_r _ _⟩)
  · have s : ∀ {x y}, cl_ E x y → cl_ E' x y := fun z => cl_mono (fun x y e => (h x y).mpr (Or.inl e)) z
    have ab : cl_ E' a b := cl_b ((h a b).mpr (Or.inr ⟨rfl, rfl⟩))
    rintro (q | ⟨q, r⟩ | ⟨q, r⟩)
    · exact s q
    · exact cl_t (s q) (cl_t ab (s r))
    · exact cl_t (s q) (cl_t (cl_s ab) (s r))
/-! ===== classes, counted by their least members ===== -/
def nc_rep (R : Nat → Nat → Prop) (S : Nat → Prop) (p : Nat) : Prop := S p ∧ ∀ q, q < p → S q → ¬ R q p
noncomputable def nc_ (R : Nat → Nat → Prop) (S : Nat → Prop) (N : Nat) : Nat := ct_n (nc_rep R S) N
theorem nc_ex {R : Nat → Nat → Prop} {S : Nat → Prop} (hr : ∀ x, R x x) (ht : ∀ x y z, R x y → R y z → R x z) {u : Nat} (h : S u) : ∃ r, r ≤ u ∧ nc_rep R S r ∧ R r u := by
  obtain ⟨r, ⟨h1, h2, h3⟩, h4⟩ := pk_least (fun r => r ≤ u ∧ S r ∧ R r u) ⟨u, Nat.le_refl _, h, hr u⟩
  exact ⟨r, h1, ⟨h2, fun q hq sq z => h4 q hq ⟨by omega, sq, ht _ _ _ z h3⟩⟩, h3⟩
theorem nc_uq {R : Nat → Nat → Prop} {S : Nat → Prop} (hs : ∀ x y, R x y → R y x) {r r' : Nat} (h : nc_rep R S r) (h' : nc_rep R S r') (e : R r r') : r = r' := by
  rcases Nat.lt_or_ge r r' with z | z
  · exact absurd e (h'.2 r z h.1)
  · rcases Nat.lt_or_ge r' r with y | y
    · exact absurd (hs _ _ e) (h.2 r' y h'.1)
    · omega
theorem nc_le {R R' : Nat → Nat → Prop} {S : Nat → Prop} {N : Nat} (h : ∀ u v, S u → S v → R' u v → R u v) : nc_ R S N ≤ nc_ R' S N :=
  ct_mono fun k _ z => ⟨z.1, fun q hq sq y => z.2 q hq sq (h q k sq z.1 y)⟩
theorem nc_lt {R R' : Nat → Nat → Prop} {S : Nat → Prop} {N : Nat} (hr : ∀ x, R x x) (hs : ∀ x y, R x y → R y x) (ht : ∀ x y z, R x y → R y z → R x z) (hr' : ∀ x, R' x x) (hs' : ∀ x y, R' x y → R' y x) (ht' : ∀ x y z, R' x y → R' y z → R' x z) (hN : ∀ x, S x → x < N) (h : ∀ u v, S u → S v → R' u v → R u v) : nc_ R S N < nc_ R' S N ↔ ∃ u v, S u ∧ S v ∧ R u v ∧ ¬ R' u v := by
  constructor
  · intro z
    apply Classical.byContradiction
    intro y
    have : nc_ R' S N ≤ nc_ R S N := nc_le fun u v su sv ruv => Classical.byContradiction fun q => y ⟨u, v, su, sv, ruv, q⟩
    omega
  · rintro ⟨u, v, su, sv, ruv, nruv⟩
    obtain ⟨a, ha, ra, qa⟩ := nc_ex hr' ht' su
    obtain ⟨b, hb, rb, qb⟩ := nc_ex hr' ht' sv
    have key : ∃ c, nc_rep R' S c ∧ ¬ nc_rep R S c := by
      apply Classical.byContradiction
      intro y
      have fa : nc_rep R S a := Classical.byContradiction fun q => y ⟨a, ra, q⟩
      have fb : nc_rep R S b := Classical.byContradiction fun q => y ⟨b, rb, q⟩
      have e : a = b := nc_uq hs fa fb (ht _ _ _ (h _ _ fa.1 su qa) (ht _ _ _ ruv (hs _ _ (h _ _ fb.1 sv qb))))
      subst e
      exact nruv (ht' _ _ _ (hs' _ _ qa) qb)
    obtain ⟨c, rc, nc⟩ := key
    exact ct_lt nc rc (fun k _ z => ⟨z.1, fun q hq sq y => z.2 q hq sq (h q k sq z.1 y)⟩) (hN c rc.1)
theorem nc_eqv {R R' : Nat → Nat → Prop} {S S' : Nat → Prop} {N : Nat} (e : ∀ x, S x ↔ S' x) (h : ∀ u v, S u → S v → (R u v ↔ R' u v)) : nc_ R S N = nc_ R' S' N :=
  ct_eq fun k _ => ⟨fun z => ⟨(e k).mp z.1, fun q hq sq y => z.2 q hq ((e q).mpr sq) ((h q k ((e q).mpr sq) z.1).mpr y)⟩, fun z => ⟨(e k).mpr z.1, fun q hq sq y => z.2 q hq ((e q).mp sq) ((h q k sq ((e k).mpr z.1)).mp y)⟩⟩
/-- a member leaves others of its kind -/
theorem nc_drop {R : Nat → Nat → Prop} {S : Nat → Prop} {N p q : Nat} (hr : ∀ x, R x x) (hs : ∀ x y, R x y → R y x) (ht : ∀ x y z, R x y → R y z → R x z) (hN : ∀ x, S x → x < N) (hp : S p) (hq : S q) (ne : q ≠ p) (e : R p q) : nc_ R (fun x => S x ∧ x ≠ p) N = nc_ R S N := by
  apply Nat.le_antisymm
  · refine ct_rel (F := fun a b => R b a) (fun a _ ra => ?_) (fun a a' i _ _ ra ra' f f' => nc_uq hs ra ra' (ht _ _ _ (hs _ _ f) f'))
    obtain ⟨r, hr1, hr2, hr3⟩ := nc_ex hr ht ra.1.1
    exact ⟨r, hN r hr2.1, hr2, hr3⟩
  · refine ct_rel (F := fun a b => R b a) (fun a _ ra => ?_) (fun a a' i _ _ ra ra' f f' => nc_uq hs ra ra' (ht _ _ _ (hs _ _ f) f'))
    rcases Classical.em (a = p) with z | z
    · subst z
      obtain ⟨r, hr1, hr2, hr3⟩ := nc_ex (S := fun x => S x ∧ x ≠ a) hr ht (u := q) ⟨hq, ne⟩
      exact ⟨r, hN r hr2.1.1, hr2, ht _ _ _ hr3 (hs _ _ e)⟩
    · obtain ⟨r, hr1, hr2, hr3⟩ := nc_ex (S := fun x => S x ∧ x ≠ p) hr ht (u := a) ⟨ra.1, z⟩
      exact ⟨r, hN r hr2.1.1, hr2, hr3⟩
/-- a member that is alone of its kind leaves -/
theorem nc_drop1 {R : Nat → Nat → Prop} {S : Nat → Prop} {N p : Nat} (hs : ∀ x y, R x y → R y x) (hN : ∀ x, S x → x < N) (hp : S p) (iso : ∀ q, S q → R p q → q = p) : nc_ R (fun x => S x ∧ x ≠ p) N + 1 = nc_ R S N := by
  have rp : nc_rep R S p := ⟨hp, fun q hq sq z => by have := iso q sq (hs _ _ z); omega⟩
  rw [show nc_ R (fun x => S x ∧ x ≠ p) N + 1 = ct_n (fun k => nc_rep R (fun x => S x ∧ x ≠ p) k ∨ k = p) N from (ct_add (P := nc_rep R (fun x => S x ∧ x ≠ p)) (fun z => z.1.2 rfl) (hN p hp)).symm]
  refine ct_eq fun k _ => ⟨?_, ?_⟩
  · rintro (z | rfl)
    · refine ⟨z.1.1, fun q hq sq y => ?_⟩
      rcases Classical.em (q = p) with w | w
      · subst w; exact z.1.2 (iso k z.1.1 y)
      · exact z.2 q hq ⟨sq, w⟩ y
    · exact rp
  · intro z
    rcases Classical.em (k = p) with w | w
    · exact Or.inr w
    · exact Or.inl ⟨⟨z.1, w⟩, fun q hq sq y => z.2 q hq sq.1 y⟩
/-- two classes are joined -/
theorem nc_join {R R' : Nat → Nat → Prop} {S : Nat → Prop} {N a b : Nat} (hr : ∀ x, R x x) (hs : ∀ x y, R x y → R y x) (ht : ∀ x y z, R x y → R y z → R x z) (hN : ∀ x, S x → x < N) (ha : S a) (hb : S b) (ne : ¬ R a b) (h : ∀ u v, R' u v ↔ R u v ∨ (R u a ∧ R b v) ∨ (R u b ∧ R a v)) : nc_ R' S N + 1 = nc_ R S N := by
  obtain ⟨x, _, rx, qx⟩ := nc_ex hr ht ha
  obtain ⟨y, _, ry, qy⟩ := nc_ex hr ht hb
  have nxy : ¬ R x y := fun z => ne (ht _ _ _ (hs _ _ qx) (ht _ _ _ z qy))
  have key : ∀ s t, nc_rep R S s → nc_rep R S t → s < t → ¬ R s t → (∀ u v, R' u v ↔ R u v ∨ (R u s ∧ R t v) ∨ (R u t ∧ R s v)) → nc_ R' S N + 1 = nc_ R S N := by
    intro s t rs rt lt nst hh
    have r't : ¬ nc_rep R' S t := fun z => z.2 s lt rs.1 ((hh s t).mpr (Or.inr (Or.inl ⟨hr s, hr t⟩)))
    rw [← show ct_n (fun k => nc_rep R' S k ∨ k = t) N = nc_ R' S N + 1 from ct_add r't (hN t rt.1)]
    refine ct_eq fun k _ => ⟨?_, ?_⟩
    · rintro (z | rfl)
      · exact ⟨z.1, fun q hq sq w => z.2 q hq sq ((hh q k).mpr (Or.inl w))⟩
      · exact rt
    · intro z
      rcases Classical.em (k = t) with w | w
      · exact Or.inr w
      · refine Or.inl ⟨z.1, fun q hq sq v => ?_⟩
        rcases (hh q k).mp v with v | ⟨v1, v2⟩ | ⟨v1, v2⟩
        · exact z.2 q hq sq v
        · exact w (nc_uq hs rt z v2).symm
        · have e := nc_uq hs rs z v2
          subst e
          have : ¬ q < t := fun lq => rt.2 q lq sq v1
          omega
  rcases Nat.lt_or_ge x y with z | z
  · refine key x y rx ry z nxy (fun u v => ?_)
    rw [h u v]
    constructor
    · rintro (w | ⟨w1, w2⟩ | ⟨w1, w2⟩)
      · exact Or.inl w
      · exact Or.inr (Or.inl ⟨ht _ _ _ w1 (hs _ _ qx), ht _ _ _ qy w2⟩)
      · exact Or.inr (Or.inr ⟨ht _ _ _ w1 (hs _ _ qy), ht _ _ _ qx w2⟩)
    · rintro (w | ⟨w1, w2⟩ | ⟨w1, w2⟩)
      · exact Or.inl w
      · exact Or.inr (Or.inl ⟨ht _ _ _ w1 qx, ht _ _ _ (hs _ _ qy) w2⟩)
      · exact Or.inr (Or.inr ⟨ht _ _ _ w1 qy, ht _ _ _ (hs _ _ qx) w2⟩)
  · have z : y < x := by
      rcases Nat.lt_or_ge y x with w | w
      · exact w
      · have e : x = y := by omega
        subst e
        exact absurd (hr x) nxy
    refine key y x ry rx z (fun w => nxy (hs _ _ w)) (fun u v => ?_)
    rw [h u v]
    constructor
    · rintro (w | ⟨w1, w2⟩ | ⟨w1, w2⟩)
      · exact Or.inl w
      · exact Or.inr (Or.inr ⟨ht _ _ _ w1 (hs _ _ qx), ht _ _ _ qy w2⟩)
      · exact Or.inr (Or.inl ⟨ht _ _ _ w1 (hs _ _ qy), ht _ _ _ qx w2⟩)
    · rintro (w | ⟨w1, w2⟩ | ⟨w1, w2⟩)
      · exact Or.inl w
      · exact Or.inr (Or.inr ⟨ht _ _ _ w1 qy, ht _ _ _ (hs _ _ qx) w2⟩)
      · exact Or.inr (Or.inl ⟨ht _ _ _ w1 qx, ht _ _ _ (hs _ _ qy) w2⟩)
theorem nc_two {R : Nat → Nat → Prop} {S : Nat → Prop} {N : Nat} (hr : ∀ x, R x x) (hs : ∀ x y, R x y → R y x) (ht : ∀ x y z, R x y → R y z → R x z) (hN : ∀ x, S x → x < N) : 2 ≤ nc_ R S N ↔ ∃ u v, S u ∧ S v ∧ ¬ R u v := by
  constructor
  · intro h
    obtain ⟨i, j, hij, hj, ri, rj⟩ := ct_two h
    exact ⟨i, j, ri.1, rj.1, rj.2 i hij ri.1⟩
  · rintro ⟨u, v, su, sv, n⟩
    obtain ⟨x, _, rx, qx⟩ := nc_ex hr ht su
    obtain ⟨y, _, ry, qy⟩ := nc_ex hr ht sv
    refine ct_two' (i := x) (j := y) (fun e => ?_) (hN x rx.1) (hN y ry.1) rx ry
    subst e
    exact n (ht _ _ _ (hs _ _ qx) qy)
theorem nc_pos {R : Nat → Nat → Prop} {S : Nat → Prop} {N u : Nat} (hr : ∀ x, R x x) (ht : ∀ x y z, R x y → R y z → R x z) (hN : ∀ x, S x → x < N) (su : S u) : 1 ≤ nc_ R S N := by
  obtain ⟨x, _, rx, _⟩ := nc_ex hr ht su
  exact ct_pos rx (hN x rx.1)
end
section
/-! ===== points joined along lines: gc A B L S u v ===== -/
def gc_E (A B : Nat → Nat) (L S : Nat → Prop) (x y : Nat) : Prop := ∃ k, L k ∧ S (A k) ∧ S (B k) ∧ x = A k ∧ y = B k
def gc (A B : Nat → Nat) (L S : Nat → Prop) (u v : Nat) : Prop := cl_ (gc_E A B L S) u v
section
variable {A B : Nat → Nat} {L L' S S' : Nat → Prop} {u v w p : Nat}
theorem gc_r (u : Nat) : gc A B L S u u := cl_r _ _
theorem gc_s (h : gc A B L S u v) : gc A B L S v u := cl_s h
theorem gc_t (h : gc A B L S u v) (g : gc A B L S v w) : gc A B L S u w := cl_t h g
theorem gc_l {k : Nat} (h : L k) (a : S (A k)) (b : S (B k)) : gc A B L S (A k) (B k) := cl_b ⟨k, h, a, b, rfl, rfl⟩
theorem gc_sep (h : gc A B L S u v) (T : Nat → Prop) (hT : ∀ k, L k → S (A k) → S (B k) → (T (A k) ↔ T (B k))) : T u ↔ T v :=
  h T (by rintro x y ⟨k, hk, a, b, rfl, rfl⟩; exact hT k hk a b)
theorem gc_mono (hL : ∀ k, L k → S (A k) → S (B k) → L' k) (hS : ∀ x, S x → S' x) (h : gc A B L S u v) : gc A B L' S' u v :=
  cl_mono (by rintro x y ⟨k, hk, a, b, rfl, rfl⟩; exact ⟨k, hL k hk a b, hS _ a, hS _ b, rfl, rfl⟩) h
theorem gc_sub (h : ∀ k, L k → S (A k) → S (B k) → gc A B L' S' (A k) (B k)) (g : gc A B L S u v) : gc A B L' S' u v :=
  cl_sub (by rintro x y ⟨k, hk, a, b, rfl, rfl⟩; exact h k hk a b) g
theorem gc_in (h : gc A B L S u v) : u = v ∨ (S u ∧ S v) := by
  rcases Classical.em (u = v) with e | e
  · exact Or.inl e
  · have hu : S u := Classical.byContradiction fun n => e (((gc_sep h (fun x => x = u) (fun k _ a b => ⟨fun z => absurd (z ▸ a) n, fun z => absurd (z ▸ b) n⟩)).mp rfl).symm)
    have hv : S v := Classical.byContradiction fun n => e ((gc_sep h (fun x => x = v) (fun k _ a b => ⟨fun z => absurd (z ▸ a) n, fun z => absurd (z ▸ b) n⟩)).mpr rfl)
    exact Or.inr ⟨hu, hv⟩
theorem gc_inS (h : gc A B L S u v) (hu : S u) : S v := by
  rcases gc_in h with e | e
  · exact e ▸ hu
  · exact e.2
theorem gc_add {k : Nat} (a : S (A k)) (b : S (B k)) (h : ∀ j, L' j ↔ L j ∨ j = k) (u v : Nat) : gc A B L' S u v ↔ gc A B L S u v ∨ (gc A B L S u (A k) ∧ gc A B L S (B k) v) ∨ (gc A B L S u (B k) ∧ gc A B L S (A k) v) := by
  apply cl_add
  intro x y
  constructor
  · rintro ⟨j, hj, aj, bj, rfl, rfl⟩
    rcases (h j).mp hj with z | rfl
    · exact Or.inl ⟨j, z, aj, bj, rfl, rfl⟩
    · exact Or.inr ⟨rfl, rfl⟩
  · rintro (⟨j, hj, aj, bj, rfl, rfl⟩ | ⟨rfl, rfl⟩)
    · exact ⟨j, (h j).mpr (Or.inl hj), aj, bj, rfl, rfl⟩
    · exact ⟨k, (h k).mpr (Or.inr rfl), a, b, rfl, rfl⟩
theorem gc_eqL (h : ∀ k, L k ↔ L' k) (hS : ∀ x, S x ↔ S' x) : gc A B L S u v ↔ gc A B L' S' u v :=
  ⟨gc_mono (fun k z _ _ => (h k).mp z) (fun x => (hS x).mp), gc_mono (fun k z _ _ => (h k).mpr z) (fun x => (hS x).mpr)⟩
/-- what is joined, and not with p, is joined without p -/
theorem gc_wo (n : ¬ gc A B L S u p) (h : gc A B L S u v) : gc A B L (fun x => S x ∧ x ≠ p) u v := by
  have up : ∀ {y}, gc A B L (fun x => S x ∧ x ≠ p) u y → gc A B L S u y := fun z => gc_mono (fun _ q _ _ => q) (fun _ q => q.1) z
  refine (gc_sep h (fun x => gc A B L (fun x => S x ∧ x ≠ p) u x) ?_).mp (gc_r _)
  intro k hk a b
  have l := gc_l (A := A) (B := B) hk a b
  rcases Classical.em (A k = p) with e | e
  · constructor
    · intro z; exact absurd (e ▸ up z) n
    · intro z; exact absurd (e ▸ gc_t (up z) (gc_s l)) n
  · rcases Classical.em (B k = p) with f | f
    · constructor
      · intro z; exact absurd (f ▸ gc_t (up z) l) n
      · intro z; exact absurd (f ▸ up z) n
    · have l' := gc_l (A := A) (B := B) (S := fun x => S x ∧ x ≠ p) hk ⟨a, e⟩ ⟨b, f⟩
      exact ⟨fun z => gc_t z l', fun z => gc_t z (gc_s l')⟩
/-- a group that no line of a kind touches does without them -/
theorem gc_woL {D : Nat → Prop} (h : gc A B L S u v) (n : ∀ k, D k → L k → S (A k) → S (B k) → ¬ gc A B L S u (A k)) : gc A B (fun k => L k ∧ ¬ D k) S u v := by
  have up : ∀ {y}, gc A B (fun k => L k ∧ ¬ D k) S u y → gc A B L S u y := fun z => gc_mono (fun _ q _ _ => q.1) (fun _ q => q) z
  refine (gc_sep h (fun x => gc A B (fun k => L k ∧ ¬ D k) S u x) ?_).mp (gc_r _)
  intro k hk a b
  have l := gc_l (A := A) (B := B) hk a b
  rcases Classical.em (D k) with d | d
  · constructor
    · intro z; exact absurd (up z) (n k d hk a b)
    · intro z; exact absurd (gc_t (up z) (gc_s l)) (n k d hk a b)
  · have l' := gc_l (A := A) (B := B) (L := fun k => L k ∧ ¬ D k) ⟨hk, d⟩ a b
    exact ⟨fun z => gc_t z l', fun z => gc_t z (gc_s l')⟩
noncomputable def gc_c (A B : Nat → Nat) (L S : Nat → Prop) : Nat := nc_ (gc A B L S) S 8
theorem gc_bridge {k : Nat} (h8 : ∀ x, S x → x < 8) (hk : L k) (a : S (A k)) (b : S (B k)) : gc_c A B L S < gc_c A B (fun j => L j ∧ j ≠ k) S ↔ ¬ gc A B (fun j => L j ∧ j ≠ k) S (A k) (B k) := by
  unfold gc_c
  rw [nc_lt (R := gc A B L S) (R' := gc A B (fun j => L j ∧ j ≠ k) S) gc_r (fun _ _ => gc_s) (fun _ _ _ => gc_t) gc_r (fun _ _ => gc_s) (fun _ _ _ => gc_t) h8 (fun u v _ _ z => gc_mono (fun _ q _ _ => q.1) (fun _ q => q) z)]
  constructor
  · rintro ⟨u, v, su, sv, h, n⟩ z
    refine n (gc_sub (fun j hj aj bj => ?_) h)
    rcases Classical.em (j = k) with e | e
    · exact e ▸ z
    · exact gc_l (L := fun j => L j ∧ j ≠ k) ⟨hj, e⟩ aj bj
  · intro z
    exact ⟨A k, B k, a, b, gc_l hk a b, z⟩
theorem gc_hinge (h8 : ∀ x, S x → x < 8) (hp : S p) : gc_c A B L S < gc_c A B L (fun x => S x ∧ x ≠ p) ↔ ∃ u v, (S u ∧ u ≠ p) ∧ (S v ∧ v ≠ p) ∧ gc A B L S u v ∧ ¬ gc A B L (fun x => S x ∧ x ≠ p) u v := by
  unfold gc_c
  have h8' : ∀ x, (S x ∧ x ≠ p) → x < 8 := fun x q => h8 x q.1
  have lt := nc_lt (R := gc A B L S) (R' := gc A B L (fun x => S x ∧ x ≠ p)) (S := fun x => S x ∧ x ≠ p) (N := 8) gc_r (fun _ _ => gc_s) (fun _ _ _ => gc_t) gc_r (fun _ _ => gc_s) (fun _ _ _ => gc_t) h8' (fun u v _ _ z => gc_mono (fun _ q _ _ => q) (fun _ q => q.1) z)
  rw [← lt]
  rcases Classical.em (∃ q, S q ∧ q ≠ p ∧ gc A B L S p q) with ⟨q, sq, ne, e⟩ | z
  · rw [nc_drop gc_r (fun _ _ => gc_s) (fun _ _ _ => gc_t) h8 hp sq ne e]
  · have iso : ∀ q, S q → gc A B L S p q → q = p := fun q sq e => Classical.byContradiction fun n => z ⟨q, sq, n, e⟩
    have d := nc_drop1 (R := gc A B L S) (fun _ _ => gc_s) h8 hp iso
    constructor
    · intro y; omega
    · intro y
      obtain ⟨u, v, su, sv, h, n⟩ := lt.mp y
      exact absurd (gc_wo (fun q => su.2 (iso u su.1 (gc_s q))) h) n
theorem gc_two (h8 : ∀ x, S x → x < 8) : 2 ≤ gc_c A B L S ↔ ∃ u v, S u ∧ S v ∧ ¬ gc A B L S u v := nc_two gc_r (fun _ _ => gc_s) (fun _ _ _ => gc_t) h8
theorem gc_pos (h8 : ∀ x, S x → x < 8) (su : S u) : 1 ≤ gc_c A B L S := nc_pos gc_r (fun _ _ _ => gc_t) h8 su
theorem gc_ceq (h : ∀ k, L k ↔ L' k) (hS : ∀ x, S x ↔ S' x) : gc_c A B L S = gc_c A B L' S' := nc_eqv hS (fun _ _ _ _ => gc_eqL h hS)
end
/-! ===== steps from a set; after eight of them nothing is new ===== -/
/-- sets that grow: after N steps nothing is new -/
theorem ct_fix {X : Nat → Nat → Prop} {N : Nat} (hm : ∀ i v, X i v → X (i + 1) v) (hN : ∀ i v, X i v → v < N) (hf : ∀ i, (∀ v, X (i + 1) v → X i v) → ∀ v, X (i + 2) v → X (i + 1) v) : ∀ v, X (N + 1) v → X N v := by
  have grow : ∀ i, (¬ ∀ v, X (i + 1) v → X i v) → i + 1 ≤ ct_n (X (i + 1)) N := by
    intro i
    have one : ∀ i, (¬ ∀ v, X (i + 1) v → X i v) → ct_n (X i) N < ct_n (X (i + 1)) N := by
      intro i h
      have : ∃ v, X (i + 1) v ∧ ¬ X i v := Classical.byContradiction fun z => h fun v a => Classical.byContradiction fun b => z ⟨v, a, b⟩
      obtain ⟨v, a, b⟩ := this
      exact ct_lt b a (fun k _ => hm i k) (hN _ _ a)
    induction i with
    | zero => intro h; have := one 0 h; omega
    | succ i ih =>
      intro h
      have a := ih (fun z => h (hf i z))
      have b := one (i + 1) h
      omega
  intro v a
  apply Classical.byContradiction
  intro b
  have n1 : ¬ ∀ v, X (N + 1) v → X N v := fun z => b (z v a)
  have c := grow N n1
  have d := ct_le (X (N + 1)) N
  omega
def st_ (A B : Nat → Nat) (L S X : Nat → Prop) (v : Nat) : Prop := S v ∧ (X v ∨ ∃ k, L k ∧ ((X (A k) ∧ v = B k) ∨ (X (B k) ∧ v = A k)))
def st_n (A B : Nat → Nat) (L S X : Nat → Prop) : Nat → Nat → Prop
  | 0 => X
  | i + 1 => st_ A B L S (st_n A B L S X i)
theorem st_ext {A B : Nat → Nat} {L S X Y : Nat → Prop} (h : ∀ v, X v ↔ Y v) (v : Nat) : st_ A B L S X v ↔ st_ A B L S Y v := by
  have e : X = Y := funext fun v => propext (h v)
  rw [e]
section
variable {A B : Nat → Nat} {L S X : Nat → Prop}
theorem st_S (hX : ∀ v, X v → S v) : ∀ i v, st_n A B L S X i v → S v
  | 0, v, h => hX v h
  | _ + 1, _, h => h.1
theorem st_up (hX : ∀ v, X v → S v) (i v : Nat) (h : st_n A B L S X i v) : st_n A B L S X (i + 1) v := ⟨st_S hX i v h, Or.inl h⟩
theorem st_le (hX : ∀ v, X v → S v) {i j v : Nat} (h : i ≤ j) (a : st_n A B L S X i v) : st_n A B L S X j v := by
  induction j with
  | zero => have e : i = 0 := by omega
            exact e ▸ a
  | succ j ih =>
    rcases Nat.lt_or_ge j i with z | z
    · have e : i = j + 1 := by omega
      exact e ▸ a
    · exact st_up hX j v (ih z)
theorem st_snd (hX : ∀ v, X v → S v) : ∀ i v, st_n A B L S X i v → ∃ u, X u ∧ gc A B L S u v
  | 0, v, h => ⟨v, h, gc_r v⟩
  | i + 1, v, h => by
    obtain ⟨sv, h | ⟨k, hk, ⟨h, rfl⟩ | ⟨h, rfl⟩⟩⟩ := h
    · exact st_snd hX i v h
    · obtain ⟨u, xu, g⟩ := st_snd hX i _ h
      exact ⟨u, xu, gc_t g (gc_l hk (st_S hX i _ h) sv)⟩
    · obtain ⟨u, xu, g⟩ := st_snd hX i _ h
      exact ⟨u, xu, gc_t g (gc_s (gc_l hk sv (st_S hX i _ h)))⟩
theorem st_fix {N : Nat} (hX : ∀ v, X v → S v) (hN : ∀ v, S v → v < N) : ∀ v, st_n A B L S X (N + 1) v → st_n A B L S X N v :=
  ct_fix (X := st_n A B L S X) (fun i v => st_up hX i v) (fun i v h => hN v (st_S hX i v h)) (fun i h v a => (st_ext (fun v => ⟨h v, st_up hX i v⟩) v).mp a)
theorem st_all {N : Nat} (hX : ∀ v, X v → S v) (hN : ∀ v, S v → v < N) (v : Nat) : st_n A B L S X N v ↔ ∃ u, X u ∧ gc A B L S u v := by
  refine ⟨st_snd hX N v, ?_⟩
  rintro ⟨u, xu, g⟩
  refine (gc_sep g (st_n A B L S X N) ?_).mp (st_le hX (Nat.zero_le N) xu)
  intro k hk a b
  exact ⟨fun z => st_fix hX hN _ ⟨b, Or.inr ⟨k, hk, Or.inl ⟨z, rfl⟩⟩⟩, fun z => st_fix hX hN _ ⟨a, Or.inr ⟨k, hk, Or.inr ⟨z, rfl⟩⟩⟩⟩
end
end
section
/-! ===== bits ===== -/
theorem bb_1 : ∀ i, i < 32 → bt 1 i = decide (i = 0) := by decide +kernel
theorem bb_bit (x : Int32) {k : Nat} (hk : k < 32) : ((x >>> (nI k &&& 31)) &&& 1) = if bt x k = true then 1 else 0 := by
  apply b_ext
  intro i hi
  rw [b_and, b_sshr k hk x hi, bb_1 i hi]
  by_cases e : i = 0
  · subst e
    rw [if_pos (by omega), Nat.add_zero]
    by_cases h : bt x k = true
    · rw [if_pos h, h, bb_1 0 hi]; rfl
    · rw [if_neg h, b_0, Bool.eq_false_iff.mpr h]; rfl
  · rw [decide_eq_false e, Bool.and_false]
    by_cases h : bt x k = true
    · rw [if_pos h, bb_1 i hi, decide_eq_false e]
    · rw [if_neg h, b_0]
theorem bb_10 : ¬ (1 : Int32) = 0 := by decide
theorem bb_01 : ¬ (0 : Int32) = 1 := by decide
theorem bb_br1 {x s : Int32} {k : Nat} {P Q : Prop} (e : s = nI k) (hk : k < 32) (f : bt x k = true → P) (g : ¬ bt x k = true → Q) : (((x >>> (s &&& 31)) &&& 1) = 1 → P) ∧ (¬ ((x >>> (s &&& 31)) &&& 1) = 1 → Q) := by
  subst e
  rw [bb_bit x hk]
  by_cases h : bt x k = true
  · rw [if_pos h]; exact br_t rfl (f h)
  · rw [if_neg h]; exact br_f bb_01 (g h)
theorem bb_br0 {x s : Int32} {k : Nat} {P Q : Prop} (e : s = nI k) (hk : k < 32) (f : ¬ bt x k = true → P) (g : bt x k = true → Q) : (((x >>> (s &&& 31)) &&& 1) = 0 → P) ∧ (¬ ((x >>> (s &&& 31)) &&& 1) = 0 → Q) := by
  subst e
  rw [bb_bit x hk]
  by_cases h : bt x k = true
  · rw [if_pos h]; exact br_f bb_10 (g h)
  · rw [if_neg h]; exact br_t rfl (f h)
/-- two bits compared -/
theorem bb_brE {x s s' : Int32} {k k' : Nat} {P Q : Prop} (e : s = nI k) (hk : k < 32) (e' : s' = nI k') (hk' : k' < 32) (f : (bt x k = true ↔ bt x k' = true) → P) (g : ¬ (bt x k = true ↔ bt x k' = true) → Q) : (((x >>> (s &&& 31)) &&& 1) = ((x >>> (s' &&& 31)) &&& 1) → P) ∧ (¬ ((x >>> (s &&& 31)) &&& 1) = ((x >>> (s' &&& 31)) &&& 1) → Q) := by
  subst e
  subst e'
  rw [bb_bit x hk, bb_bit x hk']
  by_cases h : bt x k = true
  · by_cases h' : bt x k' = true
    · rw [if_pos h, if_pos h']; exact br_t rfl (f ⟨fun _ => h', fun _ => h⟩)
    · rw [if_pos h, if_neg h']; exact br_f bb_10 (g (fun z => h' (z.mp h)))
  · by_cases h' : bt x k' = true
    · rw [if_neg h, if_pos h']; exact br_f bb_01 (g (fun z => h (z.mpr h')))
    · rw [if_neg h, if_neg h']; exact br_t rfl (f ⟨fun z => absurd z h, fun z => absurd z h'⟩)
theorem bb_shl {s : Int32} {a v : Nat} (e : s = nI a) (ha : a < 32) (hv : v < 32) : bt ((1 : Int32) <<< (s &&& 31)) v = true ↔ v = a := by
  subst e
  rw [b_shl a ha 1 hv]
  by_cases h : a ≤ v
  · rw [decide_eq_true h, Bool.true_and, bb_1 _ (by omega), decide_eq_true_iff]; omega
  · rw [decide_eq_false h, Bool.false_and]
    exact ⟨fun z => absurd z (by decide), fun z => by omega⟩
theorem bb_or {x y : Int32} {v : Nat} : bt (x ||| y) v = true ↔ bt x v = true ∨ bt y v = true := by rw [b_or, Bool.or_eq_true]
theorem bb_and {x y : Int32} {v : Nat} : bt (x &&& y) v = true ↔ bt x v = true ∧ bt y v = true := by rw [b_and, Bool.and_eq_true]
theorem bb_or1 {x s : Int32} {a v : Nat} (e : s = nI a) (ha : a < 32) (hv : v < 32) : bt (x ||| ((1 : Int32) <<< (s &&& 31))) v = true ↔ bt x v = true ∨ v = a := by rw [bb_or, bb_shl e ha hv]
theorem bb_not {x : Int32} {v : Nat} (hv : v < 32) : bt (x ^^^ (-1)) v = true ↔ ¬ bt x v = true := by
  rw [b_xor, b_m1 v hv]
  cases bt x v <;> simp
theorem bb_del {x s : Int32} {a v : Nat} (e : s = nI a) (ha : a < 32) (hv : v < 32) : bt (x &&& (((1 : Int32) <<< (s &&& 31)) ^^^ (-1))) v = true ↔ bt x v = true ∧ v ≠ a := by rw [bb_and, bb_not hv, bb_shl e ha hv]
theorem bb_or0 (x : Int32) : x ||| 0 = x := b_ext fun i _ => by rw [b_or, b_0, Bool.or_false]
theorem bb_0 (v : Nat) : ¬ bt 0 v = true := by rw [b_0]; decide
theorem bb_lt {x : Int32} {v : Nat} (h : bt x v = true) : v < 32 := by
  rcases Nat.lt_or_ge v 32 with z | z
  · exact z
  · rw [b_big z] at h; cases h
theorem bb_ext {x y : Int32} (h : ∀ i, i < 32 → (bt x i = true ↔ bt y i = true)) : x = y := b_ext fun i hi => by
  have := h i hi
  cases e : bt x i <;> cases f : bt y i <;> simp_all
theorem bb_eq0 {x : Int32} : x = 0 ↔ ∀ v, v < 32 → ¬ bt x v = true :=
  ⟨fun e v _ => e ▸ bb_0 v, fun h => bb_ext fun i hi => ⟨fun z => absurd z (h i hi), fun z => absurd z (bb_0 i)⟩⟩
theorem bb_all : ∀ n, n < 9 → ∀ i, i < 32 → bt (((1 : Int32) <<< (nI n &&& 31)) - 1) i = decide (i < n) := by decide +kernel
theorem bb_allI {n v : Nat} (hn : n ≤ 8) : bt (((1 : Int32) <<< (nI n &&& 31)) - 1) v = true ↔ v < n := by
  rcases Nat.lt_or_ge v 32 with z | z
  · rw [bb_all n (by omega) v z, decide_eq_true_iff]
  · rw [b_big z]; exact ⟨fun q => absurd q (by decide), fun q => by omega⟩
/-! ===== the reference: one step, all steps, how many groups ===== -/
/-- the ends of lines, as both sides hold them -/
def yg_ends (A B : Nat → Nat) (a b : Nat → Int32) : Prop := ∀ k, k < 16 → (a k = nI (A k) ∧ A k < 8) ∧ (b k = nI (B k) ∧ B k < 8)
theorem yg_a {A B : Nat → Nat} {a b : Nat → Int32} (h : yg_ends A B a b) {k : Nat} (hk : k < 16) : a (nI k).toNatClampNeg = nI (A k) := by rw [nI_clamp (by omega)]; exact (h k hk).1.1
theorem yg_b {A B : Nat → Nat} {a b : Nat → Int32} (h : yg_ends A B a b) {k : Nat} (hk : k < 16) : b (nI k).toNatClampNeg = nI (B k) := by rw [nI_clamp (by omega)]; exact (h k hk).2.1
theorem yg_al {A B : Nat → Nat} {a b : Nat → Int32} (h : yg_ends A B a b) {k : Nat} (hk : k < 16) : A k < 8 := (h k hk).1.2
theorem yg_bl {A B : Nat → Nat} {a b : Nat → Int32} (h : yg_ends A B a b) {k : Nat} (hk : k < 16) : B k < 8 := (h k hk).2.2
/-- the set of a mask's bits below a bound -/
def bs_ (x : Int32) (N : Nat) (i : Nat) : Prop := i < N ∧ bt x i = true
section
variable {f_size : Int32} {a_there a_as a_bs : Nat → Int32} {A B : Nat → Nat}
theorem ys_55 (hE : yg_ends A B a_as a_bs) {post : Int32 → Prop} {J6 : Int32 → Int32 → Prop} {x1 x2 x3 z0 : Int32} {k : Nat} (hk : k < 16)
    (h : ∀ x4, (∀ v, v < 32 → (bt x4 v = true ↔ bt z0 v = true ∨ (bt x1 (B k) = true ∧ v = A k))) → J6 x4 (nI (k + 1))) : wY_step_55 post J6 x1 x2 x3 (nI k) z0 f_size a_there a_as a_bs := by
  have ha := yg_al hE hk
  have hb := yg_bl hE hk
  refine ⟨vp_in_nI hk (by decide), bb_br1 (yg_b hE hk) (by omega) (fun t => ⟨vp_in_nI hk (by decide), nm_e (nm_r (nI_1 k) (h _ fun v hv => ?_))⟩) (fun t => nm_r (nI_1 k) (h _ fun v hv => ?_))⟩
  · rw [bb_or1 (yg_a hE hk) (by omega) hv]
    exact ⟨fun z => z.elim Or.inl (fun y => Or.inr ⟨t, y⟩), fun z => z.elim Or.inl (fun y => Or.inr y.2)⟩
  · exact ⟨Or.inl, fun z => z.elim id (fun y => absurd y.1 t)⟩
theorem ys_loop (hE : yg_ends A B a_as a_bs) {post : Int32 → Prop} {x1 x2 x3 : Int32}
    (hp : ∀ r, (∀ v, v < 32 → (bt r v = true ↔ st_ A B (bs_ x2 16) (fun v => bt x3 v = true) (fun v => bt x1 v = true) v)) → post r) :
    ∀ d k x4, k + d = 16 → (∀ v, v < 32 → (bt x4 v = true ↔ bt x1 v = true ∨ ∃ j, bs_ x2 k j ∧ ((bt x1 (A j) = true ∧ v = B j) ∨ (bt x1 (B j) = true ∧ v = A j)))) →
    wY_step_6 post x1 x2 x3 f_size a_there a_as a_bs (d + 1) x4 (nI k)
  | 0, k, x4, hk, I => by
    have e : k = 16 := by omega
    subst e
    refine br_t (show (16 : Int32) ≤ nI 16 from by decide) (hp _ fun v hv => ?_)
    rw [bb_and, I v hv]
    exact ⟨fun z => ⟨z.2, z.1⟩, fun z => ⟨z.2, z.1⟩⟩
  | d + 1, k, x4, hk, I => by
    have hk16 : k < 16 := by omega
    have ha := yg_al hE hk16
    have hb := yg_bl hE hk16
    have key : bt x2 k = true → ∀ z0 : Int32, (∀ v, v < 32 → (bt z0 v = true ↔ bt x4 v = true ∨ (bt x1 (A k) = true ∧ v = B k))) → wY_step_55 post (wY_step_6 post x1 x2 x3 f_size a_there a_as a_bs (d + 1)) x1 x2 x3 (nI k) z0 f_size a_there a_as a_bs := by
      intro hb z0 hz
      refine ys_55 hE hk16 (fun x4' h' => ys_loop hE hp d (k + 1) x4' (by omega) fun v hv => ?_)
      rw [h' v hv, hz v hv, I v hv]
      constructor
      · rintro ((((z | ⟨j, ⟨hj, lj⟩, z⟩) | z) | z))
        · exact Or.inl z
        · exact Or.inr ⟨j, ⟨by omega, lj⟩, z⟩
        · exact Or.inr ⟨k, ⟨by omega, hb⟩, Or.inl z⟩
        · exact Or.inr ⟨k, ⟨by omega, hb⟩, Or.inr z⟩
      · rintro (z | ⟨j, ⟨hj, lj⟩, z⟩)
        · exact Or.inl (Or.inl (Or.inl z))
        · rcases Nat.lt_or_ge j k with y | y
          · exact Or.inl (Or.inl (Or.inr ⟨j, ⟨y, lj⟩, z⟩))
          · have e : j = k := by omega
            subst e
            exact z.elim (fun z => Or.inl (Or.inr z)) Or.inr
    refine br_f (nI_ge (b := 16) hk16 (by decide)) (bb_br1 rfl (by omega) (fun t => ⟨vp_in_nI hk16 (by decide), bb_br1 (yg_a hE hk16) (by omega) (fun s => ⟨vp_in_nI hk16 (by decide), key t _ fun v hv => ?_⟩) (fun s => key t _ fun v hv => ?_)⟩) (fun t => nm_r (nI_1 k) (ys_loop hE hp d (k + 1) x4 (by omega) fun v hv => ?_)))
    · rw [bb_or1 (yg_b hE hk16) (by omega) hv]
      exact ⟨fun z => z.elim Or.inl (fun y => Or.inr ⟨s, y⟩), fun z => z.elim Or.inl (fun y => Or.inr y.2)⟩
    · exact ⟨Or.inl, fun z => z.elim id (fun y => absurd y.1 s)⟩
    · rw [I v hv]
      constructor
      · rintro (z | ⟨j, ⟨hj, lj⟩, z⟩)
        · exact Or.inl z
        · exact Or.inr ⟨j, ⟨by omega, lj⟩, z⟩
      · rintro (z | ⟨j, ⟨hj, lj⟩, z⟩)
        · exact Or.inl z
        · rcases Nat.lt_or_ge j k with y | y
          · exact Or.inr ⟨j, ⟨y, lj⟩, z⟩
          · have e : j = k := by omega
            subst e
            exact absurd lj t
theorem ys_step (hE : yg_ends A B a_as a_bs) {post : Int32 → Prop} {x1 x2 x3 : Int32}
    (hp : ∀ r, (∀ v, v < 32 → (bt r v = true ↔ st_ A B (bs_ x2 16) (fun v => bt x3 v = true) (fun v => bt x1 v = true) v)) → post r) : wpY_step post (f_size, a_there, a_as, a_bs) x1 x2 x3 :=
  ⟨17, ys_loop hE hp 16 0 x1 rfl fun v hv => ⟨Or.inl, fun z => z.elim id (fun y => by obtain ⟨j, ⟨hj, _⟩, _⟩ := y; omega)⟩⟩
/-- joined: the points that are joined with some of a set -/
theorem ys_joinL (hE : yg_ends A B a_as a_bs) {post : Int32 → Prop} {x2 x3 : Int32} {X : Nat → Prop}
    (hp : ∀ r, (∀ v, v < 32 → (bt r v = true ↔ st_n A B (bs_ x2 16) (fun v => bt x3 v = true) X 8 v)) → post r) :
    ∀ d k x4, k + d = 8 → (∀ v, v < 32 → (bt x4 v = true ↔ st_n A B (bs_ x2 16) (fun v => bt x3 v = true) X k v)) → (∀ v, X v → bt x3 v = true) →
    wY_joined_8 post x2 x3 f_size a_there a_as a_bs (d + 1) x4 (nI k)
  | 0, k, x4, hk, I, _ => by
    have e : k = 8 := by omega
    subst e
    exact br_t (show (8 : Int32) ≤ nI 8 from by decide) (hp _ I)
  | d + 1, k, x4, hk, I, hX => by
    refine br_f (nI_ge (b := 8) (by omega) (by decide)) (ys_step hE fun r hr => nm_r (nI_1 k) (ys_joinL hE hp d (k + 1) r (by omega) (fun v hv => ?_) hX))
    rw [hr v hv]
    refine st_ext (fun v => ?_) v
    rcases Nat.lt_or_ge v 32 with z | z
    · exact I v z
    · exact ⟨fun q => absurd (bb_lt q) (by omega), fun q => absurd (bb_lt (st_S hX k v q)) (by omega)⟩
theorem ys_join (hE : yg_ends A B a_as a_bs) {post : Int32 → Prop} {x1 x2 x3 : Int32} (h8 : ∀ v, bt x3 v = true → v < 8)
    (hp : ∀ r, (∀ v, bt r v = true ↔ ∃ u, (bt x1 u = true ∧ bt x3 u = true) ∧ gc A B (bs_ x2 16) (fun v => bt x3 v = true) u v) → post r) : wpY_joined post (f_size, a_there, a_as, a_bs) x1 x2 x3 := by
  have hX : ∀ v, (bt x1 v = true ∧ bt x3 v = true) → bt x3 v = true := fun v z => z.2
  refine nm_e ⟨9, ys_joinL hE (X := fun u => bt x1 u = true ∧ bt x3 u = true) (fun r hr => hp r fun v => ?_) 8 0 _ rfl (fun v hv => bb_and) hX⟩
  rw [← st_all hX h8 v]
  rcases Nat.lt_or_ge v 32 with z | z
  · exact hr v z
  · exact ⟨fun q => absurd (bb_lt q) (by omega), fun q => absurd (h8 v (st_S hX 8 v q)) (by omega)⟩
theorem ys_manyL (hE : yg_ends A B a_as a_bs) {post : Int32 → Prop} {x1 x2 : Int32} (h8 : ∀ v, bt x2 v = true → v < 8)
    (hp : post (nI (gc_c A B (bs_ x1 16) (fun v => bt x2 v = true)))) :
    ∀ d k x3, k + d = 8 → (∀ v, v < 32 → (bt x3 v = true ↔ bt x2 v = true ∧ ∀ q, q < k → bt x2 q = true → ¬ gc A B (bs_ x1 16) (fun v => bt x2 v = true) q v)) →
    wY_many_8 post x1 x2 f_size a_there a_as a_bs (d + 1) x3 (nI (ct_n (nc_rep (gc A B (bs_ x1 16) (fun v => bt x2 v = true)) (fun v => bt x2 v = true)) k)) (nI k)
  | 0, k, x3, hk, I => by
    have e : k = 8 := by omega
    subst e
    exact br_t (show (8 : Int32) ≤ nI 8 from by decide) hp
  | d + 1, k, x3, hk, I => by
    have hk8 : k < 8 := by omega
    refine br_f (nI_ge (b := 8) hk8 (by decide)) (bb_br1 rfl (by omega) (fun t => ?_) (fun t => ?_))
    · have t' := (I k (by omega)).mp t
      have rep : nc_rep (gc A B (bs_ x1 16) (fun v => bt x2 v = true)) (fun v => bt x2 v = true) k := t'
      refine ys_join hE h8 (fun r hr => nm_e (nm_r ((nI_1 _).trans (congrArg nI ?_)) (nm_r (nI_1 k) (ys_manyL hE h8 hp d (k + 1) _ (by omega) fun v hv => ?_))))
      · simp only [ct_n]; rw [ct_bt rep]
      · rw [bb_and, bb_not hv, I v hv, hr v]
        constructor
        · rintro ⟨⟨a, b⟩, c⟩
          refine ⟨a, fun q hq sq g => ?_⟩
          rcases Nat.lt_or_ge q k with z | z
          · exact b q z sq g
          · have e : q = k := by omega
            subst e
            exact c ⟨q, ⟨(bb_shl rfl (by omega) (by omega)).mpr rfl, sq⟩, g⟩
        · rintro ⟨a, b⟩
          refine ⟨⟨a, fun q hq => b q (by omega)⟩, ?_⟩
          rintro ⟨u, ⟨hu, su⟩, g⟩
          have e := (bb_shl (s := nI k) rfl (by omega) (bb_lt hu)).mp hu
          subst e
          exact b u (by omega) su g
    · have nrep : ¬ nc_rep (gc A B (bs_ x1 16) (fun v => bt x2 v = true)) (fun v => bt x2 v = true) k := fun z => t ((I k (by omega)).mpr z)
      have e : ct_n (nc_rep (gc A B (bs_ x1 16) (fun v => bt x2 v = true)) (fun v => bt x2 v = true)) (k + 1) = ct_n (nc_rep (gc A B (bs_ x1 16) (fun v => bt x2 v = true)) (fun v => bt x2 v = true)) k := by
        show _ + ct_b _ = _
        rw [ct_bf nrep]; rfl
      have ih := ys_manyL hE h8 hp d (k + 1) x3 (by omega) (fun v hv => ?_)
      · rw [e] at ih
        exact nm_r (nI_1 k) ih
      · rw [I v hv]
        constructor
        · rintro ⟨a, b⟩
          refine ⟨a, fun q hq sq g => ?_⟩
          rcases Nat.lt_or_ge q k with z | z
          · exact b q z sq g
          · have e : q = k := by omega
            subst e
            have nb : ¬ ∀ r, r < q → bt x2 r = true → ¬ gc A B (bs_ x1 16) (fun v => bt x2 v = true) r q := fun z => nrep ⟨sq, z⟩
            exact nb (fun r hr sr g' => b r hr sr (gc_t g' g))
        · rintro ⟨a, b⟩
          exact ⟨a, fun q hq => b q (by omega)⟩
theorem ys_many (hE : yg_ends A B a_as a_bs) {post : Int32 → Prop} {x1 x2 : Int32} (h8 : ∀ v, bt x2 v = true → v < 8)
    (hp : post (nI (gc_c A B (bs_ x1 16) (fun v => bt x2 v = true)))) : wpY_many post (f_size, a_there, a_as, a_bs) x1 x2 :=
  ⟨9, ys_manyL hE h8 hp 8 0 x2 rfl fun v hv => ⟨fun z => ⟨z, fun q hq => absurd hq (by omega)⟩, fun z => z.1⟩⟩
end
end
section
/-! ===== what the answers are ===== -/
/-- a graph: n points, lines P with their ends -/
def gr_ (n : Nat) (P : Nat → Prop) (A B : Nat → Nat) : Prop := (1 ≤ n ∧ n ≤ 8) ∧ ∀ k, P k → k < 16 ∧ A k < n ∧ B k < n ∧ A k ≠ B k
def sp_br (A B : Nat → Nat) (P V : Nat → Prop) (k : Nat) : Prop := P k ∧ ¬ gc A B (fun j => P j ∧ j ≠ k) V (A k) (B k)
def sp_hi (A B : Nat → Nat) (P V : Nat → Prop) (p : Nat) : Prop := V p ∧ ∃ u v, (V u ∧ u ≠ p) ∧ (V v ∧ v ≠ p) ∧ gc A B P V u v ∧ ¬ gc A B P (fun x => V x ∧ x ≠ p) u v
/-- an end of a line that isn't p -/
def sp_en (A B : Nat → Nat) (k p u : Nat) : Prop := (u = A k ∨ u = B k) ∧ u ≠ p
/-- without p, the lines k and l lie in one group -/
def sp_at (A B : Nat → Nat) (P V : Nat → Prop) (p k l : Nat) : Prop := ∃ u w, sp_en A B k p u ∧ sp_en A B l p w ∧ gc A B P (fun x => V x ∧ x ≠ p) u w
def sp_tg (A B : Nat → Nat) (P V : Nat → Prop) (k l : Nat) : Prop := ∀ p, V p → sp_at A B P V p k l
def al_ (n : Nat) : Int32 := ((1 : Int32) <<< (nI n &&& 31)) - 1
theorem al_b {n v : Nat} (hn : n ≤ 8) : bt (al_ n) v = true ↔ v < n := bb_allI hn
/-- the reference's array 'there' -/
def yg_th (P : Nat → Prop) (a : Nat → Int32) : Prop := ∀ k, k < 16 → (P k ∧ a k = 1) ∨ (¬ P k ∧ a k = 0)
theorem yg_br {P : Nat → Prop} {a : Nat → Int32} {k : Nat} {X Y : Prop} (h : yg_th P a) (hk : k < 16) (f : ¬ P k → X) (g : P k → Y) : (a (nI k).toNatClampNeg = 0 → X) ∧ (¬ a (nI k).toNatClampNeg = 0 → Y) := by
  rw [nI_clamp (by omega)]
  rcases h k hk with ⟨p, e⟩ | ⟨p, e⟩
  · exact br_f (by rw [e]; decide) (g p)
  · exact br_t e (f p)
section
variable {a_there a_as a_bs : Nat → Int32} {A B : Nat → Nat} {n : Nat} {P : Nat → Prop} {M : Int32}
theorem yl_loop {f_size : Int32} {post : Int32 → Prop} (hT : yg_th P a_there) (hM : ∀ v, bt M v = true ↔ P v) (hP : ∀ k, P k → k < 16) (hp : post M) :
    ∀ d k x1, k + d = 16 → (∀ v, v < 32 → (bt x1 v = true ↔ v < k ∧ P v)) → wY_lines_4 post f_size a_there a_as a_bs (d + 1) x1 (nI k)
  | 0, k, x1, hk, I => by
    have e : k = 16 := by omega
    subst e
    have e : x1 = M := bb_ext fun v hv => by rw [I v hv, hM v]; exact ⟨fun z => z.2, fun z => ⟨hP v z, z⟩⟩
    rw [e]
    exact br_t (show (16 : Int32) ≤ nI 16 from by decide) hp
  | d + 1, k, x1, hk, I => by
    have hk16 : k < 16 := by omega
    refine br_f (nI_ge (b := 16) hk16 (by decide)) ⟨vp_in_nI hk16 (by decide), yg_br hT hk16 (fun t => nm_r (nI_1 k) (yl_loop hT hM hP hp d (k + 1) _ (by omega) fun v hv => ?_)) (fun t => nm_e (nm_r (nI_1 k) (yl_loop hT hM hP hp d (k + 1) _ (by omega) fun v hv => ?_)))⟩
    · rw [I v hv]
      refine ⟨fun z => ⟨by omega, z.2⟩, fun z => ⟨?_, z.2⟩⟩
      rcases Nat.lt_or_ge v k with y | y
      · exact y
      · have e : v = k := by omega
        subst e
        exact absurd z.2 t
    · rw [bb_or1 rfl (by omega) hv, I v hv]
      constructor
      · rintro (z | rfl)
        · exact ⟨by omega, z.2⟩
        · exact ⟨by omega, t⟩
      · rintro ⟨z, y⟩
        rcases Nat.lt_or_ge v k with w | w
        · exact Or.inl ⟨w, y⟩
        · exact Or.inr (by omega)
theorem yl_ {f_size : Int32} {post : Int32 → Prop} (hT : yg_th P a_there) (hM : ∀ v, bt M v = true ↔ P v) (hP : ∀ k, P k → k < 16) (hp : post M) : wpY_lines post (f_size, a_there, a_as, a_bs) :=
  ⟨17, yl_loop hT hM hP hp 16 0 0 rfl fun v hv => ⟨fun z => absurd z (bb_0 v), fun z => absurd z.1 (by omega)⟩⟩
/-- how many groups, for lines by a mask and points by a mask -/
theorem ym_ {f_size : Int32} {post : Int32 → Prop} (hE : yg_ends A B a_as a_bs) {x1 x2 : Int32} {L S : Nat → Prop} (hL : ∀ v, v < 16 → (bt x1 v = true ↔ L v)) (hS : ∀ v, bt x2 v = true ↔ S v) (h16 : ∀ v, L v → v < 16) (h8 : ∀ v, S v → v < 8) (hp : post (nI (gc_c A B L S))) : wpY_many post (f_size, a_there, a_as, a_bs) x1 x2 := by
  refine ys_many hE (fun v z => h8 v ((hS v).mp z)) ?_
  rw [gc_ceq (L' := L) (S' := S) (fun k => ⟨fun z => (hL k z.1).mp z.2, fun z => ⟨h16 k z, (hL k (h16 k z)).mpr z⟩⟩) hS]
  exact hp
theorem yj_ {f_size : Int32} {post : Int32 → Prop} (hE : yg_ends A B a_as a_bs) {x1 x2 x3 : Int32} {L S : Nat → Prop} (hL : ∀ v, v < 16 → (bt x2 v = true ↔ L v)) (hS : ∀ v, bt x3 v = true ↔ S v) (h16 : ∀ v, L v → v < 16) (h8 : ∀ v, S v → v < 8)
    (hp : ∀ r, (∀ v, bt r v = true ↔ ∃ u, (bt x1 u = true ∧ S u) ∧ gc A B L S u v) → post r) : wpY_joined post (f_size, a_there, a_as, a_bs) x1 x2 x3 := by
  refine ys_join hE (fun v z => h8 v ((hS v).mp z)) (fun r hr => hp r fun v => ?_)
  rw [hr v]
  have e : ∀ u, gc A B (bs_ x2 16) (fun v => bt x3 v = true) u v ↔ gc A B L S u v := fun u => gc_eqL (fun k => ⟨fun z => (hL k z.1).mp z.2, fun z => ⟨h16 k z, (hL k (h16 k z)).mpr z⟩⟩) hS
  exact ⟨fun ⟨u, hu, g⟩ => ⟨u, ⟨hu.1, (hS u).mp hu.2⟩, (e u).mp g⟩, fun ⟨u, hu, g⟩ => ⟨u, ⟨hu.1, (hS u).mpr hu.2⟩, (e u).mpr g⟩⟩
theorem ye_ {u : SY} {post : Int32 → Prop} {e : Int32} (h1 : (0 ≤ e ∧ e ≤ 2) → post 1) (h0 : ¬ (0 ≤ e ∧ e ≤ 2) → post 0) : wpY_engine post u e := by
  obtain ⟨f_size, a_there, a_as, a_bs⟩ := u
  refine br_c (fun h => h0 fun z => ?_) (fun h => br_c (fun g => h0 fun z => ?_) (fun g => h1 ⟨Int32.not_lt.mp h, Int32.not_lt.mp g⟩))
  · exact absurd h (Int32.not_lt.mpr z.1)
  · exact absurd g (Int32.not_lt.mpr z.2)
theorem yb_groups (hg : gr_ n P A B) (hT : yg_th P a_there) (hE : yg_ends A B a_as a_bs) (hM : ∀ v, bt M v = true ↔ P v) {post : Int32 → Prop} {e : Int32}
    (h1 : (0 ≤ e ∧ e ≤ 2) → post (nI (gc_c A B P (fun x => x < n)))) (h0 : ¬ (0 ≤ e ∧ e ≤ 2) → post (-1)) : wpY_groups post (nI n, a_there, a_as, a_bs) e := by
  unfold wpY_groups
  dsimp only
  refine ye_ (fun he => br_f bb_10 (yl_ hT hM (fun k z => (hg.2 k z).1) ?_)) (fun he => br_t rfl (h0 he))
  exact ym_ hE (fun v _ => hM v) (fun v => al_b hg.1.2) (fun k z => (hg.2 k z).1) (fun v z => Nat.lt_of_lt_of_le z hg.1.2) (h1 he)
theorem yb_bridL (hg : gr_ n P A B) (hT : yg_th P a_there) (hE : yg_ends A B a_as a_bs) (hM : ∀ v, bt M v = true ↔ P v) {post : Int32 → Prop} {e : Int32}
    (hp : ∀ r, (∀ v, bt r v = true ↔ sp_br A B P (fun x => x < n) v) → ((0 ≤ e ∧ e ≤ 2) → post r) ∧ (¬ (0 ≤ e ∧ e ≤ 2) → post (-1))) :
    ∀ d k x2, k + d = 16 → (∀ v, v < 32 → (bt x2 v = true ↔ v < k ∧ sp_br A B P (fun x => x < n) v)) → wY_bridges_4 post e (nI n) a_there a_as a_bs (d + 1) x2 (nI k)
  | 0, k, x2, hk, I => by
    have e : k = 16 := by omega
    subst e
    have J := hp x2 fun v => by
      rcases Nat.lt_or_ge v 32 with z | z
      · rw [I v z]; exact ⟨fun q => q.2, fun q => ⟨(hg.2 v q.1).1, q⟩⟩
      · exact ⟨fun q => absurd (bb_lt q) (by omega), fun q => absurd (hg.2 v q.1).1 (by omega)⟩
    exact br_t (show (16 : Int32) ≤ nI 16 from by decide) (ye_ (fun he => br_f bb_10 (J.1 he)) (fun he => br_t rfl (J.2 he)))
  | d + 1, k, x2, hk, I => by
    have hk16 : k < 16 := by omega
    have P16 : ∀ v, P v → v < 16 := fun v z => (hg.2 v z).1
    have V8 : ∀ v, v < n → v < 8 := fun v z => Nat.lt_of_lt_of_le z hg.1.2
    have no : ¬ sp_br A B P (fun x => x < n) k → wY_bridges_4 post e (nI n) a_there a_as a_bs (d + 1) x2 (nI k + 1) := by
      intro ns
      rw [nI_1]
      refine yb_bridL hg hT hE hM hp d (k + 1) x2 (by omega) fun v hv => ?_
      rw [I v hv]
      refine ⟨fun z => ⟨by omega, z.2⟩, fun z => ⟨?_, z.2⟩⟩
      rcases Nat.lt_or_ge v k with y | y
      · exact y
      · have e : v = k := by omega
        subst e
        exact absurd z.2 ns
    refine br_f (nI_ge (b := 16) hk16 (by decide)) ⟨vp_in_nI hk16 (by decide), yg_br hT hk16 (fun t => br_t rfl (nm_e (no fun z => t z.1))) (fun t => ?_)⟩
    have gk := hg.2 k t
    refine yl_ hT hM P16 ?_
    refine ym_ hE (L := fun j => P j ∧ j ≠ k) (fun v hv => ?_) (fun v => al_b hg.1.2) (fun v z => P16 v z.1) V8 ?_
    · rw [bb_del rfl (by omega) (by omega), hM v]
    refine yl_ hT hM P16 ?_
    refine ym_ hE (L := P) (fun v _ => hM v) (fun v => al_b hg.1.2) P16 V8 ?_
    have c8 : ∀ L, gc_c A B L (fun x => x < n) < 2 ^ 31 := fun L => Nat.lt_of_le_of_lt (ct_le _ 8) (by decide)
    have br := gc_bridge (A := A) (B := B) (L := P) (S := fun x => x < n) V8 t gk.2.1 gk.2.2.1
    refine pk_le _ _ (fun h => br_t rfl (nm_e (no fun z => ?_))) (fun h => br_f bb_10 (nm_e (nm_r (nI_1 k) (yb_bridL hg hT hE hM hp d (k + 1) _ (by omega) fun v hv => ?_)))) rfl rfl (c8 _) (c8 _)
    · have := br.mpr z.2; omega
    · rw [bb_or1 rfl (by omega) hv, I v hv]
      constructor
      · rintro (z | rfl)
        · exact ⟨by omega, z.2⟩
        · exact ⟨by omega, t, br.mp h⟩
      · rintro ⟨z, y⟩
        rcases Nat.lt_or_ge v k with w | w
        · exact Or.inl ⟨w, y⟩
        · exact Or.inr (by omega)
theorem yb_bridges (hg : gr_ n P A B) (hT : yg_th P a_there) (hE : yg_ends A B a_as a_bs) (hM : ∀ v, bt M v = true ↔ P v) {post : Int32 → Prop} {e : Int32}
    (hp : ∀ r, (∀ v, bt r v = true ↔ sp_br A B P (fun x => x < n) v) → ((0 ≤ e ∧ e ≤ 2) → post r) ∧ (¬ (0 ≤ e ∧ e ≤ 2) → post (-1))) : wpY_bridges post (nI n, a_there, a_as, a_bs) e :=
  ⟨17, yb_bridL hg hT hE hM hp 16 0 0 rfl fun v hv => ⟨fun z => absurd z (bb_0 v), fun z => absurd z.1 (by omega)⟩⟩
theorem yb_hingL (hg : gr_ n P A B) (hT : yg_th P a_there) (hE : yg_ends A B a_as a_bs) (hM : ∀ v, bt M v = true ↔ P v) {post : Int32 → Prop} {e : Int32}
    (hp : ∀ r, (∀ v, bt r v = true ↔ sp_hi A B P (fun x => x < n) v) → ((0 ≤ e ∧ e ≤ 2) → post r) ∧ (¬ (0 ≤ e ∧ e ≤ 2) → post (-1))) :
    ∀ d k x2, k + d = n → (∀ v, v < 32 → (bt x2 v = true ↔ v < k ∧ sp_hi A B P (fun x => x < n) v)) → wY_hinges_4 post e (nI n) a_there a_as a_bs (d + 1) x2 (nI k)
  | 0, k, x2, hk, I => by
    have e : k = n := by omega
    subst e
    have n8 := hg.1.2
    have J := hp x2 fun v => by
      rcases Nat.lt_or_ge v 32 with z | z
      · rw [I v z]; exact ⟨fun q => q.2, fun q => ⟨q.1, q⟩⟩
      · exact ⟨fun q => absurd (bb_lt q) (by omega), fun q => absurd q.1 (by omega)⟩
    exact br_t (nI_le (Nat.le_refl _) (by omega)) (ye_ (fun he => br_f bb_10 (J.1 he)) (fun he => br_t rfl (J.2 he)))
  | d + 1, k, x2, hk, I => by
    have n8 := hg.1.2
    have hkn : k < n := by omega
    have P16 : ∀ v, P v → v < 16 := fun v z => (hg.2 v z).1
    have V8 : ∀ v, v < n → v < 8 := fun v z => Nat.lt_of_lt_of_le z hg.1.2
    refine br_f (nI_ge (b := n) hkn (by omega)) ?_
    refine yl_ hT hM P16 ?_
    refine ym_ hE (L := P) (S := fun x => x < n ∧ x ≠ k) (fun v _ => hM v) (fun v => ?_) P16 (fun v z => V8 v z.1) ?_
    · rcases Nat.lt_or_ge v 32 with z | z
      · rw [bb_del rfl (by omega) z]
        exact ⟨fun q => ⟨(al_b hg.1.2).mp q.1, q.2⟩, fun q => ⟨(al_b hg.1.2).mpr q.1, q.2⟩⟩
      · exact ⟨fun q => absurd (bb_lt q) (by omega), fun q => absurd q.1 (by omega)⟩
    refine yl_ hT hM P16 ?_
    refine ym_ hE (L := P) (fun v _ => hM v) (fun v => al_b hg.1.2) P16 V8 ?_
    have c8 : ∀ L S, gc_c A B L S < 2 ^ 31 := fun L S => Nat.lt_of_le_of_lt (ct_le _ 8) (by decide)
    have br := gc_hinge (A := A) (B := B) (L := P) (S := fun x => x < n) V8 hkn
    refine pk_le _ _ (fun h => nm_r (nI_1 k) (yb_hingL hg hT hE hM hp d (k + 1) _ (by omega) fun v hv => ?_)) (fun h => nm_e (nm_r (nI_1 k) (yb_hingL hg hT hE hM hp d (k + 1) _ (by omega) fun v hv => ?_))) rfl rfl (c8 _ _) (c8 _ _)
    · rw [I v hv]
      refine ⟨fun z => ⟨by omega, z.2⟩, fun z => ⟨?_, z.2⟩⟩
      rcases Nat.lt_or_ge v k with y | y
      · exact y
      · have e : v = k := by omega
        subst e
        have := br.mpr z.2.2
        omega
    · rw [bb_or1 rfl (by omega) hv, I v hv]
      constructor
      · rintro (z | rfl)
        · exact ⟨by omega, z.2⟩
        · exact ⟨by omega, hkn, br.mp h⟩
      · rintro ⟨z, y⟩
        rcases Nat.lt_or_ge v k with w | w
        · exact Or.inl ⟨w, y⟩
        · exact Or.inr (by omega)
theorem yb_hinges (hg : gr_ n P A B) (hT : yg_th P a_there) (hE : yg_ends A B a_as a_bs) (hM : ∀ v, bt M v = true ↔ P v) {post : Int32 → Prop} {e : Int32}
    (hp : ∀ r, (∀ v, bt r v = true ↔ sp_hi A B P (fun x => x < n) v) → ((0 ≤ e ∧ e ≤ 2) → post r) ∧ (¬ (0 ≤ e ∧ e ≤ 2) → post (-1))) : wpY_hinges post (nI n, a_there, a_as, a_bs) e :=
  ⟨n + 1, yb_hingL hg hT hE hM hp n 0 0 (by omega) fun v hv => ⟨fun z => absurd z (bb_0 v), fun z => absurd z.1 (by omega)⟩⟩
end
end
section
/-! ===== blocks in the reference ===== -/
theorem sp_cut {A B : Nat → Nat} {P S : Nat → Prop} {k l p : Nat} (hS : S p → False) (kl : k ≠ l) :
    (∃ u w, sp_en A B k p u ∧ sp_en A B l p w ∧ S u ∧ gc A B (fun j => (P j ∧ j ≠ k) ∧ j ≠ l) S u w) ↔ ∃ u w, sp_en A B k p u ∧ sp_en A B l p w ∧ S u ∧ gc A B P S u w := by
  constructor
  · rintro ⟨u, w, a, b, su, g⟩
    exact ⟨u, w, a, b, su, gc_mono (fun j z _ _ => z.1.1) (fun _ z => z) g⟩
  · rintro ⟨u, w, a, b, su, g⟩
    apply Classical.byContradiction
    intro no
    have ne : ∀ {x}, S x → x ≠ p := fun sx e => hS (e ▸ sx)
    have J := gc_sep g (fun v => ∃ u, sp_en A B k p u ∧ S u ∧ gc A B (fun j => (P j ∧ j ≠ k) ∧ j ≠ l) S u v) (fun j pj sa sb => by
      rcases Classical.em (j = k) with e | e
      · subst e
        exact ⟨fun _ => ⟨B j, ⟨Or.inr rfl, ne sb⟩, sb, gc_r _⟩, fun _ => ⟨A j, ⟨Or.inl rfl, ne sa⟩, sa, gc_r _⟩⟩
      · rcases Classical.em (j = l) with f | f
        · subst f
          exact ⟨fun ⟨u, q1, q2, q3⟩ => absurd ⟨u, A j, q1, ⟨Or.inl rfl, ne sa⟩, q2, q3⟩ no, fun ⟨u, q1, q2, q3⟩ => absurd ⟨u, B j, q1, ⟨Or.inr rfl, ne sb⟩, q2, q3⟩ no⟩
        · have l' := gc_l (A := A) (B := B) (L := fun j => (P j ∧ j ≠ k) ∧ j ≠ l) (S := S) ⟨⟨pj, e⟩, f⟩ sa sb
          exact ⟨fun ⟨u, q1, q2, q3⟩ => ⟨u, q1, q2, gc_t q3 l'⟩, fun ⟨u, q1, q2, q3⟩ => ⟨u, q1, q2, gc_t q3 (gc_s l')⟩⟩)
    obtain ⟨u', q1, q2, q3⟩ := J.mp ⟨u, a, su, gc_r _⟩
    exact no ⟨u', w, q1, b, q2, q3⟩
section
variable {a_there a_as a_bs : Nat → Int32} {A B : Nat → Nat} {n : Nat} {P : Nat → Prop} {M : Int32}
theorem yn_ {f_size : Int32} (hE : yg_ends A B a_as a_bs) {k : Nat} (hk : k < 16) {post : Int32 → Prop} (hp : ∀ r, (∀ v, bt r v = true ↔ v = A k ∨ v = B k) → post r) : wpY_ends post (f_size, a_there, a_as, a_bs) (nI k) := by
  have ha := yg_al hE hk
  have hb := yg_bl hE hk
  refine ⟨vp_in_nI hk (by decide), vp_in_nI hk (by decide), hp _ fun v => ?_⟩
  rcases Nat.lt_or_ge v 32 with z | z
  · rw [bb_or, bb_shl (yg_a hE hk) (by omega) z, bb_shl (yg_b hE hk) (by omega) z]
  · exact ⟨fun q => absurd (bb_lt q) (by omega), fun q => by omega⟩
theorem yt_loop (hg : gr_ n P A B) (hE : yg_ends A B a_as a_bs) {k l : Nat} {x3 : Int32} (pk : P k) (pl : P l) (kl : k ≠ l) (h3 : ∀ v, v < 16 → (bt x3 v = true ↔ (P v ∧ v ≠ k) ∧ v ≠ l)) {post : Int32 → Prop}
    (h1 : sp_tg A B P (fun x => x < n) k l → post 1) (h0 : ¬ sp_tg A B P (fun x => x < n) k l → post 0) :
    ∀ d p x4, p + d = n → ((x4 = 1 ∧ ∀ q, q < p → sp_at A B P (fun x => x < n) q k l) ∨ (x4 = 0 ∧ ∃ q, q < p ∧ ¬ sp_at A B P (fun x => x < n) q k l)) → wY_together_23 post (nI k) (nI l) x3 (nI n) a_there a_as a_bs (d + 1) x4 (nI p)
  | 0, p, x4, hp, I => by
    have e : p = n := by omega
    subst e
    have n8 := hg.1.2
    refine br_t (nI_le (Nat.le_refl _) (by omega)) ?_
    rcases I with ⟨rfl, I⟩ | ⟨rfl, q, hq, I⟩
    · exact ⟨narrow_b1, h1 I⟩
    · exact ⟨narrow_b0, h0 fun z => I (z q hq)⟩
  | d + 1, p, x4, hp, I => by
    have n8 := hg.1.2
    have hpn : p < n := by omega
    have k16 := (hg.2 k pk).1
    have l16 := (hg.2 l pl).1
    refine br_f (nI_ge (b := n) hpn (by omega)) ?_
    rcases I with ⟨rfl, I⟩ | ⟨rfl, q, hq, I⟩
    · refine br_f bb_10 (yn_ hE k16 fun r hr => yj_ hE (L := fun j => (P j ∧ j ≠ k) ∧ j ≠ l) (S := fun x => x < n ∧ x ≠ p) h3 (fun v => ?_) (fun v z => (hg.2 v z.1.1).1) (fun v z => Nat.lt_of_lt_of_le z.1 n8) (fun r' hr' => yn_ hE l16 fun r'' hr'' => ?_))
      · rcases Nat.lt_or_ge v 32 with z | z
        · rw [bb_del rfl (by omega) z]
          exact ⟨fun q => ⟨(al_b hg.1.2).mp q.1, q.2⟩, fun q => ⟨(al_b hg.1.2).mpr q.1, q.2⟩⟩
        · exact ⟨fun q => absurd (bb_lt q) (by omega), fun q => absurd q.1 (by omega)⟩
      · have key : (r' &&& r'' = 0) ↔ ¬ sp_at A B P (fun x => x < n) p k l := by
          have c := sp_cut (A := A) (B := B) (P := P) (S := fun x => x < n ∧ x ≠ p) (p := p) (fun z => z.2 rfl) kl
          have vk : ∀ u, sp_en A B k p u → u < n ∧ u ≠ p := fun u z => ⟨z.1.elim (fun e => e ▸ (hg.2 k pk).2.1) (fun e => e ▸ (hg.2 k pk).2.2.1), z.2⟩
          rw [bb_eq0]
          constructor
          · rintro h ⟨u, w, a, b, g⟩
            obtain ⟨u', w', a', b', su', g'⟩ := c.mpr ⟨u, w, a, b, vk u a, g⟩
            have bw : w' < 32 := by have := (gc_inS g' su').1; omega
            exact h w' bw (bb_and.mpr ⟨(hr' w').mpr ⟨u', ⟨(hr u').mpr a'.1, su'⟩, g'⟩, (hr'' w').mpr b'.1⟩)
          · intro h v hv b
            obtain ⟨b1, b2⟩ := bb_and.mp b
            obtain ⟨u, ⟨bu, su⟩, g⟩ := (hr' v).mp b1
            have sv := gc_inS g su
            obtain ⟨u', w', a', b', su', g'⟩ := c.mp ⟨u, v, ⟨(hr u).mp bu, su.2⟩, ⟨(hr'' v).mp b2, sv.2⟩, su, g⟩
            exact h ⟨u', w', a', b', g'⟩
        refine br_c (fun z => nm_r (nI_1 p) (yt_loop hg hE pk pl kl h3 h1 h0 d (p + 1) 0 (by omega) (Or.inr ⟨rfl, p, by omega, key.mp z⟩))) (fun z => nm_r (nI_1 p) (yt_loop hg hE pk pl kl h3 h1 h0 d (p + 1) 1 (by omega) (Or.inl ⟨rfl, fun q hq => ?_⟩)))
        rcases Nat.lt_or_ge q p with y | y
        · exact I q y
        · have e : q = p := by omega
          subst e
          exact Classical.byContradiction fun w => z (key.mpr w)
    · exact br_t rfl (nm_r (nI_1 p) (yt_loop hg hE pk pl kl h3 h1 h0 d (p + 1) 0 (by omega) (Or.inr ⟨rfl, q, by omega, I⟩)))
theorem yt_ (hg : gr_ n P A B) (hT : yg_th P a_there) (hE : yg_ends A B a_as a_bs) (hM : ∀ v, bt M v = true ↔ P v) {k l : Nat} (pk : P k) (pl : P l) (kl : k ≠ l) {post : Int32 → Prop}
    (h1 : sp_tg A B P (fun x => x < n) k l → post 1) (h0 : ¬ sp_tg A B P (fun x => x < n) k l → post 0) : wpY_together post (nI n, a_there, a_as, a_bs) (nI k) (nI l) := by
  have k16 := (hg.2 k pk).1
  have l16 := (hg.2 l pl).1
  unfold wpY_together
  dsimp only
  refine yl_ hT hM (fun k z => (hg.2 k z).1) (nm_e ⟨n + 1, yt_loop hg hE pk pl kl (fun v hv => ?_) h1 h0 n 0 1 (by omega) (Or.inl ⟨rfl, fun q hq => absurd hq (by omega)⟩)⟩)
  rw [bb_del rfl (by omega) (by omega), bb_del rfl (by omega) (by omega), hM v]
theorem yk_loop (hg : gr_ n P A B) (hT : yg_th P a_there) (hE : yg_ends A B a_as a_bs) (hM : ∀ v, bt M v = true ↔ P v) {k : Nat} (pk : P k) {post : Int32 → Prop}
    (hp : ∀ r, (∀ v, bt r v = true ↔ v = k ∨ (P v ∧ v ≠ k ∧ sp_tg A B P (fun x => x < n) k v)) → post r) :
    ∀ d l x2, l + d = 16 → (∀ v, v < 32 → (bt x2 v = true ↔ v = k ∨ (v < l ∧ P v ∧ v ≠ k ∧ sp_tg A B P (fun x => x < n) k v))) → wY_block_16 post (nI k) (nI n) a_there a_as a_bs (d + 1) x2 (nI l)
  | 0, l, x2, hl, I => by
    have e : l = 16 := by omega
    subst e
    refine br_t (show (16 : Int32) ≤ nI 16 from by decide) (hp _ fun v => ?_)
    have k16 := (hg.2 k pk).1
    rcases Nat.lt_or_ge v 32 with z | z
    · rw [I v z]
      exact ⟨fun q => q.elim Or.inl (fun y => Or.inr y.2), fun q => q.elim Or.inl (fun y => Or.inr ⟨(hg.2 v y.1).1, y⟩)⟩
    · exact ⟨fun q => absurd (bb_lt q) (by omega), fun q => by rcases q with q | q; omega; have := (hg.2 v q.1).1; omega⟩
  | d + 1, l, x2, hl, I => by
    have hl16 : l < 16 := by omega
    have k16 := (hg.2 k pk).1
    have no : ¬ (P l ∧ l ≠ k ∧ sp_tg A B P (fun x => x < n) k l) → wY_block_16 post (nI k) (nI n) a_there a_as a_bs (d + 1) x2 (nI l + 1) := by
      intro ns
      rw [nI_1]
      refine yk_loop hg hT hE hM pk hp d (l + 1) x2 (by omega) fun v hv => ?_
      rw [I v hv]
      constructor
      · rintro (z | z)
        · exact Or.inl z
        · exact Or.inr ⟨by omega, z.2⟩
      · rintro (z | z)
        · exact Or.inl z
        · rcases Nat.lt_or_ge v l with y | y
          · exact Or.inr ⟨y, z.2⟩
          · have e : v = l := by omega
            subst e
            exact absurd z.2 ns
    refine br_f (nI_ge (b := 16) hl16 (by decide)) ⟨vp_in_nI hl16 (by decide), yg_br hT hl16 (fun t => nm_e (no fun z => t z.1)) (fun t => pk_eq l k (fun e => nm_e (no fun z => z.2.1 e)) (fun ne => yt_ hg hT hE hM pk t (fun e => ne e.symm) (fun y => br_f bb_10 (nm_e (nm_r (nI_1 l) (yk_loop hg hT hE hM pk hp d (l + 1) _ (by omega) fun v hv => ?_)))) (fun y => br_t rfl (nm_e (no fun z => y z.2.2)))))⟩
    rw [bb_or1 rfl (by omega) hv, I v hv]
    constructor
    · rintro ((z | z) | rfl)
      · exact Or.inl z
      · exact Or.inr ⟨by omega, z.2⟩
      · exact Or.inr ⟨by omega, t, ne, y⟩
    · rintro (z | z)
      · exact Or.inl (Or.inl z)
      · rcases Nat.lt_or_ge v l with w | w
        · exact Or.inl (Or.inr ⟨w, z.2⟩)
        · exact Or.inr (by omega)
theorem yi_ {P : Nat → Prop} {f_size : Int32} (hT : yg_th P a_there) {k : Int32} {post : Int32 → Prop} (h1 : ∀ j, j < 16 → k = nI j → P j → post 1) (h0 : (∀ j, j < 16 → k = nI j → ¬ P j) → post 0) : wpY_is post (f_size, a_there, a_as, a_bs) k := by
  rcases pk_ix k (n := 16) (by decide) with h | h | ⟨j, hj, rfl⟩
  · refine br_t h (h0 fun j hj e => ?_)
    subst e
    exact absurd h (nI_pos (by omega))
  · have c : ¬ k < 0 := Int32.not_lt.mpr (Int32.le_trans (show (0 : Int32) ≤ nI 16 by decide) h)
    refine br_f c (br_t h (h0 fun j hj e => ?_))
    subst e
    exact absurd h (nI_ge hj (by decide))
  · refine br_f (nI_pos (by omega)) (br_f (nI_ge (b := 16) hj (by decide)) ⟨vp_in_nI hj (by decide), yg_br hT hj (fun t => h0 fun i hi e => ?_) (fun t => h1 j hj rfl t)⟩)
    have e := (nI_eq (by omega) (by omega)).mp e
    exact e ▸ t
theorem yk_ (hg : gr_ n P A B) (hT : yg_th P a_there) (hE : yg_ends A B a_as a_bs) (hM : ∀ v, bt M v = true ↔ P v) {k : Int32} {post : Int32 → Prop}
    (hp : ∀ j r, k = nI j → P j → (∀ v, bt r v = true ↔ v = j ∨ (P v ∧ v ≠ j ∧ sp_tg A B P (fun x => x < n) j v)) → post r) (h0 : (∀ j, j < 16 → k = nI j → ¬ P j) → post (-1)) : wpY_block post (nI n, a_there, a_as, a_bs) k := by
  unfold wpY_block
  dsimp only
  refine yi_ hT (fun j hj e pj => br_f bb_10 ?_) (fun h => br_t rfl (h0 h))
  subst e
  refine nm_e ⟨17, yk_loop hg hT hE hM pj (fun r hr => hp j r rfl pj hr) 16 0 _ rfl fun v hv => ?_⟩
  rw [bb_shl rfl (by omega) hv]
  exact ⟨Or.inl, fun z => z.elim id (fun y => absurd y.1 (by omega))⟩
theorem yp_ {f_size : Int32} {n : Nat} (hn : n < 2 ^ 31) (e : f_size = nI n) {p : Int32} {post : Int32 → Prop} (h1 : ∀ j, j < n → p = nI j → post 1) (h0 : (∀ j, j < n → p = nI j → False) → post 0) : wpY_point post (f_size, a_there, a_as, a_bs) p := by
  subst e
  rcases pk_ix p (n := n) hn with h | h | ⟨j, hj, rfl⟩
  · refine br_t h (h0 fun j hj e => ?_)
    subst e
    exact absurd h (nI_pos (by omega))
  · have c : ¬ p < 0 := Int32.not_lt.mpr (Int32.le_trans (nI_pos' hn) h)
    refine br_f c (br_t h (h0 fun j hj e => ?_))
    subst e
    exact absurd h (nI_ge hj hn)
  · exact br_f (nI_pos (by omega)) (br_f (nI_ge hj hn) (h1 j hj rfl))
theorem yq_ (hg : gr_ n P A B) (hT : yg_th P a_there) (hE : yg_ends A B a_as a_bs) (hM : ∀ v, bt M v = true ↔ P v) {p : Int32} {post : Int32 → Prop}
    (hp : ∀ j r, p = nI j → j < n → (∀ v, bt r v = true ↔ gc A B (fun k => P k ∧ ¬ sp_br A B P (fun x => x < n) k) (fun x => x < n) j v) → post r) (h0 : (∀ j, j < n → p = nI j → False) → post (-1)) : wpY_island post (nI n, a_there, a_as, a_bs) p := by
  have n8 := hg.1.2
  unfold wpY_island
  dsimp only
  refine yp_ (by omega) rfl (fun j hj e => br_f bb_10 ?_) (fun h => br_t rfl (h0 h))
  subst e
  have P16 : ∀ v, P v → v < 16 := fun v z => (hg.2 v z).1
  refine yl_ hT hM P16 (yb_bridges hg hT hE hM fun r hr => ⟨fun _ => ?_, fun z => absurd (by decide) z⟩)
  refine yj_ hE (L := fun k => P k ∧ ¬ sp_br A B P (fun x => x < n) k) (S := fun x => x < n) (fun v hv => ?_) (fun v => al_b n8) (fun v z => P16 v z.1) (fun v z => Nat.lt_of_lt_of_le z n8) (fun r' hr' => hp j r' rfl hj fun v => ?_)
  · rw [bb_and, bb_not (by omega), hM v, hr v]
  · rw [hr' v]
    constructor
    · rintro ⟨u, ⟨hu, _⟩, g⟩
      have e := (bb_shl (s := nI j) rfl (by omega) (bb_lt hu)).mp hu
      exact e ▸ g
    · intro g
      exact ⟨j, ⟨(bb_shl rfl (by omega) (by omega)).mpr rfl, hj⟩, g⟩
end
end
section
/-! ===== sums ===== -/
def sm_ (f : Nat → Nat) : Nat → Nat
  | 0 => 0
  | k + 1 => sm_ f k + f k
theorem sm_eq {f g : Nat → Nat} : ∀ {N : Nat}, (∀ k, k < N → f k = g k) → sm_ f N = sm_ g N
  | 0, _ => rfl
  | N + 1, h => by simp only [sm_]; rw [sm_eq (fun k hk => h k (by omega)), h N (by omega)]
theorem sm_one {f g : Nat → Nat} {a : Nat} : ∀ {N : Nat}, a < N → (∀ k, k < N → k ≠ a → f k = g k) → sm_ f N + g a = sm_ g N + f a
  | 0, h, _ => by omega
  | N + 1, h, e => by
    simp only [sm_]
    rcases Nat.lt_or_ge a N with z | z
    · have := sm_one z (fun k hk => e k (by omega))
      have := e N (by omega) (by omega)
      omega
    · have q : a = N := by omega
      subst q
      rw [sm_eq (fun k hk => e k (by omega) (by omega))]
      omega
/-! ===== parents ===== -/
def up_ (par : Nat → Nat) : Nat → Nat → Nat
  | 0, x => x
  | i + 1, x => up_ par i (par x)
def an_ (par : Nat → Nat) (u v : Nat) : Prop := ∃ i, up_ par i v = u
section
variable {par par' : Nat → Nat}
theorem up_s (i x : Nat) : up_ par (i + 1) x = par (up_ par i x) := by
  induction i generalizing x with
  | zero => rfl
  | succ i ih => exact ih (par x)
theorem up_add (i j x : Nat) : up_ par (i + j) x = up_ par i (up_ par j x) := by
  induction j generalizing x with
  | zero => rfl
  | succ j ih => exact ih (par x)
theorem an_r (u : Nat) : an_ par u u := ⟨0, rfl⟩
theorem an_t {u v w : Nat} (h : an_ par u v) (g : an_ par v w) : an_ par u w := by
  obtain ⟨i, rfl⟩ := h
  obtain ⟨j, rfl⟩ := g
  exact ⟨i + j, up_add i j w⟩
theorem an_p (x : Nat) : an_ par (par x) x := ⟨1, rfl⟩
theorem an_cmp {u v x : Nat} (h : an_ par u x) (g : an_ par v x) : an_ par u v ∨ an_ par v u := by
  obtain ⟨i, rfl⟩ := h
  obtain ⟨j, rfl⟩ := g
  rcases Nat.le_total i j with z | z
  · refine Or.inr ⟨j - i, ?_⟩
    rw [← up_add]; congr 1; omega
  · refine Or.inl ⟨i - j, ?_⟩
    rw [← up_add]; congr 1; omega
theorem an_st {u v : Nat} (h : an_ par u v) : u = v ∨ an_ par u (par v) := by
  obtain ⟨i, hi⟩ := h
  cases i with
  | zero => exact Or.inl hi.symm
  | succ i => exact Or.inr ⟨i, hi⟩
/-- what holds at v and goes up holds at its ancestors -/
theorem an_up {Q : Nat → Prop} (hq : ∀ x, Q x → Q (par x)) {u v : Nat} (h : an_ par u v) (q : Q v) : Q u := by
  obtain ⟨i, rfl⟩ := h
  induction i generalizing v with
  | zero => exact q
  | succ i ih => exact ih (hq v q)
theorem an_agree {Q : Nat → Prop} (hq : ∀ x, Q x → Q (par x)) (e : ∀ x, Q x → par' x = par x) {u v : Nat} (q : Q v) : an_ par' u v ↔ an_ par u v := by
  have : ∀ i v, Q v → up_ par' i v = up_ par i v := by
    intro i
    induction i with
    | zero => intro v _; rfl
    | succ i ih => intro v q; show up_ par' i (par' v) = up_ par i (par v); rw [e v q]; exact ih _ (hq v q)
  exact ⟨fun ⟨i, h⟩ => ⟨i, (this i v q).symm.trans h⟩, fun ⟨i, h⟩ => ⟨i, (this i v q).trans h⟩⟩
end
/-! ===== lines at points ===== -/
def tc_ (A B : Nat → Nat) (P : Nat → Prop) (k p : Nat) : Prop := P k ∧ (A k = p ∨ B k = p)
def oe_ (A B : Nat → Nat) (k p : Nat) : Nat := if A k = p then B k else A k
def jn_ (A B : Nat → Nat) (k x y : Nat) : Prop := (A k = x ∧ B k = y) ∨ (A k = y ∧ B k = x)
theorem oe_jn {A B : Nat → Nat} {P : Nat → Prop} {k x : Nat} (h : tc_ A B P k x) : jn_ A B k x (oe_ A B k x) := by
  unfold oe_
  rcases h.2 with e | e
  · rw [if_pos e]; exact Or.inl ⟨e, rfl⟩
  · by_cases z : A k = x
    · rw [if_pos z]; exact Or.inl ⟨z, rfl⟩
    · rw [if_neg z]; exact Or.inr ⟨rfl, e⟩
theorem oe_of {A B : Nat → Nat} {k x y : Nat} (ne : A k ≠ B k) (h : jn_ A B k x y) : oe_ A B k x = y := by
  unfold oe_
  rcases h with ⟨a, b⟩ | ⟨a, b⟩
  · rw [if_pos a]; exact b
  · rw [if_neg (fun e => ne (e.trans b.symm))]; exact a
theorem jn_s {A B : Nat → Nat} {k x y : Nat} (h : jn_ A B k x y) : jn_ A B k y x := Or.symm h
theorem jn_tc {A B : Nat → Nat} {P : Nat → Prop} {k x y : Nat} (p : P k) (h : jn_ A B k x y) : tc_ A B P k x := ⟨p, h.elim (fun z => Or.inl z.1) (fun z => Or.inr z.2)⟩
theorem jn_gc {A B : Nat → Nat} {L S : Nat → Prop} {k x y : Nat} (l : L k) (sx : S x) (sy : S y) (h : jn_ A B k x y) : gc A B L S x y := by
  rcases h with ⟨rfl, rfl⟩ | ⟨rfl, rfl⟩
  · exact gc_l l sx sy
  · exact gc_s (gc_l l sy sx)
end
section
/-! ===== the component: small methods ===== -/
theorem by_n {c : Nat} (h : c < 128) : vp_nar .byte (nI c) = nI c := by
  rw [vp_nar_byte]
  exact (by decide +kernel : ∀ c, c < 128 → (nI c).toInt8.toInt32 = nI c) c h
theorem by_c {c : Nat} (h : c < 128) : vp_nar .byte (nI c).toInt8.toInt32 = nI c := by
  rw [pk_vb]
  exact (by decide +kernel : ∀ c, c < 128 → (nI c).toInt8.toInt32 = nI c) c h
theorem by_m1 : vp_nar .byte (-1) = -1 := by rw [vp_nar_byte]; decide
theorem by_m1c : vp_nar .byte ((-1 : Int32).toInt8.toInt32) = -1 := by rw [pk_vb]; decide
theorem by_0 : vp_nar .byte 0 = 0 := by rw [vp_nar_byte]; decide
theorem by_b1 : vp_nar .boolean 1 = 1 := rfl
theorem by_b0 : vp_nar .boolean 0 = 0 := rfl
/-- the component's graph -/
def xg_ (n : Nat) (P : Nat → Prop) (A B : Nat → Nat) (m : Int32) (a b : Nat → Int32) : Prop := gr_ n P A B ∧ (∀ v, bt m v = true ↔ P v) ∧ yg_ends A B a b
section
variable {n : Nat} {P : Nat → Prop} {A B : Nat → Nat}
variable {f_present : Int32} {f_groupCount : Int32} {f_bridgeSet : Int32} {f_hingeSet : Int32} {f_walked : Int32} {a_endA : Nat → Int32} {a_endB : Nat → Int32} {a_number : Nat → Int32} {a_walkPoint : Nat → Int32} {a_parent : Nat → Int32} {a_parentLine : Nat → Int32} {a_lowest : Nat → Int32} {a_nextLine : Nat → Int32} {a_stack : Nat → Int32} {a_marked : Nat → Int32} {a_pointRoot : Nat → Int32} {a_lineRoot : Nat → Int32} {a_between : Nat → Int32} {a_melted : Nat → Int32} {a_pull : Nat → Int32} {a_left : Nat → Int32} {a_cameFrom : Nat → Int32} {a_queue : Nat → Int32} {a_matrix : Nat → Int64} {a_dist : Nat → Int32}
theorem xh_ (hX : xg_ n P A B f_present a_endA a_endB) {k : Nat} (hk : k < 16) {post : Int32 → Prop} (h1 : P k → post 1) (h0 : ¬ P k → post 0) : wpX_has post (nI n, f_present, f_groupCount, f_bridgeSet, f_hingeSet, f_walked, a_endA, a_endB, a_number, a_walkPoint, a_parent, a_parentLine, a_lowest, a_nextLine, a_stack, a_marked, a_pointRoot, a_lineRoot, a_between, a_melted, a_pull, a_left, a_cameFrom, a_queue, a_matrix, a_dist) (nI k) :=
  br_f (nI_pos (by omega)) (br_f (nI_ge (b := 16) hk (by decide)) (bb_br0 rfl (by omega) (fun t => h0 fun z => t ((hX.2.1 k).mpr z)) (fun t => h1 ((hX.2.1 k).mp t))))
/-- 'has' of any int -/
theorem xh_i (hX : xg_ n P A B f_present a_endA a_endB) {k : Int32} {post : Int32 → Prop} (h1 : ∀ j, j < 16 → k = nI j → P j → post 1) (h0 : (∀ j, j < 16 → k = nI j → ¬ P j) → post 0) : wpX_has post (nI n, f_present, f_groupCount, f_bridgeSet, f_hingeSet, f_walked, a_endA, a_endB, a_number, a_walkPoint, a_parent, a_parentLine, a_lowest, a_nextLine, a_stack, a_marked, a_pointRoot, a_lineRoot, a_between, a_melted, a_pull, a_left, a_cameFrom, a_queue, a_matrix, a_dist) k := by
  rcases pk_ix k (n := 16) (by decide) with h | h | ⟨j, hj, rfl⟩
  · refine br_t h (h0 fun j hj e => ?_)
    subst e
    exact absurd h (nI_pos (by omega))
  · have c : ¬ k < 0 := Int32.not_lt.mpr (Int32.le_trans (show (0 : Int32) ≤ nI 16 by decide) h)
    refine br_f c (br_t h (h0 fun j hj e => ?_))
    subst e
    exact absurd h (nI_ge hj (by decide))
  · refine xh_ hX hj (fun t => h1 j hj rfl t) (fun t => h0 fun i hi e => ?_)
    have e := (nI_eq (by omega) (by omega)).mp e
    exact e ▸ t
theorem xp_i (hn : n ≤ 8) {p : Int32} {post : Int32 → Prop} (h1 : ∀ j, j < n → p = nI j → post 1) (h0 : (∀ j, j < n → p = nI j → False) → post 0) : wpX_isPoint post (nI n, f_present, f_groupCount, f_bridgeSet, f_hingeSet, f_walked, a_endA, a_endB, a_number, a_walkPoint, a_parent, a_parentLine, a_lowest, a_nextLine, a_stack, a_marked, a_pointRoot, a_lineRoot, a_between, a_melted, a_pull, a_left, a_cameFrom, a_queue, a_matrix, a_dist) p := by
  rcases pk_ix p (n := n) (by omega) with h | h | ⟨j, hj, rfl⟩
  · refine br_t h (h0 fun j hj e => ?_)
    subst e
    exact absurd h (nI_pos (by omega))
  · have c : ¬ p < 0 := Int32.not_lt.mpr (Int32.le_trans (nI_pos' (by omega)) h)
    refine br_f c (br_t h (h0 fun j hj e => ?_))
    subst e
    exact absurd h (nI_ge hj (by omega))
  · exact br_f (nI_pos (by omega)) (br_f (nI_ge hj (by omega)) (h1 j hj rfl))
theorem xe_ {post : Int32 → Prop} {e : Int32} (h1 : (0 ≤ e ∧ e ≤ 2) → post 1) (h0 : ¬ (0 ≤ e ∧ e ≤ 2) → post 0) : wpX_isEngine post e := by
  have c : (3 : Int32) ≤ e ↔ ¬ e ≤ 2 := by
    rw [Int32.le_iff_toInt_le, Int32.le_iff_toInt_le, show (3 : Int32).toInt = 3 from by decide, show (2 : Int32).toInt = 2 from by decide]
    omega
  refine br_c (fun h => h0 fun z => ?_) (fun h => br_c (fun g => h0 fun z => ?_) (fun g => h1 ⟨Int32.not_lt.mp h, Classical.byContradiction fun z => g (c.mpr z)⟩))
  · exact absurd h (Int32.not_lt.mpr z.1)
  · exact c.mp g z.2
theorem xt_ (hX : xg_ n P A B f_present a_endA a_endB) {k p : Nat} (hk : k < 16) (hp : p < 2 ^ 31) {post : Int32 → Prop} (h1 : tc_ A B P k p → post 1) (h0 : ¬ tc_ A B P k p → post 0) : wpX_touches post (nI n, f_present, f_groupCount, f_bridgeSet, f_hingeSet, f_walked, a_endA, a_endB, a_number, a_walkPoint, a_parent, a_parentLine, a_lowest, a_nextLine, a_stack, a_marked, a_pointRoot, a_lineRoot, a_between, a_melted, a_pull, a_left, a_cameFrom, a_queue, a_matrix, a_dist) (nI k) (nI p) := by
  have a := yg_al hX.2.2 hk
  have b := yg_bl hX.2.2 hk
  unfold wpX_touches
  dsimp only
  refine xh_ hX hk (fun t => br_f bb_10 ⟨vp_in_nI hk (by decide), pk_eq (A k) p (fun e => h1 ⟨t, Or.inl e⟩) (fun e => ⟨vp_in_nI hk (by decide), pk_eq (B k) p (fun f => h1 ⟨t, Or.inr f⟩) (fun f => h0 fun z => z.2.elim e f) (yg_b hX.2.2 hk) rfl⟩) (yg_a hX.2.2 hk) rfl⟩) (fun t => br_t rfl (h0 fun z => t z.1))
theorem xo_ (hX : xg_ n P A B f_present a_endA a_endB) {k p : Nat} (hk : k < 16) (hp : p < 2 ^ 31) {post : Int32 → Prop} (h : post (nI (oe_ A B k p))) : wpX_otherEnd post (nI n, f_present, f_groupCount, f_bridgeSet, f_hingeSet, f_walked, a_endA, a_endB, a_number, a_walkPoint, a_parent, a_parentLine, a_lowest, a_nextLine, a_stack, a_marked, a_pointRoot, a_lineRoot, a_between, a_melted, a_pull, a_left, a_cameFrom, a_queue, a_matrix, a_dist) (nI k) (nI p) := by
  have a := yg_al hX.2.2 hk
  have b := yg_bl hX.2.2 hk
  refine ⟨vp_in_nI hk (by decide), pk_eq (A k) p (fun e => ⟨vp_in_nI hk (by decide), ?_⟩) (fun e => ⟨vp_in_nI hk (by decide), ?_⟩) (yg_a hX.2.2 hk) rfl⟩
  · rw [yg_b hX.2.2 hk]
    unfold oe_ at h
    rw [if_pos e] at h
    exact h
  · rw [yg_a hX.2.2 hk]
    unfold oe_ at h
    rw [if_neg e] at h
    exact h
theorem xa_loop (hX : xg_ n P A B f_present a_endA a_endB) {p : Nat} (hp : p < 2 ^ 31) {post : Int32 → Prop} (h : ∀ r, (∀ v, bt r v = true ↔ tc_ A B P v p) → post r) :
    ∀ d k x2, k + d = 16 → (∀ v, v < 32 → (bt x2 v = true ↔ v < k ∧ tc_ A B P v p)) → wX_linesAt_4 post (nI p) (nI n) f_present f_groupCount f_bridgeSet f_hingeSet f_walked a_endA a_endB a_number a_walkPoint a_parent a_parentLine a_lowest a_nextLine a_stack a_marked a_pointRoot a_lineRoot a_between a_melted a_pull a_left a_cameFrom a_queue a_matrix a_dist (d + 1) x2 (nI k)
  | 0, k, x2, hk, I => by
    have e : k = 16 := by omega
    subst e
    refine br_t (show (16 : Int32) ≤ nI 16 from by decide) (h _ fun v => ?_)
    rcases Nat.lt_or_ge v 32 with z | z
    · rw [I v z]; exact ⟨fun q => q.2, fun q => ⟨(hX.1.2 v q.1).1, q⟩⟩
    · exact ⟨fun q => absurd (bb_lt q) (by omega), fun q => absurd (hX.1.2 v q.1).1 (by omega)⟩
  | d + 1, k, x2, hk, I => by
    have hk16 : k < 16 := by omega
    refine br_f (nI_ge (b := 16) hk16 (by decide)) (xt_ hX hk16 hp (fun t => br_f bb_10 (nm_e (nm_r (nI_1 k) (xa_loop hX hp h d (k + 1) _ (by omega) fun v hv => ?_)))) (fun t => br_t rfl (nm_r (bb_or0 _) (nm_r (nI_1 k) (xa_loop hX hp h d (k + 1) _ (by omega) fun v hv => ?_)))))
    · rw [bb_or1 rfl (by omega) hv, I v hv]
      constructor
      · rintro (z | rfl)
        · exact ⟨by omega, z.2⟩
        · exact ⟨by omega, t⟩
      · rintro ⟨z, y⟩
        rcases Nat.lt_or_ge v k with w | w
        · exact Or.inl ⟨w, y⟩
        · exact Or.inr (by omega)
    · rw [I v hv]
      refine ⟨fun z => ⟨by omega, z.2⟩, fun z => ⟨?_, z.2⟩⟩
      rcases Nat.lt_or_ge v k with y | y
      · exact y
      · have e : v = k := by omega
        subst e
        exact absurd z.2 t
theorem xa_ (hX : xg_ n P A B f_present a_endA a_endB) {p : Nat} (hp : p < 2 ^ 31) {post : Int32 → Prop} (h : ∀ r, (∀ v, bt r v = true ↔ tc_ A B P v p) → post r) : wpX_linesAt post (nI n, f_present, f_groupCount, f_bridgeSet, f_hingeSet, f_walked, a_endA, a_endB, a_number, a_walkPoint, a_parent, a_parentLine, a_lowest, a_nextLine, a_stack, a_marked, a_pointRoot, a_lineRoot, a_between, a_melted, a_pull, a_left, a_cameFrom, a_queue, a_matrix, a_dist) (nI p) :=
  ⟨17, xa_loop hX hp h 16 0 0 rfl fun v hv => ⟨fun z => absurd z (bb_0 v), fun z => absurd z.1 (by omega)⟩⟩
end
end
section
/-! ===== a walk in depth: what holds while it goes ===== -/
def fu_ {α : Type} (f : Nat → α) (a : Nat) (x : α) : Nat → α := fun j => if j = a then x else f j
theorem fu_s {α : Type} {f : Nat → α} {a : Nat} {x : α} : fu_ f a x a = x := if_pos rfl
theorem fu_n {α : Type} {f : Nat → α} {a j : Nat} {x : α} (h : j ≠ a) : fu_ f a x j = f j := if_neg h
theorem df_ne {vis : Nat → Prop} {v x : Nat} (nv : ¬ vis v) (vx : vis x) : x ≠ v := fun e => nv (e ▸ vx)
/-- numbers -/
def df_1 (vis : Nat → Prop) (num wp : Nat → Nat) (w n : Nat) : Prop := (∀ x, vis x → x < n) ∧ ct_n vis n = w ∧ (∀ x, vis x → num x < w ∧ wp (num x) = x) ∧ ∀ i, i < w → vis (wp i) ∧ num (wp i) = i
/-- parents -/
def df_2 (A B : Nat → Nat) (P vis : Nat → Prop) (num par pl : Nat → Nat) : Prop := ∀ x, vis x → par x = x ∨ (vis (par x) ∧ num (par x) < num x ∧ P (pl x) ∧ jn_ A B (pl x) (par x) x)
/-- lines that were gone along -/
def df_3 (A B : Nat → Nat) (P vis : Nat → Prop) (par nx : Nat → Nat) : Prop := ∀ x k, vis x → k < nx x → tc_ A B P k x → vis (oe_ A B k x) ∧ (an_ par x (oe_ A B k x) ∨ an_ par (oe_ A B k x) x)
/-- the stack -/
def df_4 (vis : Nat → Prop) (par nx s : Nat → Nat) (d : Nat) : Prop := (∀ x, vis x → nx x ≤ 16 ∧ (nx x = 16 ∨ ∃ i, i < d ∧ s i = x)) ∧ (∀ i, i < d → vis (s i) ∧ (i = 0 → par (s i) = s i) ∧ ∀ j, i = j + 1 → par (s i) = s j ∧ par (s i) ≠ s i)
/-- lowest numbers -/
def df_5 (A B : Nat → Nat) (P vis : Nat → Prop) (num par pl low nx s : Nat → Nat) (d : Nat) : Prop := (∀ x, vis x → low x ≤ num x) ∧ (∀ x k, vis x → k < nx x → tc_ A B P k x → (par x = x ∨ k ≠ pl x) → low x ≤ num (oe_ A B k x)) ∧ (∀ x, vis x → par x ≠ x → (∀ i, i < d → s i ≠ x) → low (par x) ≤ low x) ∧ ∀ x, vis x → ∃ y, vis y ∧ an_ par x y ∧ (low x = num y ∨ ∃ k, tc_ A B P k y ∧ (par y = y ∨ k ≠ pl y) ∧ vis (oe_ A B k y) ∧ low x = num (oe_ A B k y))
/-- groups: what is new since vis0 hangs together with the start, the last root -/
def df_6 (A B : Nat → Nat) (P V vis vis0 : Nat → Prop) (num par s : Nat → Nat) (d st : Nat) : Prop := (∀ x, vis x → ¬ vis0 x → gc A B P V st x ∧ an_ par st x) ∧ (vis st ∧ par st = st ∧ ∀ z, vis z → par z = z → num z ≤ num st) ∧ (∀ i, i < d → ¬ vis0 (s i)) ∧ ∀ x, vis0 x → vis x
def df_7 (vis : Nat → Prop) (num par : Nat → Nat) : Prop := ∀ y, vis y → ∃ r, vis r ∧ par r = r ∧ an_ par r y ∧ ∀ z, vis z → par z = z → num z ≤ num y → num z ≤ num r
section
variable {A B : Nat → Nat} {P V vis vis0 : Nat → Prop} {num wp par pl low nx s : Nat → Nat} {w n d st : Nat}
theorem df_vp (h2 : df_2 A B P vis num par pl) (x : Nat) (h : vis x) : vis (par x) := by
  rcases h2 x h with e | z
  · rw [e]; exact h
  · exact z.1
theorem df_an {u v : Nat} (h2 : df_2 A B P vis num par pl) (h : an_ par u v) (hv : vis v) : vis u := an_up (df_vp h2) h hv
theorem df_nu {u v : Nat} (h2 : df_2 A B P vis num par pl) (h : an_ par u v) (hv : vis v) : num u ≤ num v := by
  have := an_up (par := par) (Q := fun x => vis x ∧ num x ≤ num v) (fun x q => ?_) h ⟨hv, Nat.le_refl _⟩
  · exact this.2
  · refine ⟨df_vp h2 x q.1, ?_⟩
    rcases h2 x q.1 with e | z
    · rw [e]; exact q.2
    · have := z.2.1; have := q.2; omega
theorem df_inj (h1 : df_1 vis num wp w n) {x y : Nat} (hx : vis x) (hy : vis y) (e : num x = num y) : x = y := by
  rw [← (h1.2.2.1 x hx).2, ← (h1.2.2.1 y hy).2, e]
theorem df_sn (h2 : df_2 A B P vis num par pl) (h4 : df_4 vis par nx s d) : ∀ j i, i ≤ j → j < d → num (s i) + (j - i) ≤ num (s j) ∧ an_ par (s i) (s j) := by
  intro j
  induction j with
  | zero => intro i hi hj; have e : i = 0 := by omega
            subst e; exact ⟨by omega, an_r _⟩
  | succ j ih =>
    intro i hi hj
    rcases Nat.lt_or_ge j i with z | z
    · have e : i = j + 1 := by omega
      subst e; exact ⟨by omega, an_r _⟩
    · obtain ⟨v, _, q⟩ := h4.2 (j + 1) hj
      obtain ⟨q1, q2⟩ := q j rfl
      obtain ⟨a, b⟩ := ih i z (by omega)
      rcases h2 _ v with y | y
      · exact absurd y q2
      · have := y.2.1
        rw [q1] at this
        refine ⟨by omega, an_t b ?_⟩
        have := an_p (par := par) (s (j + 1))
        rw [q1] at this
        exact this
theorem df_d (h1 : df_1 vis num wp w n) (h2 : df_2 A B P vis num par pl) (h4 : df_4 vis par nx s d) : d ≤ n ∧ w ≤ n := by
  have c : w ≤ n := by rw [← h1.2.1]; exact ct_le _ _
  refine ⟨?_, c⟩
  rcases Nat.eq_zero_or_pos d with z | z
  · omega
  · have a := (df_sn h2 h4 (d - 1) 0 (by omega) (by omega)).1
    have b := (h1.2.2.1 _ (h4.2 (d - 1) (by omega)).1).1
    omega
theorem df_sj (h2 : df_2 A B P vis num par pl) (h4 : df_4 vis par nx s d) {i j : Nat} (hi : i < d) (hj : j < d) (e : s i = s j) : i = j := by
  rcases Nat.lt_or_ge i j with z | z
  · have := (df_sn h2 h4 j i (by omega) hj).1
    rw [e] at this; omega
  · have := (df_sn h2 h4 i j (by omega) hi).1
    rw [e] at this; omega
/-- a line at u is done with -/
theorem df_adv3 {u k : Nat} (h3 : df_3 A B P vis par nx) (hk : nx u = k) (hp : tc_ A B P k u → vis (oe_ A B k u) ∧ (an_ par u (oe_ A B k u) ∨ an_ par (oe_ A B k u) u)) : df_3 A B P vis par (fu_ nx u (k + 1)) := by
  intro x j vx hj t
  rcases Classical.em (x = u) with e | e
  · subst e
    rw [fu_s] at hj
    rcases Nat.lt_or_ge j k with z | z
    · exact h3 x j vx (by omega) t
    · have e : j = k := by omega
      subst e; exact hp t
  · rw [fu_n e] at hj
    exact h3 x j vx hj t
theorem df_adv4 {u k i : Nat} (h4 : df_4 vis par nx s d) (hk : k < 16) (hi : i < d) (e : s i = u) : df_4 vis par (fu_ nx u (k + 1)) s d := by
  refine ⟨fun x vx => ?_, h4.2⟩
  rcases Classical.em (x = u) with f | f
  · subst f
    rw [fu_s]
    exact ⟨by omega, Or.inr ⟨i, hi, e⟩⟩
  · rw [fu_n f]; exact h4.1 x vx
theorem df_adv5 {u k i lw : Nat} (h2 : df_2 A B P vis num par pl) (h5 : df_5 A B P vis num par pl low nx s d) (vu : vis u) (hk : nx u = k) (hi : i < d) (e : s i = u) (l1 : lw ≤ low u)
    (l2 : tc_ A B P k u → (par u = u ∨ k ≠ pl u) → lw ≤ num (oe_ A B k u)) (l3 : lw = low u ∨ (tc_ A B P k u ∧ (par u = u ∨ k ≠ pl u) ∧ vis (oe_ A B k u) ∧ lw = num (oe_ A B k u))) : df_5 A B P vis num par pl (fu_ low u lw) (fu_ nx u (k + 1)) s d := by
  obtain ⟨a, b, c, f⟩ := h5
  have le : ∀ x, fu_ low u lw x ≤ low x := by
    intro x
    rcases Classical.em (x = u) with z | z
    · subst z; rw [fu_s]; exact l1
    · rw [fu_n z]; exact Nat.le_refl _
  refine ⟨fun x vx => Nat.le_trans (le x) (a x vx), fun x j vx hj t r => ?_, fun x vx np ns => ?_, fun x vx => ?_⟩
  · rcases Classical.em (x = u) with z | z
    · subst z
      rw [fu_s] at hj ⊢
      rcases Nat.lt_or_ge j k with y | y
      · exact Nat.le_trans l1 (b x j vx (by omega) t r)
      · have e : j = k := by omega
        subst e; exact l2 t r
    · rw [fu_n z] at hj ⊢
      exact b x j vx hj t r
  · have z : x ≠ u := fun z => ns i hi (e.trans z.symm)
    rw [fu_n z]
    exact Nat.le_trans (le _) (c x vx np ns)
  · rcases Classical.em (x = u) with z | z
    · subst z
      rw [fu_s]
      rcases l3 with l3 | l3
      · rw [l3]; exact f x vx
      · exact ⟨x, vx, an_r _, Or.inr ⟨k, l3.1, l3.2.1, l3.2.2.1, l3.2.2.2⟩⟩
    · rw [fu_n z]; exact f x vx
/-- the top of the stack is left -/
theorem df_pop4 (h4 : df_4 vis par nx s (d + 1)) (h : nx (s d) = 16) : df_4 vis par nx s d := by
  refine ⟨fun x vx => ⟨(h4.1 x vx).1, ?_⟩, fun i hi => h4.2 i (by omega)⟩
  rcases (h4.1 x vx).2 with z | ⟨i, hi, e⟩
  · exact Or.inl z
  · rcases Nat.lt_or_ge i d with y | y
    · exact Or.inr ⟨i, y, e⟩
    · have f : i = d := by omega
      subst f; exact Or.inl (e ▸ h)
theorem df_pop5 (h4 : df_4 vis par nx s (d + 1)) (h5 : df_5 A B P vis num par pl low nx s (d + 1)) (hd : d = 0) : df_5 A B P vis num par pl low nx s d := by
  obtain ⟨a, b, c, f⟩ := h5
  refine ⟨a, b, fun x vx np ns => ?_, f⟩
  refine c x vx np fun i hi e => ?_
  have i0 : i = 0 := by omega
  have := (h4.2 i hi).2.1 i0
  rw [e] at this
  exact np this
theorem df_pop5' {up lw : Nat} (h2 : df_2 A B P vis num par pl) (h4 : df_4 vis par nx s (d + 2)) (h5 : df_5 A B P vis num par pl low nx s (d + 2)) (hu : s d = up) (l1 : lw ≤ low up) (l2 : lw ≤ low (s (d + 1))) (l3 : lw = low up ∨ lw = low (s (d + 1))) : df_5 A B P vis num par pl (fu_ low up lw) nx s (d + 1) := by
  obtain ⟨a, b, c, f⟩ := h5
  have le : ∀ x, fu_ low up lw x ≤ low x := by
    intro x
    rcases Classical.em (x = up) with z | z
    · subst z; rw [fu_s]; exact l1
    · rw [fu_n z]; exact Nat.le_refl _
  obtain ⟨v1, _, q⟩ := h4.2 (d + 1) (by omega)
  obtain ⟨q1, q2⟩ := q d rfl
  refine ⟨fun x vx => Nat.le_trans (le x) (a x vx), fun x j vx hj t r => Nat.le_trans (le x) (b x j vx hj t r), fun x vx np ns => ?_, fun x vx => ?_⟩
  · have z : x ≠ up := fun z => ns d (by omega) (hu.trans z.symm)
    rw [fu_n z]
    rcases Classical.em (x = s (d + 1)) with y | y
    · subst y
      rw [q1, hu, fu_s]; exact l2
    · refine Nat.le_trans (le _) (c x vx np fun i hi e => ?_)
      rcases Nat.lt_or_ge i (d + 1) with w | w
      · exact ns i w e
      · have g : i = d + 1 := by omega
        subst g; exact y e.symm
  · rcases Classical.em (x = up) with z | z
    · subst z
      rw [fu_s]
      rcases l3 with l3 | l3
      · rw [l3]; exact f x vx
      · rw [l3]
        obtain ⟨y, vy, ay, r⟩ := f _ v1
        refine ⟨y, vy, an_t ?_ ay, r⟩
        have := an_p (par := par) (s (d + 1))
        rw [q1, hu] at this
        exact this
    · rw [fu_n z]; exact f x vx
theorem df_pop6 (h6 : df_6 A B P V vis vis0 num par s (d + 1) st) : df_6 A B P V vis vis0 num par s d st := ⟨h6.1, h6.2.1, fun i hi => h6.2.2.1 i (by omega), h6.2.2.2⟩
/-- a point is come to: q its parent, or itself -/
theorem df_ea {v q x y : Nat} (h2 : df_2 A B P vis num par pl) (nv : ¬ vis v) (hy : vis y) : an_ (fu_ par v q) x y ↔ an_ par x y :=
  an_agree (Q := vis) (df_vp h2) (fun z hz => fu_n (df_ne nv hz)) hy
theorem df_ent1 {v : Nat} (h1 : df_1 vis num wp w n) (hv : v < n) (nv : ¬ vis v) : df_1 (fun x => vis x ∨ x = v) (fu_ num v w) (fu_ wp w v) (w + 1) n := by
  obtain ⟨a, b, c, e⟩ := h1
  refine ⟨fun x z => z.elim (a x) (fun e => e ▸ hv), by rw [ct_add nv hv, b], fun x z => ?_, fun i hi => ?_⟩
  · rcases z with z | rfl
    · have ne : x ≠ v := fun e => nv (e ▸ z)
      have := c x z
      rw [fu_n ne, fu_n (by omega)]
      exact ⟨by omega, this.2⟩
    · rw [fu_s, fu_s]; exact ⟨by omega, rfl⟩
  · rcases Nat.lt_or_ge i w with z | z
    · rw [fu_n (f := wp) (by omega)]
      have := e i z
      rw [fu_n (df_ne nv this.1)]
      exact ⟨Or.inl this.1, this.2⟩
    · have f : i = w := by omega
      subst f
      rw [fu_s, fu_s]; exact ⟨Or.inr rfl, rfl⟩
theorem df_ent2 {v q k : Nat} (h1 : df_1 vis num wp w n) (h2 : df_2 A B P vis num par pl) (nv : ¬ vis v) (hq : q = v ∨ (vis q ∧ P k ∧ jn_ A B k q v)) : df_2 A B P (fun x => vis x ∨ x = v) (fu_ num v w) (fu_ par v q) (fu_ pl v k) := by
  intro x z
  rcases Classical.em (x = v) with e | e
  · subst e
    rw [fu_s, fu_s, fu_s]
    rcases hq with rfl | ⟨a, b, c⟩
    · exact Or.inl rfl
    · rw [fu_n (df_ne nv a)]
      exact Or.inr ⟨Or.inl a, (h1.2.2.1 q a).1, b, c⟩
  · have vx : vis x := z.elim id (fun y => absurd y e)
    rw [fu_n e, fu_n e, fu_n e]
    have vp := df_vp h2 x vx
    rw [fu_n (df_ne nv vp)]
    rcases h2 x vx with y | y
    · exact Or.inl y
    · exact Or.inr ⟨Or.inl y.1, y.2⟩
theorem df_ent3 {v q : Nat} (h2 : df_2 A B P vis num par pl) (h3 : df_3 A B P vis par nx) (nv : ¬ vis v) : df_3 A B P (fun x => vis x ∨ x = v) (fu_ par v q) (fu_ nx v 0) := by
  intro x k z hk t
  rcases Classical.em (x = v) with e | e
  · subst e; rw [fu_s] at hk; omega
  · have vx : vis x := z.elim id (fun y => absurd y e)
    rw [fu_n e] at hk
    obtain ⟨a, b⟩ := h3 x k vx hk t
    exact ⟨Or.inl a, b.elim (fun y => Or.inl ((df_ea h2 nv a).mpr y)) (fun y => Or.inr ((df_ea h2 nv vx).mpr y))⟩
theorem df_ent4 {v q : Nat} (h2 : df_2 A B P vis num par pl) (h4 : df_4 vis par nx s d) (nv : ¬ vis v) (hq : (q = v ∧ d = 0) ∨ (vis q ∧ ∃ e, d = e + 1 ∧ s e = q)) : df_4 (fun x => vis x ∨ x = v) (fu_ par v q) (fu_ nx v 0) (fu_ s d v) (d + 1) := by
  refine ⟨fun x z => ?_, fun i hi => ?_⟩
  · rcases Classical.em (x = v) with e | e
    · subst e
      rw [fu_s]
      exact ⟨by omega, Or.inr ⟨d, by omega, fu_s⟩⟩
    · have vx : vis x := z.elim id (fun y => absurd y e)
      rw [fu_n e]
      refine ⟨(h4.1 x vx).1, (h4.1 x vx).2.elim Or.inl (fun ⟨i, hi, y⟩ => Or.inr ⟨i, by omega, ?_⟩)⟩
      rw [fu_n (by omega)]; exact y
  · rcases Nat.lt_or_ge i d with z | z
    · rw [fu_n (f := s) (by omega)]
      obtain ⟨a, b, c⟩ := h4.2 i z
      rw [fu_n (f := par) (df_ne nv a)]
      refine ⟨Or.inl a, b, fun j e => ?_⟩
      rw [fu_n (by omega)]
      exact c j e
    · have e : i = d := by omega
      subst e
      rw [fu_s, fu_s]
      refine ⟨Or.inr rfl, fun e => ?_, fun j e => ?_⟩
      · rcases hq with hq | ⟨_, e', hq, _⟩
        · exact hq.1
        · omega
      · rcases hq with hq | ⟨vq, e', hq, se⟩
        · omega
        · have f : j = e' := by omega
          subst f
          rw [fu_n (by omega)]
          exact ⟨se.symm, fun y => nv (y ▸ vq)⟩
theorem df_ent5 {v q k : Nat} (h1 : df_1 vis num wp w n) (h2 : df_2 A B P vis num par pl) (h3 : df_3 A B P vis par nx) (h5 : df_5 A B P vis num par pl low nx s d) (nv : ¬ vis v) : df_5 A B P (fun x => vis x ∨ x = v) (fu_ num v w) (fu_ par v q) (fu_ pl v k) (fu_ low v w) (fu_ nx v 0) (fu_ s d v) (d + 1) := by
  obtain ⟨a, b, c, f⟩ := h5
  have nev : ∀ {x}, vis x → x ≠ v := fun vx e => nv (e ▸ vx)
  refine ⟨fun x z => ?_, fun x j z hj t r => ?_, fun x z np ns => ?_, fun x z => ?_⟩
  · rcases Classical.em (x = v) with e | e
    · subst e; rw [fu_s, fu_s]; exact Nat.le_refl _
    · rw [fu_n e, fu_n e]; exact a x (z.elim id (fun y => absurd y e))
  · rcases Classical.em (x = v) with e | e
    · subst e; rw [fu_s] at hj; omega
    · have vx : vis x := z.elim id (fun y => absurd y e)
      rw [fu_n e] at hj
      rw [fu_n e, fu_n (nev (h3 x j vx hj t).1)]
      rw [fu_n e, fu_n e] at r
      exact b x j vx hj t r
  · rcases Classical.em (x = v) with e | e
    · subst e; exact absurd fu_s (ns d (by omega))
    · have vx : vis x := z.elim id (fun y => absurd y e)
      rw [fu_n e] at np
      have vp := df_vp h2 x vx
      rw [fu_n (f := par) e, fu_n e, fu_n (nev vp)]
      refine c x vx np fun i hi y => ns i (by omega) ?_
      rw [fu_n (by omega)]; exact y
  · rcases Classical.em (x = v) with e | e
    · subst e; exact ⟨x, Or.inr rfl, an_r _, Or.inl (by rw [fu_s, fu_s])⟩
    · have vx : vis x := z.elim id (fun y => absurd y e)
      obtain ⟨y, vy, ay, r⟩ := f x vx
      refine ⟨y, Or.inl vy, (df_ea h2 nv vy).mpr ay, ?_⟩
      rw [fu_n e, fu_n (nev vy)]
      rcases r with r | ⟨j, t, r1, r2, r3⟩
      · exact Or.inl r
      · refine Or.inr ⟨j, t, ?_, Or.inl r2, ?_⟩
        · rw [fu_n (nev vy), fu_n (nev vy)]; exact r1
        · rw [fu_n (nev r2)]; exact r3
theorem df_ent6 {v q k e : Nat} (h1 : df_1 vis num wp w n) (h2 : df_2 A B P vis num par pl) (h6 : df_6 A B P V vis vis0 num par s d st) (nv : ¬ vis v) (vq : vis q) (hk : P k) (hj : jn_ A B k q v) (Vq : V q) (Vv : V v) (hd : d = e + 1) (se : s e = q) : df_6 A B P V (fun x => vis x ∨ x = v) vis0 (fu_ num v w) (fu_ par v q) (fu_ s d v) (d + 1) st := by
  obtain ⟨a, ⟨b1, b2, b3⟩, c, f⟩ := h6
  have nev : ∀ {x}, vis x → x ≠ v := fun vx e => nv (e ▸ vx)
  have nq : ¬ vis0 q := se ▸ c e (by omega)
  refine ⟨fun x z nz => ?_, ⟨Or.inl b1, by rw [fu_n (nev b1)]; exact b2, fun z hz pz => ?_⟩, fun i hi => ?_, fun x z => Or.inl (f x z)⟩
  · rcases Classical.em (x = v) with e | e
    · subst e
      obtain ⟨g, an⟩ := a q vq nq
      refine ⟨gc_t g (jn_gc hk Vq Vv hj), an_t ((df_ea h2 nv vq).mpr an) ?_⟩
      have := an_p (par := fu_ par x q) x
      rw [fu_s] at this
      exact this
    · have vx : vis x := z.elim id (fun y => absurd y e)
      obtain ⟨g, an⟩ := a x vx nz
      exact ⟨g, (df_ea h2 nv vx).mpr an⟩
  · rcases Classical.em (z = v) with e | e
    · subst e
      rw [fu_s] at pz
      exact absurd (pz ▸ vq) nv
    · have vz : vis z := hz.elim id (fun y => absurd y e)
      rw [fu_n e] at pz
      rw [fu_n e, fu_n (nev b1)]
      exact b3 z vz pz
  · rcases Nat.lt_or_ge i d with z | z
    · rw [fu_n (by omega)]; exact c i z
    · have g : i = d := by omega
      subst g
      rw [fu_s]
      exact fun y => nv (f v y)
theorem df_ent7 {v q k e : Nat} (h1 : df_1 vis num wp w n) (h2 : df_2 A B P vis num par pl) (h6 : df_6 A B P V vis vis0 num par s d st) (h7 : df_7 vis num par) (nv : ¬ vis v) (vq : vis q) (hd : d = e + 1) (se : s e = q) : df_7 (fun x => vis x ∨ x = v) (fu_ num v w) (fu_ par v q) := by
  have nev : ∀ {x}, vis x → x ≠ v := fun vx e => nv (e ▸ vx)
  obtain ⟨a, ⟨b1, b2, b3⟩, c, f⟩ := h6
  have nq : ¬ vis0 q := se ▸ c e (by omega)
  intro y z
  rcases Classical.em (y = v) with e | e
  · subst e
    refine ⟨st, Or.inl b1, by rw [fu_n (nev b1)]; exact b2, an_t ((df_ea h2 nv vq).mpr (a q vq nq).2) (by have := an_p (par := fu_ par y q) y; rw [fu_s] at this; exact this), fun x hx px _ => ?_⟩
    rcases Classical.em (x = y) with e | e
    · subst e
      rw [fu_s] at px
      exact absurd (px ▸ vq) nv
    · have vx : vis x := hx.elim id (fun y => absurd y e)
      rw [fu_n e] at px
      rw [fu_n e, fu_n (nev b1)]
      exact b3 x vx px
  · have vy : vis y := z.elim id (fun y => absurd y e)
    obtain ⟨r, r1, r2, r3, r4⟩ := h7 y vy
    refine ⟨r, Or.inl r1, by rw [fu_n (nev r1)]; exact r2, (df_ea h2 nv vy).mpr r3, fun x hx px l => ?_⟩
    rcases Classical.em (x = v) with e | e
    · subst e
      rw [fu_s] at px
      exact absurd (px ▸ vq) nv
    · have vx : vis x := hx.elim id (fun y => absurd y e)
      rw [fu_n e] at px
      rw [fu_n e, fu_n (nev vy)] at l
      rw [fu_n e, fu_n (nev r1)]
      exact r4 x vx px l
/-- a new walk begins -/
theorem df_new6 {v : Nat} (h1 : df_1 vis num wp w n) (nv : ¬ vis v) : df_6 A B P V (fun x => vis x ∨ x = v) vis (fu_ num v w) (fu_ par v v) (fu_ s 0 v) 1 v := by
  refine ⟨fun x z nz => ?_, ⟨Or.inr rfl, fu_s, fun z hz _ => ?_⟩, fun i hi => ?_, fun x z => Or.inl z⟩
  · have e : x = v := z.elim (fun y => absurd y nz) id
    subst e; exact ⟨gc_r _, an_r _⟩
  · rw [fu_s]
    rcases hz with y | rfl
    · rw [fu_n (df_ne nv y)]
      have := (h1.2.2.1 z y).1; omega
    · rw [fu_s]; exact Nat.le_refl _
  · have e : i = 0 := by omega
    subst e; rw [fu_s]; exact nv
theorem df_new7 {v : Nat} (h1 : df_1 vis num wp w n) (h2 : df_2 A B P vis num par pl) (h7 : df_7 vis num par) (nv : ¬ vis v) : df_7 (fun x => vis x ∨ x = v) (fu_ num v w) (fu_ par v v) := by
  have nev : ∀ {x}, vis x → x ≠ v := fun vx e => nv (e ▸ vx)
  intro y z
  rcases Classical.em (y = v) with e | e
  · subst e
    exact ⟨y, Or.inr rfl, fu_s, an_r _, fun x _ _ l => l⟩
  · have vy : vis y := z.elim id (fun y => absurd y e)
    obtain ⟨r, r1, r2, r3, r4⟩ := h7 y vy
    refine ⟨r, Or.inl r1, by rw [fu_n (nev r1)]; exact r2, (df_ea h2 nv vy).mpr r3, fun x hx px l => ?_⟩
    rcases Classical.em (x = v) with e | e
    · subst e
      rw [fu_s, fu_n (nev vy)] at l
      have := (h1.2.2.1 y vy).1
      omega
    · have vx : vis x := hx.elim id (fun y => absurd y e)
      rw [fu_n e] at px
      rw [fu_n e, fu_n (nev vy)] at l
      rw [fu_n e, fu_n (nev r1)]
      exact r4 x vx px l
end
end
section
/-! ===== the component's first walk ===== -/
section
variable {n : Nat} {P : Nat → Prop} {A B : Nat → Nat}
variable {f_present : Int32} {f_groupCount : Int32} {f_bridgeSet : Int32} {f_hingeSet : Int32} {a_endA : Nat → Int32} {a_endB : Nat → Int32} {a_number : Nat → Int32} {a_walkPoint : Nat → Int32} {a_parent : Nat → Int32} {a_parentLine : Nat → Int32} {a_lowest : Nat → Int32} {a_nextLine : Nat → Int32} {a_stack : Nat → Int32} {a_marked : Nat → Int32} {a_pointRoot : Nat → Int32} {a_lineRoot : Nat → Int32} {a_between : Nat → Int32} {a_melted : Nat → Int32} {a_pull : Nat → Int32} {a_left : Nat → Int32} {a_cameFrom : Nat → Int32} {a_queue : Nat → Int32} {a_matrix : Nat → Int64} {a_dist : Nat → Int32}
theorem xw_ent {p w : Nat} (hp : p < 8) (hw : w < 8) {q l : Int32} (hq : vp_nar .byte q.toInt8.toInt32 = q) (hl : vp_nar .byte l.toInt8.toInt32 = l) {post : SX → Prop}
    (h : post (nI n, f_present, f_groupCount, f_bridgeSet, f_hingeSet, nI (w + 1), a_endA, a_endB, upd a_number p (nI w), upd a_walkPoint w (nI p), upd a_parent p q, upd a_parentLine p l, upd a_lowest p (nI w), upd a_nextLine p 0, a_stack, a_marked, a_pointRoot, a_lineRoot, a_between, a_melted, a_pull, a_left, a_cameFrom, a_queue, a_matrix, a_dist)) :
    wpX_enter post (nI n, f_present, f_groupCount, f_bridgeSet, f_hingeSet, nI w, a_endA, a_endB, a_number, a_walkPoint, a_parent, a_parentLine, a_lowest, a_nextLine, a_stack, a_marked, a_pointRoot, a_lineRoot, a_between, a_melted, a_pull, a_left, a_cameFrom, a_queue, a_matrix, a_dist) (nI p) q l := by
  have e : (nI p).toNatClampNeg = p := nI_clamp (by omega)
  have f : (nI w).toNatClampNeg = w := nI_clamp (by omega)
  have i8 : vp_in (nI p) 8 := vp_in_nI hp (by decide)
  refine And.intro i8 (nm_e (And.intro (vp_in_nI hw (by decide)) (nm_e (nm_e (And.intro i8 (nm_e (And.intro i8 (nm_e (And.intro i8 (And.intro i8 (nm_e (And.intro i8 (nm_e ?_))))))))))))) 
  rw [e, f, by_c (show w < 128 by omega), by_c (show p < 128 by omega), hq, hl, nI_1, pk_us, by_n (show w < 128 by omega), by_0]
  exact h
theorem xw_go (hX : xg_ n P A B f_present a_endA a_endB) {u k dd w : Nat} (hu : u < 8) (hk : k < 16) {post : Int32 → SX → Prop} (hc : tc_ A B P k u → ¬ 0 ≤ a_number (oe_ A B k u) → dd < 8 ∧ w < 8)
    (c0 : (¬ tc_ A B P k u ∨ nI k = a_parentLine u) → post 0 (nI n, f_present, f_groupCount, f_bridgeSet, f_hingeSet, nI w, a_endA, a_endB, a_number, a_walkPoint, a_parent, a_parentLine, a_lowest, a_nextLine, a_stack, a_marked, a_pointRoot, a_lineRoot, a_between, a_melted, a_pull, a_left, a_cameFrom, a_queue, a_matrix, a_dist))
    (c1 : tc_ A B P k u → ¬ nI k = a_parentLine u → 0 ≤ a_number (oe_ A B k u) → ∀ x, (a_lowest u ≤ a_number (oe_ A B k u) ∧ x = a_lowest u ∨ ¬ a_lowest u ≤ a_number (oe_ A B k u) ∧ x = a_number (oe_ A B k u)) → post 0 (nI n, f_present, f_groupCount, f_bridgeSet, f_hingeSet, nI w, a_endA, a_endB, a_number, a_walkPoint, a_parent, a_parentLine, upd a_lowest u (vp_nar .byte x), a_nextLine, a_stack, a_marked, a_pointRoot, a_lineRoot, a_between, a_melted, a_pull, a_left, a_cameFrom, a_queue, a_matrix, a_dist))
    (c2 : tc_ A B P k u → ¬ nI k = a_parentLine u → ¬ 0 ≤ a_number (oe_ A B k u) → (∀ v, v = oe_ A B k u → post 1 (nI n, f_present, f_groupCount, f_bridgeSet, f_hingeSet, nI (w + 1), a_endA, a_endB, upd a_number v (nI w), upd a_walkPoint w (nI v), upd a_parent v (nI u), upd a_parentLine v (nI k), upd a_lowest v (nI w), upd a_nextLine v 0, upd a_stack dd (nI v), a_marked, a_pointRoot, a_lineRoot, a_between, a_melted, a_pull, a_left, a_cameFrom, a_queue, a_matrix, a_dist))) :
    wpX_goAlong post (nI n, f_present, f_groupCount, f_bridgeSet, f_hingeSet, nI w, a_endA, a_endB, a_number, a_walkPoint, a_parent, a_parentLine, a_lowest, a_nextLine, a_stack, a_marked, a_pointRoot, a_lineRoot, a_between, a_melted, a_pull, a_left, a_cameFrom, a_queue, a_matrix, a_dist) (nI u) (nI k) (nI dd) := by
  have e : (nI u).toNatClampNeg = u := nI_clamp (by omega)
  have i8 : vp_in (nI u) 8 := vp_in_nI hu (by decide)
  have ov : oe_ A B k u < 8 := by
    unfold oe_
    by_cases z : A k = u
    · rw [if_pos z]; exact yg_bl hX.2.2 hk
    · rw [if_neg z]; exact yg_al hX.2.2 hk
  have g : (nI (oe_ A B k u)).toNatClampNeg = oe_ A B k u := nI_clamp (by omega)
  have iv : vp_in (nI (oe_ A B k u)) 8 := vp_in_nI ov (by decide)
  unfold wpX_goAlong
  dsimp only
  refine xt_ hX hk (by omega) (fun t => br_f bb_10 ⟨i8, br_c (fun h => c0 (Or.inr (by rw [e] at h; exact h))) (fun h => xo_ hX hk (by omega) ⟨iv, ?_⟩)⟩) (fun t => br_t rfl (c0 (Or.inl t)))
  rw [e] at h
  rw [e, g]
  refine br_c (fun y => ⟨iv, i8, br_c (fun z => ⟨i8, i8, nm_e (c1 t h y _ (Or.inl ⟨z, rfl⟩))⟩) (fun z => ⟨iv, i8, nm_e (c1 t h y _ (Or.inr ⟨z, rfl⟩))⟩)⟩) (fun y => ?_)
  obtain ⟨hd, hw⟩ := hc t y
  refine xw_ent ov hw (by_c (by omega)) (by_c (by omega)) ⟨vp_in_nI hd (by decide), nm_e ?_⟩
  rw [nI_clamp (show dd < 2 ^ 31 by omega), by_c (show oe_ A B k u < 128 by omega)]
  exact c2 t h y _ rfl
end
/-- arrays and what they stand for -/
def rp_1 (n : Nat) (vis : Nat → Prop) (num par pl low nx : Nat → Nat) (a_number a_parent a_parentLine a_lowest a_nextLine : Nat → Int32) : Prop := ∀ x, x < n → (vis x ∧ a_number x = nI (num x) ∧ ((par x = x ∧ a_parent x = -1 ∧ a_parentLine x = -1) ∨ (par x ≠ x ∧ a_parent x = nI (par x) ∧ a_parentLine x = nI (pl x))) ∧ a_lowest x = nI (low x) ∧ a_nextLine x = nI (nx x)) ∨ (¬ vis x ∧ a_number x = -1)
def rp_2 (wp : Nat → Nat) (w : Nat) (a : Nat → Int32) : Prop := ∀ i, i < w → a i = nI (wp i)
noncomputable def df_mu (vis : Nat → Prop) (nx : Nat → Nat) (d : Nat) : Nat := sm_ (fun x => ct_b (vis x) * (2 * (16 - nx x)) + (1 - ct_b (vis x)) * 40) 8 + d
/-- all that holds between two steps of a walk -/
def dw_ (n : Nat) (P : Nat → Prop) (A B : Nat → Nat) (vis : Nat → Prop) (num wp par pl low nx : Nat → Nat) (w : Nat) (a_number a_walkPoint a_parent a_parentLine a_lowest a_nextLine : Nat → Int32) : Prop :=
  rp_1 n vis num par pl low nx a_number a_parent a_parentLine a_lowest a_nextLine ∧ rp_2 wp w a_walkPoint ∧ df_1 vis num wp w n ∧ df_2 A B P vis num par pl ∧ df_3 A B P vis par nx ∧ df_7 vis num par
def di_ (n : Nat) (P : Nat → Prop) (A B : Nat → Nat) (vis0 : Nat → Prop) (st d m : Nat) (f_walked : Int32) (a_number a_walkPoint a_parent a_parentLine a_lowest a_nextLine a_stack : Nat → Int32) : Prop :=
  ∃ (vis : Nat → Prop) (num wp par pl low nx s : Nat → Nat) (w : Nat), f_walked = nI w ∧ m = df_mu vis nx d ∧ dw_ n P A B vis num wp par pl low nx w a_number a_walkPoint a_parent a_parentLine a_lowest a_nextLine ∧ rp_2 s d a_stack ∧ df_4 vis par nx s d ∧ df_5 A B P vis num par pl low nx s d ∧ df_6 A B P (fun x => x < n) vis vis0 num par s d st
theorem mu_nx {vis : Nat → Prop} {nx : Nat → Nat} {d u k : Nat} (vu : vis u) (hu : u < 8) (hk : nx u = k) (k16 : k < 16) : df_mu vis (fu_ nx u (k + 1)) d + 2 = df_mu vis nx d := by
  unfold df_mu
  have := sm_one (f := fun x => ct_b (vis x) * (2 * (16 - (fu_ nx u (k + 1)) x)) + (1 - ct_b (vis x)) * 40) (g := fun x => ct_b (vis x) * (2 * (16 - nx x)) + (1 - ct_b (vis x)) * 40) hu (fun j _ e => by rw [fu_n e])
  rw [fu_s, ct_bt vu, hk] at this
  omega
theorem mu_ent {vis : Nat → Prop} {nx : Nat → Nat} {d v : Nat} (nv : ¬ vis v) (hv : v < 8) : df_mu (fun x => vis x ∨ x = v) (fu_ nx v 0) (d + 1) + 7 = df_mu vis nx d := by
  unfold df_mu
  dsimp only
  have := sm_one (f := fun x => ct_b (vis x ∨ x = v) * (2 * (16 - (fu_ nx v 0) x)) + (1 - ct_b (vis x ∨ x = v)) * 40) (g := fun x => ct_b (vis x) * (2 * (16 - nx x)) + (1 - ct_b (vis x)) * 40) hv (fun j _ e => by rw [fu_n e, ct_biff (P := vis j ∨ j = v) (Q := vis j) ⟨fun z => z.elim id (fun y => absurd y e), Or.inl⟩])
  rw [fu_s, ct_bf nv, ct_bt (Or.inr rfl)] at this
  omega
section
variable {n : Nat} {P V vis vis0 : Nat → Prop} {A B num wp par pl low nx s : Nat → Nat} {w d st : Nat}
variable {f_present : Int32} {f_groupCount : Int32} {f_bridgeSet : Int32} {f_hingeSet : Int32} {f_walked : Int32} {a_endA : Nat → Int32} {a_endB : Nat → Int32} {a_number : Nat → Int32} {a_walkPoint : Nat → Int32} {a_parent : Nat → Int32} {a_parentLine : Nat → Int32} {a_lowest : Nat → Int32} {a_nextLine : Nat → Int32} {a_stack : Nat → Int32} {a_marked : Nat → Int32} {a_pointRoot : Nat → Int32} {a_lineRoot : Nat → Int32} {a_between : Nat → Int32} {a_melted : Nat → Int32} {a_pull : Nat → Int32} {a_left : Nat → Int32} {a_cameFrom : Nat → Int32} {a_queue : Nat → Int32} {a_matrix : Nat → Int64} {a_dist : Nat → Int32}
theorem rp_low {u lw : Nat} (h : rp_1 n vis num par pl low nx a_number a_parent a_parentLine a_lowest a_nextLine) : rp_1 n vis num par pl (fu_ low u lw) nx a_number a_parent a_parentLine (upd a_lowest u (nI lw)) a_nextLine := by
  intro x hx
  rcases h x hx with ⟨a, b, c, e, f⟩ | z
  · refine Or.inl ⟨a, b, c, ?_, f⟩
    rcases Classical.em (x = u) with y | y
    · subst y; rw [fu_s, pk_us]
    · rw [fu_n y, pk_un y]; exact e
  · exact Or.inr z
theorem rp_nx {u k : Nat} (h : rp_1 n vis num par pl low nx a_number a_parent a_parentLine a_lowest a_nextLine) : rp_1 n vis num par pl low (fu_ nx u k) a_number a_parent a_parentLine a_lowest (upd a_nextLine u (nI k)) := by
  intro x hx
  rcases h x hx with ⟨a, b, c, e, f⟩ | z
  · refine Or.inl ⟨a, b, c, e, ?_⟩
    rcases Classical.em (x = u) with y | y
    · subst y; rw [fu_s, pk_us]
    · rw [fu_n y, pk_un y]; exact f
  · exact Or.inr z
theorem rp_ent {v q k : Nat} {iq ik : Int32} (h : rp_1 n vis num par pl low nx a_number a_parent a_parentLine a_lowest a_nextLine) (hq : (q = v ∧ iq = -1 ∧ ik = -1) ∨ (q ≠ v ∧ iq = nI q ∧ ik = nI k)) : rp_1 n (fun x => vis x ∨ x = v) (fu_ num v w) (fu_ par v q) (fu_ pl v k) (fu_ low v w) (fu_ nx v 0) (upd a_number v (nI w)) (upd a_parent v iq) (upd a_parentLine v ik) (upd a_lowest v (nI w)) (upd a_nextLine v 0) := by
  intro x hx
  rcases Classical.em (x = v) with y | y
  · subst y
    rw [fu_s, fu_s, fu_s, fu_s, fu_s, pk_us, pk_us, pk_us, pk_us, pk_us]
    exact Or.inl ⟨Or.inr rfl, rfl, hq, rfl, rfl⟩
  · rw [fu_n y, fu_n y, fu_n y, fu_n y, fu_n y, pk_un y, pk_un y, pk_un y, pk_un y, pk_un y]
    rcases h x hx with ⟨a, b⟩ | ⟨a, b⟩
    · exact Or.inl ⟨Or.inl a, b⟩
    · exact Or.inr ⟨fun z => z.elim a y, b⟩
theorem rp_put {a : Nat → Int32} {x : Nat} (h : rp_2 wp w a) : rp_2 (fu_ wp w x) (w + 1) (upd a w (nI x)) := by
  intro i hi
  rcases Classical.em (i = w) with y | y
  · subst y; rw [fu_s, pk_us]
  · rw [fu_n y, pk_un y]; exact h i (by omega)
end
end
section
/-! ===== the walk's loop ===== -/
section
variable {n : Nat} {P vis0 : Nat → Prop} {A B : Nat → Nat} {st : Nat}
variable {f_present : Int32} {f_groupCount : Int32} {f_bridgeSet : Int32} {f_hingeSet : Int32} {a_endA : Nat → Int32} {a_endB : Nat → Int32} {a_marked : Nat → Int32} {a_pointRoot : Nat → Int32} {a_lineRoot : Nat → Int32} {a_between : Nat → Int32} {a_melted : Nat → Int32} {a_pull : Nat → Int32} {a_left : Nat → Int32} {a_cameFrom : Nat → Int32} {a_queue : Nat → Int32} {a_matrix : Nat → Int64} {a_dist : Nat → Int32}
theorem mi_le {a b : Nat} {x : Int32} {X Y : Int32} (hx : X = nI a) (hy : Y = nI b) (ha : a < 128) (hb : b < 128) (h : X ≤ Y ∧ x = X ∨ ¬ X ≤ Y ∧ x = Y) : ∃ c, vp_nar .byte x = nI c ∧ c ≤ a ∧ c ≤ b ∧ (c = a ∨ c = b) := by
  subst hx hy
  rcases h with ⟨h, rfl⟩ | ⟨h, rfl⟩
  · rw [nI_leI (by omega) (by omega)] at h
    exact ⟨a, by_n ha, Nat.le_refl _, h, Or.inl rfl⟩
  · rw [nI_leI (by omega) (by omega)] at h
    exact ⟨b, by_n hb, by omega, Nat.le_refl _, Or.inr rfl⟩
theorem upd_id {a : Nat → Int32} {u : Nat} {x : Int32} (h : a u = x) : upd a u x = a := by
  funext j
  rcases Classical.em (j = u) with z | z
  · subst z; rw [pk_us]; exact h.symm
  · rw [pk_un z]
theorem upd_cm {a : Nat → Int32} {u v : Nat} {x y : Int32} (h : u ≠ v) : upd (upd a u x) v y = upd (upd a v y) u x := by
  funext j
  rcases Classical.em (j = u) with z | z
  · subst z; rw [pk_un h, pk_us, pk_us]
  · rcases Classical.em (j = v) with w | w
    · subst w; rw [pk_us, pk_un z, pk_us]
    · rw [pk_un w, pk_un z, pk_un z, pk_un w]
theorem xw_loop (hX : xg_ n P A B f_present a_endA a_endB) {post : SX → Prop}
    (hp : ∀ m (f_walked : Int32) (a_number : Nat → Int32) (a_walkPoint : Nat → Int32) (a_parent : Nat → Int32) (a_parentLine : Nat → Int32) (a_lowest : Nat → Int32) (a_nextLine : Nat → Int32) (a_stack : Nat → Int32), di_ n P A B vis0 st 0 m f_walked a_number a_walkPoint a_parent a_parentLine a_lowest a_nextLine a_stack → post (nI n, f_present, f_groupCount, f_bridgeSet, f_hingeSet, f_walked, a_endA, a_endB, a_number, a_walkPoint, a_parent, a_parentLine, a_lowest, a_nextLine, a_stack, a_marked, a_pointRoot, a_lineRoot, a_between, a_melted, a_pull, a_left, a_cameFrom, a_queue, a_matrix, a_dist)) :
    ∀ (fuel d m : Nat) (f_walked : Int32) (a_number : Nat → Int32) (a_walkPoint : Nat → Int32) (a_parent : Nat → Int32) (a_parentLine : Nat → Int32) (a_lowest : Nat → Int32) (a_nextLine : Nat → Int32) (a_stack : Nat → Int32), m < fuel → di_ n P A B vis0 st d m f_walked a_number a_walkPoint a_parent a_parentLine a_lowest a_nextLine a_stack → wX_walk_17 post fuel (nI d) (nI n) f_present f_groupCount f_bridgeSet f_hingeSet f_walked a_endA a_endB a_number a_walkPoint a_parent a_parentLine a_lowest a_nextLine a_stack a_marked a_pointRoot a_lineRoot a_between a_melted a_pull a_left a_cameFrom a_queue a_matrix a_dist := by
  intro fuel
  induction fuel with
  | zero => intro d m _ _ _ _ _ _ _ _ h; omega
  | succ fuel ih =>
    intro d m f_walked a_number a_walkPoint a_parent a_parentLine a_lowest a_nextLine a_stack hm I
    have n8 := hX.1.1.2
    cases d with
    | zero => exact br_t (show nI 0 ≤ 0 from by decide) (hp m _ _ _ _ _ _ _ _ I)
    | succ e =>
      obtain ⟨vis, num, wp, par, pl, low, nx, s, w, rfl, rfl, ⟨r1, r2, h1, h2, h3, h7⟩, r3, h4, h5, h6⟩ := I
      obtain ⟨dn, wn⟩ := df_d h1 h2 h4
      have vu := (h4.2 e (by omega)).1
      have hu := h1.1 _ vu
      have E1 : a_stack (nI (e + 1) - 1).toNatClampNeg = nI (s e) := by rw [nI_pred, nI_clamp (by omega)]; exact r3 e (by omega)
      have C : (nI (s e)).toNatClampNeg = s e := nI_clamp (by omega)
      have hb : ∀ x, vis x → x < n ∧ a_number x = nI (num x) ∧ ((par x = x ∧ a_parent x = -1 ∧ a_parentLine x = -1) ∨ (par x ≠ x ∧ a_parent x = nI (par x) ∧ a_parentLine x = nI (pl x))) ∧ a_lowest x = nI (low x) ∧ a_nextLine x = nI (nx x) ∧ num x < 8 ∧ low x < 8 := by
        intro x vx
        have hx := h1.1 x vx
        rcases r1 x hx with ⟨_, b, c, d', f⟩ | z
        · have := (h1.2.2.1 x vx).1
          have := h5.1 x vx
          exact ⟨hx, b, c, d', f, by omega, by omega⟩
        · exact absurd vx z.1
      obtain ⟨_, un, up, ul, ux, un8, ul8⟩ := hb _ vu
      have E2 : a_nextLine (nI (s e)).toNatClampNeg = nI (nx (s e)) := by rw [C]; exact ux
      have n16 := (h4.1 _ vu).1
      refine br_f (nI_nle (by omega) (by omega)) ⟨by rw [nI_pred]; exact vp_in_nI (by omega) (by decide), nm_r E1 ⟨vp_in_nI (by omega) (by decide), nm_r E2 (pk_eq (nx (s e)) 16 (fun h => nm_r (pk_m1 e) ?_) (fun h => ⟨vp_in_nI (by omega) (by decide), vp_in_nI (by omega) (by decide), nm_r (e' := upd a_nextLine (s e) (nI (nx (s e) + 1))) ?_ ?_⟩))⟩⟩
      · cases e with
        | zero => exact br_t (show nI 0 ≤ 0 from by decide) (ih 0 (df_mu vis nx 0) _ _ _ _ _ _ _ _ (by have : df_mu vis nx (0 + 1) = df_mu vis nx 0 + 1 := rfl; omega) ⟨vis, num, wp, par, pl, low, nx, s, w, rfl, rfl, ⟨r1, r2, h1, h2, h3, h7⟩, fun i hi => absurd hi (by omega), df_pop4 h4 h, df_pop5 h4 h5 rfl, df_pop6 h6⟩)
        | succ e =>
          have v2 := (h4.2 e (by omega)).1
          obtain ⟨s2, _, _, tl, _, _, tl8⟩ := hb _ v2
          have E3 : a_stack (nI (e + 1) - 1).toNatClampNeg = nI (s e) := by rw [nI_pred, nI_clamp (by omega)]; exact r3 e (by omega)
          have C2 : (nI (s e)).toNatClampNeg = s e := nI_clamp (by omega)
          have go : ∀ x, (a_lowest (s e) ≤ a_lowest (s (e + 1)) ∧ x = a_lowest (s e) ∨ ¬ a_lowest (s e) ≤ a_lowest (s (e + 1)) ∧ x = a_lowest (s (e + 1))) → wX_walk_17 post fuel (nI (e + 1)) (nI n) f_present f_groupCount f_bridgeSet f_hingeSet (nI w) a_endA a_endB a_number a_walkPoint a_parent a_parentLine (upd a_lowest (s e) (vp_nar .byte x)) a_nextLine a_stack a_marked a_pointRoot a_lineRoot a_between a_melted a_pull a_left a_cameFrom a_queue a_matrix a_dist := by
            intro x hx
            obtain ⟨c, hc, c1, c2, c3⟩ := mi_le tl ul (by omega) (by omega) hx
            rw [hc]
            exact ih (e + 1) (df_mu vis nx (e + 1)) _ _ _ _ _ _ _ _ (by have : df_mu vis nx (e + 1 + 1) = df_mu vis nx (e + 1) + 1 := rfl; omega) ⟨vis, num, wp, par, pl, fu_ low (s e) c, nx, s, w, rfl, rfl, ⟨rp_low r1, r2, h1, h2, h3, h7⟩, fun i hi => r3 i (by omega), df_pop4 h4 h, df_pop5' h2 h4 h5 rfl c1 c2 c3, df_pop6 h6⟩
          refine br_f (nI_nle (by omega) (by omega)) ⟨by rw [nI_pred]; exact vp_in_nI (by omega) (by decide), nm_r E3 ⟨vp_in_nI (by omega) (by decide), vp_in_nI (by omega) (by decide), ?_⟩⟩
          rw [C, C2]
          exact br_c (fun z => ⟨vp_in_nI (by omega) (by decide), vp_in_nI (by omega) (by decide), nm_e (go _ (Or.inl ⟨z, rfl⟩))⟩) (fun z => ⟨vp_in_nI (by omega) (by decide), vp_in_nI (by omega) (by decide), nm_e (go _ (Or.inr ⟨z, rfl⟩))⟩)
      · rw [C, ux, nI_1, by_c (show nx (s e) + 1 < 128 by omega)]
      · have k16 : nx (s e) < 16 := by omega
        have D : s e < 8 := by omega
        have ulb : nI (nx (s e)) = a_parentLine (s e) ↔ par (s e) ≠ s e ∧ nx (s e) = pl (s e) := by
          rcases up with ⟨a, _, c⟩ | ⟨a, _, c⟩
          · rw [c]
            refine ⟨fun z => ?_, fun z => absurd a z.1⟩
            have : (nI (nx (s e))).toInt = (-1 : Int32).toInt := by rw [z]
            rw [nI_toInt (by omega), show (-1 : Int32).toInt = -1 from by decide] at this
            omega
          · rw [c]
            have := (h2 _ vu).resolve_left a
            have := (hX.1.2 _ this.2.2.1).1
            rw [nI_eq (by omega) (by omega)]
            exact ⟨fun z => ⟨a, z⟩, fun z => z.2⟩
        have MU := mu_nx (d := e + 1) vu D rfl k16
        have adv : ∀ lw, (tc_ A B P (nx (s e)) (s e) → vis (oe_ A B (nx (s e)) (s e)) ∧ (an_ par (s e) (oe_ A B (nx (s e)) (s e)) ∨ an_ par (oe_ A B (nx (s e)) (s e)) (s e))) → lw ≤ low (s e) → (tc_ A B P (nx (s e)) (s e) → (par (s e) = s e ∨ nx (s e) ≠ pl (s e)) → lw ≤ num (oe_ A B (nx (s e)) (s e))) → (lw = low (s e) ∨ (tc_ A B P (nx (s e)) (s e) ∧ (par (s e) = s e ∨ nx (s e) ≠ pl (s e)) ∧ vis (oe_ A B (nx (s e)) (s e)) ∧ lw = num (oe_ A B (nx (s e)) (s e)))) → wX_walk_17 post fuel (nI (e + 1)) (nI n) f_present f_groupCount f_bridgeSet f_hingeSet (nI w) a_endA a_endB a_number a_walkPoint a_parent a_parentLine (upd a_lowest (s e) (nI lw)) (upd a_nextLine (s e) (nI (nx (s e) + 1))) a_stack a_marked a_pointRoot a_lineRoot a_between a_melted a_pull a_left a_cameFrom a_queue a_matrix a_dist := by
          intro lw a b c d'
          exact ih (e + 1) (df_mu vis (fu_ nx (s e) (nx (s e) + 1)) (e + 1)) _ _ _ _ _ _ _ _ (by omega) ⟨vis, num, wp, par, pl, fu_ low (s e) lw, fu_ nx (s e) (nx (s e) + 1), s, w, rfl, rfl, ⟨rp_low (rp_nx r1), r2, h1, h2, df_adv3 h3 rfl a, h7⟩, r3, df_adv4 h4 k16 (by omega) rfl, df_adv5 h2 h5 vu rfl (by omega) rfl b c d', h6⟩
        have same := upd_id ul
        have wlt : ¬ vis (oe_ A B (nx (s e)) (s e)) → oe_ A B (nx (s e)) (s e) < n → w < n := fun a b => by rw [← h1.2.1]; exact ct_miss a b
        have vn : tc_ A B P (nx (s e)) (s e) → oe_ A B (nx (s e)) (s e) < n := by
          intro t
          have := hX.1.2 _ t.1
          unfold oe_
          by_cases z : A (nx (s e)) = s e
          · rw [if_pos z]; exact this.2.2.1
          · rw [if_neg z]; exact this.2.1
        have unv : ∀ x, x < n → (0 ≤ a_number x ↔ vis x) := by
          intro x hx
          rcases r1 x hx with ⟨a, b, _⟩ | ⟨a, b⟩
          · rw [b]; exact ⟨fun _ => a, fun _ => nI_pos' (by have := (hb x a).2.2.2.2.2.1; omega)⟩
          · rw [b]; exact ⟨fun z => absurd z (by decide), fun z => absurd z a⟩
        refine xw_go hX D k16 (fun t y => ?_) (fun z => nm_r (Int32.add_zero _) ?_) (fun t h y x hx => nm_r (Int32.add_zero _) ?_) (fun t h y v hv => nm_r (nI_1 (e + 1)) ?_)
        · have a := wlt (fun z => y ((unv _ (vn t)).mpr z)) (vn t)
          have b := (df_sn h2 h4 e 0 (by omega) (by omega)).1
          have c := (h1.2.2.1 _ vu).1
          exact ⟨by omega, by omega⟩
        · have := adv (low (s e)) (fun t => ?_) (Nat.le_refl _) (fun t r => ?_) (Or.inl rfl)
          · rw [same] at this; exact this
          · have q := ulb.mp (z.resolve_left fun q => q t)
            have := (h2 _ vu).resolve_left q.1
            have o : oe_ A B (nx (s e)) (s e) = par (s e) := oe_of (hX.1.2 _ t.1).2.2.2 (by rw [q.2]; exact jn_s this.2.2.2)
            rw [o]
            exact ⟨this.1, Or.inr (an_p _)⟩
          · have q := ulb.mp (z.resolve_left fun q => q t)
            exact absurd q.2 (r.resolve_left q.1)
        · have vv := (unv _ (vn t)).mp y
          obtain ⟨_, vnn, _, _, _, vn8, _⟩ := hb _ vv
          obtain ⟨c, hc, c1, c2, c3⟩ := mi_le ul vnn (by omega) (by omega) hx
          have np : par (s e) = s e ∨ nx (s e) ≠ pl (s e) := by
            rcases Classical.em (par (s e) = s e) with q | q
            · exact Or.inl q
            · exact Or.inr fun z => h (ulb.mpr ⟨q, z⟩)
          rw [hc]
          refine adv c (fun _ => ⟨vv, ?_⟩) c1 (fun _ _ => c2) (c3.elim Or.inl (fun q => Or.inr ⟨t, np, vv, q⟩))
          rcases (h4.1 _ vv).2 with q | ⟨i, hi, q⟩
          · have o : oe_ A B (nx (s e)) (oe_ A B (nx (s e)) (s e)) = s e := oe_of (hX.1.2 _ t.1).2.2.2 (jn_s (oe_jn t))
            have := (h3 _ (nx (s e)) vv (by omega) (jn_tc t.1 (jn_s (oe_jn t)))).2
            rw [o] at this
            exact this.symm
          · have := (df_sn h2 h4 e i (by omega) (by omega)).2
            rw [q] at this
            exact Or.inr this
        · subst hv
          have nv : ¬ vis (oe_ A B (nx (s e)) (s e)) := fun z => y ((unv _ (vn t)).mpr z)
          have vln := vn t
          have wn := wlt nv vln
          have M2 := mu_ent (nx := nx) (d := e + 1) nv (by omega)
          generalize hv : oe_ A B (nx (s e)) (s e) = v at *
          have J : jn_ A B (nx (s e)) (s e) v := hv ▸ oe_jn t
          have uv : s e ≠ v := fun z => nv (z ▸ vu)
          have nx' : fu_ nx v 0 (s e) = nx (s e) := fu_n uv
          have H1 := df_ent1 h1 vln nv
          have H2 := df_ent2 (q := s e) (k := nx (s e)) h1 h2 nv (Or.inr ⟨vu, t.1, J⟩)
          have H3 := df_ent3 (q := s e) h2 h3 nv
          have H4 := df_ent4 (q := s e) h2 h4 nv (Or.inr ⟨vu, e, rfl, rfl⟩)
          have H5 := df_ent5 (q := s e) (k := nx (s e)) h1 h2 h3 h5 nv
          have H6 := df_ent6 h1 h2 h6 nv vu t.1 J hu vln rfl rfl
          have H7 := df_ent7 (k := 0) h1 h2 h6 h7 nv vu rfl rfl
          have se : fu_ s (e + 1) v e = s e := fu_n (by omega)
          have M3 := mu_nx (vis := fun x => vis x ∨ x = v) (nx := fu_ nx v 0) (d := e + 1 + 1) (Or.inl vu) D nx' k16
          have ov : oe_ A B (nx (s e)) (s e) = v := hv
          rw [upd_cm uv]
          refine ih (e + 1 + 1) (df_mu (fun x => vis x ∨ x = v) (fu_ (fu_ nx v 0) (s e) (nx (s e) + 1)) (e + 1 + 1)) _ _ _ _ _ _ _ _ (by omega) ⟨fun x => vis x ∨ x = v, fu_ num v w, fu_ wp w v, fu_ par v (s e), fu_ pl v (nx (s e)), fu_ (fu_ low v w) (s e) (low (s e)), fu_ (fu_ nx v 0) (s e) (nx (s e) + 1), fu_ s (e + 1) v, w + 1, rfl, rfl, ⟨?_, rp_put r2, H1, H2, df_adv3 H3 nx' (fun _ => ?_), H7⟩, rp_put r3, df_adv4 H4 k16 (show e < e + 1 + 1 by omega) se, df_adv5 H2 H5 (Or.inl vu) nx' (show e < e + 1 + 1 by omega) se ?_ (fun _ _ => ?_) (Or.inl ?_), H6⟩
          · have R := rp_nx (u := s e) (k := nx (s e) + 1) (rp_ent (v := v) (q := s e) (k := nx (s e)) (w := w) r1 (Or.inr ⟨uv, rfl, rfl⟩))
            have R2 := rp_low (u := s e) (lw := low (s e)) R
            rw [upd_id (a := upd a_lowest v (nI w)) (u := s e) (by rw [pk_un uv]; exact ul)] at R2
            exact R2
          · rw [ov]
            refine ⟨Or.inr rfl, Or.inl ?_⟩
            have := an_p (par := fu_ par v (s e)) v
            rw [fu_s] at this
            exact this
          · rw [fu_n uv]; exact Nat.le_refl _
          · rw [ov, fu_s]
            have := (hb _ vu).2.2.2.2.2.1
            have := h5.1 _ vu
            have := (h1.2.2.1 _ vu).1
            omega
          · rw [fu_n uv]
end
end
section
/-! ===== all walks ===== -/
/-- between walks: all points joined with some of the first p are come to -/
def dj_ (n : Nat) (P : Nat → Prop) (A B : Nat → Nat) (p : Nat) (f_walked : Int32) (a_number a_walkPoint a_parent a_parentLine a_lowest a_nextLine : Nat → Int32) : Prop :=
  ∃ (vis : Nat → Prop) (num wp par pl low nx s : Nat → Nat) (w : Nat), f_walked = nI w ∧ dw_ n P A B vis num wp par pl low nx w a_number a_walkPoint a_parent a_parentLine a_lowest a_nextLine ∧ df_4 vis par nx s 0 ∧ df_5 A B P vis num par pl low nx s 0 ∧ ∀ x, vis x ↔ ∃ q, (q < p ∧ q < n) ∧ gc A B P (fun x => x < n) q x
/-- what a first walk leaves -/
def dr_ (n : Nat) (P : Nat → Prop) (A B : Nat → Nat) (num wp par pl low : Nat → Nat) : Prop :=
  df_1 (fun x => x < n) num wp n n ∧ df_2 A B P (fun x => x < n) num par pl ∧ (∀ k, P k → an_ par (A k) (B k) ∨ an_ par (B k) (A k)) ∧
  ((∀ x, x < n → low x ≤ num x) ∧ (∀ x k, x < n → tc_ A B P k x → (par x = x ∨ k ≠ pl x) → low x ≤ num (oe_ A B k x)) ∧ (∀ x, x < n → par x ≠ x → low (par x) ≤ low x) ∧ ∀ x, x < n → ∃ y, y < n ∧ an_ par x y ∧ (low x = num y ∨ ∃ k, tc_ A B P k y ∧ (par y = y ∨ k ≠ pl y) ∧ low x = num (oe_ A B k y))) ∧ df_7 (fun x => x < n) num par
def ra_ (n : Nat) (num wp par pl low : Nat → Nat) (a_number a_walkPoint a_parent a_parentLine a_lowest : Nat → Int32) : Prop :=
  (∀ x, x < n → a_number x = nI (num x) ∧ ((par x = x ∧ a_parent x = -1 ∧ a_parentLine x = -1) ∨ (par x ≠ x ∧ a_parent x = nI (par x) ∧ a_parentLine x = nI (pl x))) ∧ a_lowest x = nI (low x)) ∧ ∀ i, i < n → a_walkPoint i = nI (wp i)
section
variable {n : Nat} {P : Nat → Prop} {A B : Nat → Nat}
theorem dj_end (hg : gr_ n P A B) {f_walked : Int32} {a_number a_walkPoint a_parent a_parentLine a_lowest a_nextLine : Nat → Int32} (h : dj_ n P A B n f_walked a_number a_walkPoint a_parent a_parentLine a_lowest a_nextLine) :
    ∃ num wp par pl low, dr_ n P A B num wp par pl low ∧ ra_ n num wp par pl low a_number a_walkPoint a_parent a_parentLine a_lowest := by
  obtain ⟨vis, num, wp, par, pl, low, nx, s, w, rfl, ⟨r1, r2, h1, h2, h3, h7⟩, h4, h5, hv⟩ := h
  have e : vis = fun x => x < n := by
    funext x
    refine propext ⟨h1.1 x, fun hx => (hv x).mpr ⟨x, ⟨hx, hx⟩, gc_r _⟩⟩
  subst e
  have wn : w = n := by
    rw [← h1.2.1]
    refine Nat.le_antisymm (ct_le _ _) ?_
    apply Classical.byContradiction
    intro z
    have : ∀ N, ct_n (fun x => x < n) N = N ∨ n < N := by
      intro N
      induction N with
      | zero => exact Or.inl rfl
      | succ N ih =>
        rcases Nat.lt_or_ge n (N + 1) with q | q
        · exact Or.inr q
        · refine Or.inl ?_
          rcases ih with ih | ih
          · simp only [ct_n]; rw [ih, ct_bt (by omega)]
          · omega
    rcases this n with q | q <;> omega
  subst wn
  have n16 : ∀ x, x < w → nx x = 16 := fun x hx => (h4.1 x hx).2.resolve_right (fun ⟨i, hi, _⟩ => by omega)
  refine ⟨num, wp, par, pl, low, ⟨h1, h2, fun k pk => ?_, ⟨h5.1, fun x k hx t r => h5.2.1 x k hx (by rw [n16 x hx]; exact (hg.2 k t.1).1) t r, fun x hx np => h5.2.2.1 x hx np (fun i hi => by omega), fun x hx => ?_⟩, h7⟩, fun x hx => ?_, r2⟩
  · have g := hg.2 k pk
    have t : tc_ A B P k (A k) := ⟨pk, Or.inl rfl⟩
    have := (h3 (A k) k g.2.1 (by rw [n16 _ g.2.1]; exact g.1) t).2
    have o : oe_ A B k (A k) = B k := if_pos rfl
    rw [o] at this
    exact this
  · obtain ⟨y, a, b, c⟩ := h5.2.2.2 x hx
    exact ⟨y, a, b, c.elim Or.inl (fun ⟨k, c1, c2, _, c3⟩ => Or.inr ⟨k, c1, c2, c3⟩)⟩
  · rcases r1 x hx with ⟨_, b, c, d, _⟩ | z
    · exact ⟨b, c, d⟩
    · exact absurd hx z.1
theorem dj_next (hg : gr_ n P A B) {p m : Nat} (hp : p < n) {vis0 : Nat → Prop} (h0 : ∀ x, vis0 x ↔ ∃ q, (q < p ∧ q < n) ∧ gc A B P (fun x => x < n) q x) {f_walked : Int32} {a_number a_walkPoint a_parent a_parentLine a_lowest a_nextLine a_stack : Nat → Int32}
    (h : di_ n P A B vis0 p 0 m f_walked a_number a_walkPoint a_parent a_parentLine a_lowest a_nextLine a_stack) : dj_ n P A B (p + 1) f_walked a_number a_walkPoint a_parent a_parentLine a_lowest a_nextLine := by
  obtain ⟨vis, num, wp, par, pl, low, nx, s, w, rfl, rfl, ⟨r1, r2, h1, h2, h3, h7⟩, r3, h4, h5, h6⟩ := h
  refine ⟨vis, num, wp, par, pl, low, nx, s, w, rfl, ⟨r1, r2, h1, h2, h3, h7⟩, h4, h5, fun x => ⟨fun vx => ?_, ?_⟩⟩
  · rcases Classical.em (vis0 x) with z | z
    · obtain ⟨q, hq, g⟩ := (h0 x).mp z
      exact ⟨q, ⟨by omega, hq.2⟩, g⟩
    · exact ⟨p, ⟨by omega, hp⟩, (h6.1 x vx z).1⟩
  · rintro ⟨q, hq, g⟩
    rcases Nat.lt_or_ge q p with z | z
    · exact h6.2.2.2 x ((h0 x).mpr ⟨q, ⟨z, hq.2⟩, g⟩)
    · have e : q = p := by omega
      subst e
      refine (gc_sep g vis fun k pk _ _ => ?_).mp h6.2.1.1
      have n16 : ∀ x, vis x → nx x = 16 := fun x hx => (h4.1 x hx).2.resolve_right (fun ⟨i, hi, _⟩ => by omega)
      have go := hg.2 k pk
      have oa : oe_ A B k (A k) = B k := if_pos rfl
      have ob : oe_ A B k (B k) = A k := if_neg go.2.2.2
      constructor
      · intro v
        have := (h3 _ k v (by rw [n16 _ v]; exact go.1) ⟨pk, Or.inl rfl⟩).1
        rw [oa] at this; exact this
      · intro v
        have := (h3 _ k v (by rw [n16 _ v]; exact go.1) ⟨pk, Or.inr rfl⟩).1
        rw [ob] at this; exact this
end
section
variable {n : Nat} {P : Nat → Prop} {A B : Nat → Nat}
variable {f_present : Int32} {f_bridgeSet : Int32} {f_hingeSet : Int32} {a_endA : Nat → Int32} {a_endB : Nat → Int32} {a_marked : Nat → Int32} {a_pointRoot : Nat → Int32} {a_lineRoot : Nat → Int32} {a_between : Nat → Int32} {a_melted : Nat → Int32} {a_pull : Nat → Int32} {a_left : Nat → Int32} {a_cameFrom : Nat → Int32} {a_queue : Nat → Int32} {a_matrix : Nat → Int64} {a_dist : Nat → Int32}
theorem xw_walk (hX : xg_ n P A B f_present a_endA a_endB) {post : SX → Prop} {p : Nat} (hp : p < n) {f_groupCount : Int32} {f_walked : Int32} {a_number : Nat → Int32} {a_walkPoint : Nat → Int32} {a_parent : Nat → Int32} {a_parentLine : Nat → Int32} {a_lowest : Nat → Int32} {a_nextLine : Nat → Int32} {a_stack : Nat → Int32}
    (I : dj_ n P A B p f_walked a_number a_walkPoint a_parent a_parentLine a_lowest a_nextLine) (nv : ¬ ∃ q, (q < p ∧ q < n) ∧ gc A B P (fun x => x < n) q p)
    (h : ∀ (f_walked : Int32) (a_number : Nat → Int32) (a_walkPoint : Nat → Int32) (a_parent : Nat → Int32) (a_parentLine : Nat → Int32) (a_lowest : Nat → Int32) (a_nextLine : Nat → Int32) (a_stack : Nat → Int32), dj_ n P A B (p + 1) f_walked a_number a_walkPoint a_parent a_parentLine a_lowest a_nextLine → post (nI n, f_present, f_groupCount, f_bridgeSet, f_hingeSet, f_walked, a_endA, a_endB, a_number, a_walkPoint, a_parent, a_parentLine, a_lowest, a_nextLine, a_stack, a_marked, a_pointRoot, a_lineRoot, a_between, a_melted, a_pull, a_left, a_cameFrom, a_queue, a_matrix, a_dist)) : wpX_walk post (nI n, f_present, f_groupCount, f_bridgeSet, f_hingeSet, f_walked, a_endA, a_endB, a_number, a_walkPoint, a_parent, a_parentLine, a_lowest, a_nextLine, a_stack, a_marked, a_pointRoot, a_lineRoot, a_between, a_melted, a_pull, a_left, a_cameFrom, a_queue, a_matrix, a_dist) (nI p) := by
  have n8 := hX.1.1.2
  obtain ⟨vis, num, wp, par, pl, low, nx, s, w, rfl, ⟨r1, r2, h1, h2, h3, h7⟩, h4, h5, hv⟩ := I
  have nv' : ¬ vis p := fun z => nv ((hv p).mp z)
  have wn : w < n := by rw [← h1.2.1]; exact ct_miss nv' hp
  unfold wpX_walk
  dsimp only
  refine nm_e (xw_ent (by omega) (by omega) by_m1c by_m1c ?_)
  rw [by_c (show p < 128 by omega)]
  refine ⟨df_mu (fun x => vis x ∨ x = p) (fu_ nx p 0) 1 + 1, xw_loop (vis0 := vis) (st := p) hX (fun m f_walked a_number a_walkPoint a_parent a_parentLine a_lowest a_nextLine a_stack I => h _ _ _ _ _ _ _ _ (dj_next hX.1 hp hv I)) _ 1 _ _ _ _ _ _ _ _ _ (Nat.lt_succ_self _) ?_⟩
  exact ⟨fun x => vis x ∨ x = p, fu_ num p w, fu_ wp w p, fu_ par p p, fu_ pl p 0, fu_ low p w, fu_ nx p 0, fu_ s 0 p, w + 1, rfl, rfl, ⟨rp_ent r1 (Or.inl ⟨rfl, rfl, rfl⟩), rp_put r2, df_ent1 h1 hp nv', df_ent2 h1 h2 nv' (Or.inl rfl), df_ent3 h2 h3 nv', df_new7 h1 h2 h7 nv'⟩, rp_put (w := 0) (fun i hi => absurd hi (by omega)), df_ent4 h2 h4 nv' (Or.inl ⟨rfl, rfl⟩), df_ent5 h1 h2 h3 h5 nv', df_new6 h1 nv'⟩
theorem xw_all35 (hX : xg_ n P A B f_present a_endA a_endB) {post : SX → Prop}
    (h : ∀ (f_walked : Int32) (a_number : Nat → Int32) (a_walkPoint : Nat → Int32) (a_parent : Nat → Int32) (a_parentLine : Nat → Int32) (a_lowest : Nat → Int32) (a_nextLine : Nat → Int32) (a_stack : Nat → Int32) num wp par pl low, dr_ n P A B num wp par pl low → ra_ n num wp par pl low a_number a_walkPoint a_parent a_parentLine a_lowest → post (nI n, f_present, nI (gc_c A B P (fun x => x < n)), f_bridgeSet, f_hingeSet, f_walked, a_endA, a_endB, a_number, a_walkPoint, a_parent, a_parentLine, a_lowest, a_nextLine, a_stack, a_marked, a_pointRoot, a_lineRoot, a_between, a_melted, a_pull, a_left, a_cameFrom, a_queue, a_matrix, a_dist)) :
    ∀ (d p : Nat) (f_walked : Int32) (a_number : Nat → Int32) (a_walkPoint : Nat → Int32) (a_parent : Nat → Int32) (a_parentLine : Nat → Int32) (a_lowest : Nat → Int32) (a_nextLine : Nat → Int32) (a_stack : Nat → Int32), p + d = n → dj_ n P A B p f_walked a_number a_walkPoint a_parent a_parentLine a_lowest a_nextLine → wX_walkAll_35 post (d + 1) (nI p) (nI n) f_present (nI (ct_n (nc_rep (gc A B P (fun x => x < n)) (fun x => x < n)) p)) f_bridgeSet f_hingeSet f_walked a_endA a_endB a_number a_walkPoint a_parent a_parentLine a_lowest a_nextLine a_stack a_marked a_pointRoot a_lineRoot a_between a_melted a_pull a_left a_cameFrom a_queue a_matrix a_dist := by
  have n8 := hX.1.1.2
  intro d
  induction d with
  | zero =>
    intro p f_walked a_number a_walkPoint a_parent a_parentLine a_lowest a_nextLine a_stack hp I
    have e : p = n := by omega
    subst e
    obtain ⟨num, wp, par, pl, low, a, b⟩ := dj_end hX.1 I
    refine br_t (nI_le (Nat.le_refl _) (by omega)) ?_
    have := h f_walked a_number a_walkPoint a_parent a_parentLine a_lowest a_nextLine a_stack num wp par pl low a b
    rw [show gc_c A B P (fun x => x < p) = ct_n (nc_rep (gc A B P (fun x => x < p)) (fun x => x < p)) p from ct_ext n8 (fun k _ z => z.1)] at this
    exact this
  | succ d ih =>
    intro p f_walked a_number a_walkPoint a_parent a_parentLine a_lowest a_nextLine a_stack hp I
    have hpn : p < n := by omega
    have C : (nI p).toNatClampNeg = p := nI_clamp (by omega)
    refine br_f (nI_ge hpn (by omega)) ⟨vp_in_nI (by omega) (by decide), ?_⟩
    rw [C]
    have vis : 0 ≤ a_number p ↔ ∃ q, (q < p ∧ q < n) ∧ gc A B P (fun x => x < n) q p := by
      obtain ⟨vis, num, wp, par, pl, low, nx, s, w, rfl, ⟨r1, r2, h1, h2, h3, h7⟩, h4, h5, hv⟩ := I
      rw [← hv p]
      rcases r1 p hpn with ⟨a, b, _⟩ | ⟨a, b⟩
      · have := (h1.2.2.1 p a).1
        have : w ≤ n := by rw [← h1.2.1]; exact ct_le _ _
        rw [b]; exact ⟨fun _ => a, fun _ => nI_pos' (by omega)⟩
      · rw [b]; exact ⟨fun z => absurd z (by decide), fun z => absurd z a⟩
    refine br_c (fun z => nm_r (nI_1 p) ?_) (fun z => ?_)
    · have z := vis.mp z
      have e : ct_n (nc_rep (gc A B P (fun x => x < n)) (fun x => x < n)) (p + 1) = ct_n (nc_rep (gc A B P (fun x => x < n)) (fun x => x < n)) p := by
        show _ + ct_b _ = _
        rw [ct_bf (fun y => by obtain ⟨q, hq, g⟩ := z; exact y.2 q hq.1 hq.2 g)]; rfl
      rw [← e]
      refine ih (p + 1) _ _ _ _ _ _ _ _ (by omega) ?_
      obtain ⟨vis, num, wp, par, pl, low, nx, s, w, rfl, dw, h4, h5, hv⟩ := I
      refine ⟨vis, num, wp, par, pl, low, nx, s, w, rfl, dw, h4, h5, fun x => ?_⟩
      rw [hv x]
      constructor
      · rintro ⟨q, hq, g⟩
        exact ⟨q, ⟨by omega, hq.2⟩, g⟩
      · rintro ⟨q, hq, g⟩
        rcases Nat.lt_or_ge q p with y | y
        · exact ⟨q, ⟨y, hq.2⟩, g⟩
        · have e : q = p := by omega
          subst e
          obtain ⟨r, hr, g'⟩ := z
          exact ⟨r, hr, gc_t g' g⟩
    · have z : ¬ ∃ q, (q < p ∧ q < n) ∧ gc A B P (fun x => x < n) q p := fun y => z (vis.mpr y)
      refine xw_walk hX hpn I z (fun f_walked a_number a_walkPoint a_parent a_parentLine a_lowest a_nextLine a_stack J => nm_r ((nI_1 _).trans (congrArg nI ?_)) (nm_r (nI_1 p) (ih (p + 1) _ _ _ _ _ _ _ _ (by omega) J)))
      show _ = _ + ct_b _
      rw [ct_bt ⟨hpn, fun q hq sq g => z ⟨q, ⟨hq, sq⟩, g⟩⟩]
theorem xw_all12 (hX : xg_ n P A B f_present a_endA a_endB) {post : SX → Prop} {a_walkPoint : Nat → Int32} {a_parent : Nat → Int32} {a_parentLine : Nat → Int32} {a_lowest : Nat → Int32} {a_nextLine : Nat → Int32} {a_stack : Nat → Int32}
    (h : ∀ (f_walked : Int32) (a_number : Nat → Int32) (a_walkPoint : Nat → Int32) (a_parent : Nat → Int32) (a_parentLine : Nat → Int32) (a_lowest : Nat → Int32) (a_nextLine : Nat → Int32) (a_stack : Nat → Int32) num wp par pl low, dr_ n P A B num wp par pl low → ra_ n num wp par pl low a_number a_walkPoint a_parent a_parentLine a_lowest → post (nI n, f_present, nI (gc_c A B P (fun x => x < n)), f_bridgeSet, f_hingeSet, f_walked, a_endA, a_endB, a_number, a_walkPoint, a_parent, a_parentLine, a_lowest, a_nextLine, a_stack, a_marked, a_pointRoot, a_lineRoot, a_between, a_melted, a_pull, a_left, a_cameFrom, a_queue, a_matrix, a_dist)) :
    ∀ (d p : Nat) (a_number : Nat → Int32), p + d = n → (∀ x, x < p → a_number x = -1) → wX_walkAll_12 post (nI n) f_present 0 f_bridgeSet f_hingeSet 0 (d + 1) (nI p) a_endA a_endB a_number a_walkPoint a_parent a_parentLine a_lowest a_nextLine a_stack a_marked a_pointRoot a_lineRoot a_between a_melted a_pull a_left a_cameFrom a_queue a_matrix a_dist := by
  have n8 := hX.1.1.2
  intro d
  induction d with
  | zero =>
    intro p a_number hp I
    have e : p = n := by omega
    subst e
    refine br_t (nI_le (Nat.le_refl _) (by omega)) ⟨p + 1, xw_all35 hX h p 0 _ _ _ _ _ _ _ _ (by omega) ⟨fun _ => False, fun _ => 0, fun _ => 0, fun x => x, fun _ => 0, fun _ => 0, fun _ => 0, fun _ => 0, 0, rfl, ⟨fun x hx => Or.inr ⟨id, I x hx⟩, fun i hi => absurd hi (by omega), ⟨fun x z => z.elim, ct_zero fun k _ => id, fun x z => z.elim, fun i hi => absurd hi (by omega)⟩, fun x z => z.elim, fun x k z => z.elim, fun y z => z.elim⟩, ⟨fun x z => z.elim, fun i hi => absurd hi (by omega)⟩, ⟨fun x z => z.elim, fun x k z => z.elim, fun x z => z.elim, fun x z => z.elim⟩, fun x => ⟨fun z => z.elim, fun ⟨q, hq, _⟩ => by omega⟩⟩⟩
  | succ d ih =>
    intro p a_number hp I
    have hpn : p < n := by omega
    refine br_f (nI_ge hpn (by omega)) ⟨vp_in_nI (by omega) (by decide), nm_e (nm_r (nI_1 p) (ih (p + 1) _ (by omega) fun x hx => ?_))⟩
    rw [nI_clamp (by omega), by_m1]
    rcases Classical.em (x = p) with z | z
    · subst z; rw [pk_us]
    · rw [pk_un z]; exact I x (by omega)
theorem xw_all (hX : xg_ n P A B f_present a_endA a_endB) {post : SX → Prop} {f_groupCount : Int32} {f_walked : Int32} {a_number : Nat → Int32} {a_walkPoint : Nat → Int32} {a_parent : Nat → Int32} {a_parentLine : Nat → Int32} {a_lowest : Nat → Int32} {a_nextLine : Nat → Int32} {a_stack : Nat → Int32}
    (h : ∀ (f_walked : Int32) (a_number : Nat → Int32) (a_walkPoint : Nat → Int32) (a_parent : Nat → Int32) (a_parentLine : Nat → Int32) (a_lowest : Nat → Int32) (a_nextLine : Nat → Int32) (a_stack : Nat → Int32) num wp par pl low, dr_ n P A B num wp par pl low → ra_ n num wp par pl low a_number a_walkPoint a_parent a_parentLine a_lowest → post (nI n, f_present, nI (gc_c A B P (fun x => x < n)), f_bridgeSet, f_hingeSet, f_walked, a_endA, a_endB, a_number, a_walkPoint, a_parent, a_parentLine, a_lowest, a_nextLine, a_stack, a_marked, a_pointRoot, a_lineRoot, a_between, a_melted, a_pull, a_left, a_cameFrom, a_queue, a_matrix, a_dist)) : wpX_walkAll post (nI n, f_present, f_groupCount, f_bridgeSet, f_hingeSet, f_walked, a_endA, a_endB, a_number, a_walkPoint, a_parent, a_parentLine, a_lowest, a_nextLine, a_stack, a_marked, a_pointRoot, a_lineRoot, a_between, a_melted, a_pull, a_left, a_cameFrom, a_queue, a_matrix, a_dist) :=
  ⟨n + 1, xw_all12 hX h n 0 _ (by omega) (fun x hx => absurd hx (by omega))⟩
end
end
section
/-! ===== bridges and hinges by a first walk's tree ===== -/
section
variable {n : Nat} {P : Nat → Prop} {A B num wp par pl low : Nat → Nat}
theorem dt_lt (hd : dr_ n P A B num wp par pl low) {u v : Nat} (h : an_ par u v) (hv : v < n) : u < n := df_an (vis := fun x => x < n) hd.2.1 h hv
theorem dt_nu (hd : dr_ n P A B num wp par pl low) {u v : Nat} (h : an_ par u v) (hv : v < n) : num u ≤ num v := df_nu (vis := fun x => x < n) hd.2.1 h hv
theorem dt_anti (hd : dr_ n P A B num wp par pl low) {u v : Nat} (h : an_ par u v) (g : an_ par v u) (hv : v < n) : u = v :=
  df_inj (vis := fun x => x < n) hd.1 (dt_lt hd h hv) hv (Nat.le_antisymm (dt_nu hd h hv) (dt_nu hd g (dt_lt hd h hv)))
theorem dt_lts (hd : dr_ n P A B num wp par pl low) {u v : Nat} (h : an_ par u v) (ne : u ≠ v) (hv : v < n) : num u < num v := by
  have a := dt_nu hd h hv
  rcases Nat.lt_or_ge (num u) (num v) with z | z
  · exact z
  · exact absurd (df_inj (vis := fun x => x < n) hd.1 (dt_lt hd h hv) hv (by omega)) ne
theorem an_root {u v : Nat} (r : par v = v) (h : an_ par u v) : u = v := by
  obtain ⟨i, rfl⟩ := h
  induction i with
  | zero => rfl
  | succ i ih => show up_ par i (par v) = v; rw [r]; exact ih
theorem dt_par (hd : dr_ n P A B num wp par pl low) {x : Nat} (hx : x < n) (np : par x ≠ x) : par x < n ∧ num (par x) < num x ∧ P (pl x) ∧ jn_ A B (pl x) (par x) x := (hd.2.1 x hx).resolve_left np
theorem dt_st {u v : Nat} (h : an_ par u v) (ne : u ≠ v) : par v ≠ v ∧ an_ par u (par v) := ⟨fun r => ne (an_root r h), (an_st h).resolve_left ne⟩
theorem dt_up (hd : dr_ n P A B num wp par pl low) {x : Nat} (hx : x < n) (np : par x ≠ x) : ¬ an_ par x (par x) := fun z => by
  have a := dt_par hd hx np
  have := dt_nu hd z a.1
  omega
/-- the tree's way from u down to v -/
theorem dt_path (hd : dr_ n P A B num wp par pl low) {L S : Nat → Prop} {u v : Nat} (h : an_ par u v) (hv : v < n) (hL : ∀ z, z < n → an_ par u z → an_ par z v → z ≠ u → L (pl z)) (hS : ∀ z, an_ par u z → an_ par z v → S z) : gc A B L S u v := by
  obtain ⟨i, e⟩ := h
  induction i generalizing v with
  | zero => subst e; exact gc_r _
  | succ i ih =>
    have e' : up_ par i (par v) = u := e
    have hu : an_ par u v := ⟨i + 1, e⟩
    rcases Classical.em (u = v) with z | ne
    · subst z; exact gc_r _
    · obtain ⟨np, hu'⟩ := dt_st hu ne
      obtain ⟨a, b, c, d⟩ := dt_par hd hv np
      have g := ih a (fun z z1 z2 z3 z4 => hL z z1 z2 (an_t z3 (an_p v)) z4) (fun z z2 z3 => hS z z2 (an_t z3 (an_p v))) e'
      exact gc_t g (jn_gc (hL v hv hu (an_r v) (fun q => ne q.symm)) (hS _ hu' (an_p v)) (hS _ hu (an_r v)) d)
theorem dt_pl (hd : dr_ n P A B num wp par pl low) {x y : Nat} (hx : x < n) (hy : y < n) (nx : par x ≠ x) (ny : par y ≠ y) (e : pl x = pl y) : x = y := by
  obtain ⟨_, a, _, b⟩ := dt_par hd hx nx
  obtain ⟨_, c, _, d⟩ := dt_par hd hy ny
  rw [e] at b
  rcases b with ⟨b1, b2⟩ | ⟨b1, b2⟩
  · rcases d with ⟨d1, d2⟩ | ⟨d1, d2⟩
    · exact b2.symm.trans d2
    · have e1 := b1.symm.trans d1
      have e2 := b2.symm.trans d2
      rw [e1] at a; rw [← e2] at c; omega
  · rcases d with ⟨d1, d2⟩ | ⟨d1, d2⟩
    · have e1 := b1.symm.trans d1
      have e2 := b2.symm.trans d2
      rw [e2] at a; rw [← e1] at c; omega
    · exact b1.symm.trans d1
theorem dt_line (hd : dr_ n P A B num wp par pl low) {k x y : Nat} (pk : P k) (j : jn_ A B k x y) : an_ par x y ∨ an_ par y x := by
  rcases j with ⟨rfl, rfl⟩ | ⟨rfl, rfl⟩
  · exact hd.2.2.1 k pk
  · exact (hd.2.2.1 k pk).symm
/-- a line that leaves a subtree goes up -/
theorem dt_leave (hd : dr_ n P A B num wp par pl low) {k p x y : Nat} (pk : P k) (j : jn_ A B k x y) (a : an_ par p x) (b : ¬ an_ par p y) : an_ par y p ∧ y ≠ p := by
  refine ⟨?_, fun e => b (e ▸ an_r _)⟩
  rcases dt_line hd pk j with z | z
  · exact absurd (an_t a z) b
  · exact (an_cmp z a).resolve_right b
theorem dt_low (hd : dr_ n P A B num wp par pl low) {p x : Nat} (h : an_ par p x) (hx : x < n) : low p ≤ low x := by
  obtain ⟨i, e⟩ := h
  induction i generalizing x with
  | zero => subst e; exact Nat.le_refl _
  | succ i ih =>
    rcases Classical.em (par x = x) with z | z
    · exact ih hx (by have e' : up_ par i (par x) = p := e; rw [z] at e'; exact e')
    · exact Nat.le_trans (ih (dt_par hd hx z).1 e) (hd.2.2.2.1.2.2.1 x hx z)
/-- a line out of p's subtree, not p's own: it bounds low p -/
theorem dt_out (hg : gr_ n P A B) (hd : dr_ n P A B num wp par pl low) {k p x y : Nat} (hx : x < n) (pk : P k) (j : jn_ A B k x y) (a : an_ par p x) (b : ¬ an_ par p y) (ne : par p = p ∨ k ≠ pl p) : low p ≤ num y := by
  have o := oe_of (hg.2 k pk).2.2.2 j
  have := hd.2.2.2.1.2.1 x k hx (jn_tc pk j) ?_
  · rw [o] at this; exact Nat.le_trans (dt_low hd a hx) this
  · rcases Classical.em (par x = x) with z | z
    · exact Or.inl z
    · refine Or.inr fun e => ?_
      have d := dt_par hd hx z
      rw [← e] at d
      have oy : y = par x := o.symm.trans (oe_of (hg.2 k pk).2.2.2 (jn_s d.2.2.2))
      rcases an_st a with w | w
      · subst w; exact ne.elim z (fun q => q e)
      · exact b (oy ▸ w)
/-- low p is that of a line out of the subtree -/
theorem dt_att (hg : gr_ n P A B) (hd : dr_ n P A B num wp par pl low) {p : Nat} (hp : p < n) (h : low p < num p) : ∃ x y k, x < n ∧ y < n ∧ an_ par p x ∧ ¬ an_ par p y ∧ P k ∧ jn_ A B k x y ∧ (par p = p ∨ k ≠ pl p) ∧ num y = low p := by
  obtain ⟨x, hx, a, r⟩ := hd.2.2.2.1.2.2.2 p hp
  have np := dt_nu hd a hx
  rcases r with r | ⟨k, t, r1, r2⟩
  · omega
  · have j := oe_jn t
    have hy : oe_ A B k x < n := by
      have := hg.2 k t.1
      rcases j with ⟨_, j⟩ | ⟨j, _⟩
      · rw [← j]; exact this.2.2.1
      · rw [← j]; exact this.2.1
    refine ⟨x, _, k, hx, hy, a, fun z => ?_, t.1, j, ?_, r2.symm⟩
    · have := dt_nu hd z hy; omega
    · rcases Classical.em (par p = p) with z | z
      · exact Or.inl z
      · refine Or.inr fun e => ?_
        have d := dt_par hd hp z
        rw [← e] at d
        -- k joins par p and p; x is below p, so x = p
        rcases d.2.2.2 with ⟨d1, d2⟩ | ⟨d1, d2⟩
        · rcases t.2 with q | q
          · exact dt_up hd hp z (by rw [← d1, q]; exact a)
          · have : x = p := q.symm.trans d2
            subst this
            exact r1.elim z (fun q => q e)
        · rcases t.2 with q | q
          · have : x = p := q.symm.trans d1
            subst this
            exact r1.elim z (fun q => q e)
          · exact dt_up hd hp z (by rw [← d2, q]; exact a)
/-- the tree's own lines: bridges just where low is the own number -/
theorem dt_br (hg : gr_ n P A B) (hd : dr_ n P A B num wp par pl low) {x : Nat} (hx : x < n) (nr : par x ≠ x) : (¬ gc A B (fun j => P j ∧ j ≠ pl x) (fun x => x < n) (par x) x) ↔ low x = num x := by
  obtain ⟨pn, pl1, pP, pj⟩ := dt_par hd hx nr
  constructor
  · intro h
    apply Classical.byContradiction
    intro ne
    have lt : low x < num x := by have := hd.2.2.2.1.1 x hx; omega
    obtain ⟨x', y, k, hx', hy, a, b, pk, j, nk, e⟩ := dt_att hg hd hx lt
    obtain ⟨ay, ny⟩ := dt_leave hd pk j a b
    have ay' := (dt_st ay ny).2
    apply h
    have g1 : gc A B (fun j => P j ∧ j ≠ pl x) (fun x => x < n) x x' := dt_path hd a hx' (fun z hz a1 a2 nz => ?_) (fun z a1 a2 => dt_lt hd a2 hx')
    · have g2 : gc A B (fun j => P j ∧ j ≠ pl x) (fun x => x < n) x' y := jn_gc ⟨pk, nk.resolve_left nr⟩ hx' hy j
      have g3 : gc A B (fun j => P j ∧ j ≠ pl x) (fun x => x < n) y (par x) := dt_path hd ay' pn (fun z hz a1 a2 nz => ?_) (fun z a1 a2 => dt_lt hd a2 pn)
      · exact gc_s (gc_t g1 (gc_t g2 g3))
      · have nz' := (dt_st a1 (fun e => nz e.symm)).1
        refine ⟨(dt_par hd hz nz').2.2.1, fun e => ?_⟩
        have := dt_pl hd hz hx nz' nr e
        subst this
        exact dt_up hd hx nr a2
    · have nz' := (dt_st a1 (fun e => nz e.symm)).1
      exact ⟨(dt_par hd hz nz').2.2.1, fun e => nz (dt_pl hd hz hx nz' nr e)⟩
  · intro e g
    have T := gc_sep g (fun z => an_ par x z) (fun k pk va vb => ?_)
    · exact dt_up hd hx nr (T.mpr (an_r x))
    · have key : ∀ a b, jn_ A B k a b → a < n → b < n → an_ par x a → an_ par x b := by
        intro a b j ha hb h1
        apply Classical.byContradiction
        intro h2
        obtain ⟨ab, nb⟩ := dt_leave hd pk.1 j h1 h2
        have := dt_out hg hd ha pk.1 j h1 h2 (Or.inr pk.2)
        have := dt_lts hd ab nb hx
        omega
      exact ⟨key _ _ (Or.inl ⟨rfl, rfl⟩) va vb, key _ _ (Or.inr ⟨rfl, rfl⟩) vb va⟩
/-- lines that aren't the tree's are no bridges -/
theorem dt_nb (hg : gr_ n P A B) (hd : dr_ n P A B num wp par pl low) {k : Nat} (pk : P k) (h : ∀ x, x < n → par x ≠ x → k ≠ pl x) : gc A B (fun j => P j ∧ j ≠ k) (fun x => x < n) (A k) (B k) := by
  have g := hg.2 k pk
  have key : ∀ a b, a < n → b < n → an_ par a b → gc A B (fun j => P j ∧ j ≠ k) (fun x => x < n) a b := by
    intro a b ha hb h1
    refine dt_path hd h1 hb (fun z hz a1 a2 nz => ?_) (fun z a1 a2 => dt_lt hd a2 hb)
    have nz' := (dt_st a1 (fun e => nz e.symm)).1
    exact ⟨(dt_par hd hz nz').2.2.1, fun e => h z hz nz' e.symm⟩
  rcases hd.2.2.1 k pk with z | z
  · exact key _ _ g.2.1 g.2.2.1 z
  · exact gc_s (key _ _ g.2.2.1 g.2.1 z)
theorem dt_bridges (hg : gr_ n P A B) (hd : dr_ n P A B num wp par pl low) (k : Nat) : sp_br A B P (fun x => x < n) k ↔ ∃ x, x < n ∧ par x ≠ x ∧ low x = num x ∧ k = pl x := by
  have flip : ∀ x, x < n → par x ≠ x → (gc A B (fun j => P j ∧ j ≠ pl x) (fun x => x < n) (A (pl x)) (B (pl x)) ↔ gc A B (fun j => P j ∧ j ≠ pl x) (fun x => x < n) (par x) x) := by
    intro x hx nr
    rcases (dt_par hd hx nr).2.2.2 with ⟨e1, e2⟩ | ⟨e1, e2⟩
    · rw [e1, e2]
    · rw [e1, e2]; exact ⟨gc_s, gc_s⟩
  constructor
  · rintro ⟨pk, h⟩
    apply Classical.byContradiction
    intro no
    apply h
    rcases Classical.em (∃ x, x < n ∧ par x ≠ x ∧ k = pl x) with ⟨x, hx, nr, e⟩ | z
    · subst e
      rw [flip x hx nr]
      apply Classical.byContradiction
      intro q
      exact no ⟨x, hx, nr, (dt_br hg hd hx nr).mp q, rfl⟩
    · exact dt_nb hg hd pk fun x hx nr e => z ⟨x, hx, nr, e⟩
  · rintro ⟨x, hx, nr, e, rfl⟩
    refine ⟨(dt_par hd hx nr).2.2.1, ?_⟩
    rw [flip x hx nr]
    exact (dt_br hg hd hx nr).mpr e
/-! hinges -/
theorem dt_root (hd : dr_ n P A B num wp par pl low) {x : Nat} (hx : x < n) : ∃ r, r < n ∧ par r = r ∧ an_ par r x := by
  obtain ⟨r, a, b, c, _⟩ := hd.2.2.2.2 x hx
  exact ⟨r, a, b, c⟩
theorem dt_same (hd : dr_ n P A B num wp par pl low) {r x y : Nat} (rr : par r = r) (g : gc A B P (fun x => x < n) x y) (h : an_ par r x) : an_ par r y := by
  refine (gc_sep g (fun z => an_ par r z) fun k pk va vb => ?_).mp h
  have key : ∀ a b, jn_ A B k a b → an_ par r a → an_ par r b := by
    intro a b j h1
    rcases dt_line hd pk j with z | z
    · exact an_t h1 z
    · rcases an_cmp h1 z with w | w
      · exact w
      · have := an_root rr w
        subst this; exact an_r _
  exact ⟨key _ _ (Or.inl ⟨rfl, rfl⟩), key _ _ (Or.inr ⟨rfl, rfl⟩)⟩
/-- a child's subtree hangs at u alone -/
theorem dt_hang (hg : gr_ n P A B) (hd : dr_ n P A B num wp par pl low) {u p v : Nat} (hp : p < n) (pu : par p = u) (np : p ≠ u) (h : par u = u ∨ num u ≤ low p) (hv : ¬ an_ par p v) : ¬ gc A B P (fun x => x < n ∧ x ≠ u) p v := by
  intro g
  have nr : par p ≠ p := fun e => np (e.symm.trans pu)
  refine hv ((gc_sep g (fun z => an_ par p z) fun k pk va vb => ?_).mp (an_r p))
  have key : ∀ a b, jn_ A B k a b → (a < n ∧ a ≠ u) → (b < n ∧ b ≠ u) → an_ par p a → an_ par p b := by
    intro a b j ha hb h1
    apply Classical.byContradiction
    intro h2
    obtain ⟨ab, nb⟩ := dt_leave hd pk j h1 h2
    have ab' := (dt_st ab nb).2
    rw [pu] at ab'
    rcases h with h | h
    · exact hb.2 (an_root h ab')
    · have un : u < n := pu ▸ (dt_par hd hp nr).1
      have l := dt_lts hd ab' hb.2 un
      rcases Classical.em (k = pl p) with e | e
      · -- then the line is p's own, and joins p with u
        have d := (dt_par hd hp nr).2.2.2
        rw [← e, pu] at d
        have o1 := oe_of (hg.2 k pk).2.2.2 (jn_s d)
        rcases j with ⟨j1, j2⟩ | ⟨j1, j2⟩
        · rcases d with ⟨d1, d2⟩ | ⟨d1, d2⟩
          · exact ha.2 (j1.symm.trans d1)
          · exact hb.2 (j2.symm.trans d2)
        · rcases d with ⟨d1, d2⟩ | ⟨d1, d2⟩
          · exact hb.2 (j1.symm.trans d1)
          · exact ha.2 (j2.symm.trans d2)
      · have := dt_out hg hd ha.1 pk j h1 h2 (Or.inr e)
        omega
  exact ⟨key _ _ (Or.inl ⟨rfl, rfl⟩) va vb, key _ _ (Or.inr ⟨rfl, rfl⟩) vb va⟩
theorem dt_child (hd : dr_ n P A B num wp par pl low) {p : Nat} (hp : p < n) (nr : par p ≠ p) : gc A B P (fun x => x < n) (par p) p := by
  obtain ⟨a, _, b, c⟩ := dt_par hd hp nr
  exact jn_gc b a hp c
theorem dt_tree (hd : dr_ n P A B num wp par pl low) {S : Nat → Prop} {u v : Nat} (h : an_ par u v) (hv : v < n) (hS : ∀ z, an_ par u z → an_ par z v → S z) : gc A B P S u v :=
  dt_path hd h hv (fun _ hz a1 _ nz => (dt_par hd hz (dt_st a1 (fun e => nz e.symm)).1).2.2.1) hS
/-- below u, which child -/
theorem dt_below (hd : dr_ n P A B num wp par pl low) {u x : Nat} (h : an_ par u x) (ne : x ≠ u) (hx : x < n) : ∃ p, p < n ∧ par p = u ∧ p ≠ u ∧ an_ par p x := by
  obtain ⟨i, e⟩ := h
  induction i generalizing x with
  | zero => exact absurd e ne
  | succ i ih =>
    have e' : up_ par i (par x) = u := e
    rcases Classical.em (par x = u) with z | z
    · exact ⟨x, hx, z, ne, an_r x⟩
    · rcases Classical.em (par x = x) with y | y
      · rw [y] at e'
        exact ih ne hx e'
      · obtain ⟨p, a, b, c, d⟩ := ih z (dt_par hd hx y).1 e'
        exact ⟨p, a, b, c, an_t d (an_p x)⟩
theorem dt_hinges (hg : gr_ n P A B) (hd : dr_ n P A B num wp par pl low) (u : Nat) : sp_hi A B P (fun x => x < n) u ↔ (∃ p, p < n ∧ par p ≠ p ∧ par (par p) ≠ par p ∧ num (par p) ≤ low p ∧ u = par p) ∨ (u < n ∧ par u = u ∧ ∃ p q, p < n ∧ q < n ∧ p ≠ q ∧ (par p ≠ p ∧ par p = u) ∧ (par q ≠ q ∧ par q = u)) := by
  constructor
  · rintro ⟨un, x, y, hx, hy, g, ng⟩
    apply Classical.byContradiction
    intro no
    apply ng
    rcases Classical.em (par u = u) with ru | ru
    · -- a root with at most one child
      rcases Classical.em (an_ par u x) with ax | ax
      · have ay := dt_same hd ru g ax
        obtain ⟨p, hp, pu, np, apx⟩ := dt_below hd ax hx.2 hx.1
        obtain ⟨q, hq, qu, nq, aqy⟩ := dt_below hd ay hy.2 hy.1
        have e : p = q := Classical.byContradiction fun ne => no (Or.inr ⟨un, ru, p, q, hp, hq, ne, ⟨fun e => np (e.symm.trans pu), pu⟩, ⟨fun e => nq (e.symm.trans qu), qu⟩⟩)
        subst e
        have w : ∀ z v, an_ par p z → an_ par z v → v < n → z < n ∧ z ≠ u := fun z v a b hv => ⟨dt_lt hd b hv, fun e => np (an_root ru (e ▸ a))⟩
        exact gc_t (gc_s (dt_tree hd apx hx.1 fun z a b => w z x a b hx.1)) (dt_tree hd aqy hy.1 fun z a b => w z y a b hy.1)
      · obtain ⟨r, hr, rr, ar⟩ := dt_root hd hx.1
        have ar' := dt_same hd rr g ar
        have w : ∀ z v, an_ par r z → an_ par z v → v < n → z < n ∧ z ≠ u := fun z v a b hv => ⟨dt_lt hd b hv, fun e => by
          subst e
          have := an_root ru a
          subst this
          exact ax ar⟩
        exact gc_t (gc_s (dt_tree hd ar hx.1 fun z a b => w z x a b hx.1)) (dt_tree hd ar' hy.1 fun z a b => w z y a b hy.1)
    · have key : ∀ x, (x < n ∧ x ≠ u) → ∀ r, par r = r → an_ par r x → gc A B P (fun x => x < n ∧ x ≠ u) r x := by
        have away : ∀ x, (x < n ∧ x ≠ u) → ¬ an_ par u x → ∀ r, par r = r → an_ par r x → gc A B P (fun x => x < n ∧ x ≠ u) r x := fun x hx nu r rr ar => dt_tree hd ar hx.1 fun z a b => ⟨dt_lt hd b hx.1, fun e => nu (e ▸ b)⟩
        intro x hx r rr ar
        rcases Classical.em (an_ par u x) with ax | ax
        · obtain ⟨p, hp, pu, np, apx⟩ := dt_below hd ax hx.2 hx.1
          have nrp : par p ≠ p := fun e => np (e.symm.trans pu)
          have lt : low p < num u := Nat.lt_of_not_le fun z => no (Or.inl ⟨p, hp, nrp, by rw [pu]; exact ru, by rw [pu]; exact z, pu.symm⟩)
          have lp := (dt_par hd hp nrp).2.1
          rw [pu] at lp
          obtain ⟨x', y', k, hx', hy', a, b, pk, j, nk, e⟩ := dt_att hg hd hp (by omega)
          obtain ⟨ay, ny⟩ := dt_leave hd pk j a b
          have ay' := (dt_st ay ny).2
          rw [pu] at ay'
          have nyu : y' ≠ u := fun e' => by rw [e'] at e; omega
          have nuy : ¬ an_ par u y' := fun z => nyu (dt_anti hd ay' z un)
          have w : ∀ z v, an_ par p z → an_ par z v → v < n → z < n ∧ z ≠ u := fun z v a b hv => ⟨dt_lt hd b hv, fun e => by
            subst e
            have := dt_nu hd a (dt_lt hd b hv)
            omega⟩
          have g1 := dt_tree (S := fun x => x < n ∧ x ≠ u) hd apx hx.1 fun z a b => w z x a b hx.1
          have g2 := dt_tree (S := fun x => x < n ∧ x ≠ u) hd a hx' fun z a b => w z x' a b hx'
          have g3 : gc A B P (fun x => x < n ∧ x ≠ u) x' y' := jn_gc pk (w x' x' a (an_r _) hx') ⟨hy', nyu⟩ j
          have ry : an_ par r y' := by
            rcases an_cmp (an_t ay' ax) ar with z | z
            · have := an_root rr z
              subst this; exact an_r _
            · exact z
          have g4 := away y' ⟨hy', nyu⟩ nuy r rr ry
          exact gc_t g4 (gc_t (gc_s g3) (gc_t (gc_s g2) g1))
        · exact away x hx ax r rr ar
      obtain ⟨r, hr, rr, ar⟩ := dt_root hd hx.1
      exact gc_t (gc_s (key x hx r rr ar)) (key y hy r rr (dt_same hd rr g ar))
  · rintro (⟨p, hp, nr, nru, l, rfl⟩ | ⟨un, ru, p, q, hp, hq, ne, ⟨np, pu⟩, ⟨nq, qu⟩⟩)
    · have a := dt_par hd hp nr
      have b := dt_par hd a.1 nru
      refine ⟨a.1, p, par (par p), ⟨hp, fun e => nr e.symm⟩, ⟨b.1, nru⟩, gc_t (gc_s (dt_child hd hp nr)) (gc_s (dt_child hd a.1 nru)), dt_hang hg hd hp rfl (fun e => nr e.symm) (Or.inr l) fun z => ?_⟩
      have := dt_nu hd z b.1
      omega
    · refine ⟨un, p, q, ⟨hp, fun e => np (pu.trans e.symm)⟩, ⟨hq, fun e => nq (qu.trans e.symm)⟩, gc_t (gc_s (dt_child hd hp np)) ?_, dt_hang hg hd hp pu (fun e => np (pu.trans e.symm)) (Or.inl ru) fun z => ?_⟩
      · rw [pu, ← qu]; exact dt_child hd hq nq
      · have := (dt_st z ne).2
        rw [qu] at this
        have := an_root ru this
        exact np (pu.trans this.symm)
end
end
section
/-! ===== engine 0 ===== -/
theorem m1_nI {c : Nat} (h : c < 2 ^ 31) : ¬ (-1 : Int32) = nI c := by
  intro z
  have : (-1 : Int32).toInt = (nI c).toInt := by rw [z]
  rw [nI_toInt h, show (-1 : Int32).toInt = -1 from by decide] at this
  omega
section
variable {n : Nat} {P : Nat → Prop} {A B num wp par pl low : Nat → Nat}
variable {f_present : Int32} {f_groupCount : Int32} {f_bridgeSet : Int32} {f_hingeSet : Int32} {f_walked : Int32} {a_endA : Nat → Int32} {a_endB : Nat → Int32} {a_number : Nat → Int32} {a_walkPoint : Nat → Int32} {a_parent : Nat → Int32} {a_parentLine : Nat → Int32} {a_lowest : Nat → Int32} {a_nextLine : Nat → Int32} {a_stack : Nat → Int32} {a_marked : Nat → Int32} {a_pointRoot : Nat → Int32} {a_lineRoot : Nat → Int32} {a_between : Nat → Int32} {a_melted : Nat → Int32} {a_pull : Nat → Int32} {a_left : Nat → Int32} {a_cameFrom : Nat → Int32} {a_queue : Nat → Int32} {a_matrix : Nat → Int64} {a_dist : Nat → Int32}
theorem ra_neg (hr : ra_ n num wp par pl low a_number a_walkPoint a_parent a_parentLine a_lowest) (hd : dr_ n P A B num wp par pl low) (n8 : n ≤ 8) {x : Nat} (hx : x < n) : a_parent x < 0 ↔ par x = x := by
  rcases (hr.1 x hx).2.1 with ⟨a, b, _⟩ | ⟨a, b, _⟩
  · rw [b]; exact ⟨fun _ => a, fun _ => by decide⟩
  · rw [b]
    have := (dt_par hd hx a).1
    exact ⟨fun z => absurd z (nI_pos (by omega)), fun z => absurd z a⟩
theorem xc_loop (hr : ra_ n num wp par pl low a_number a_walkPoint a_parent a_parentLine a_lowest) (hd : dr_ n P A B num wp par pl low) (n8 : n ≤ 8) {p : Nat} (hp : p < n) {post : Int32 → Prop} (h : post (nI (ct_n (fun q => par q ≠ q ∧ par q = p) n))) :
    ∀ d q, q + d = n → wX_childrenOf_4 post (nI p) (nI n) f_present f_groupCount f_bridgeSet f_hingeSet f_walked a_endA a_endB a_number a_walkPoint a_parent a_parentLine a_lowest a_nextLine a_stack a_marked a_pointRoot a_lineRoot a_between a_melted a_pull a_left a_cameFrom a_queue a_matrix a_dist (d + 1) (nI (ct_n (fun q => par q ≠ q ∧ par q = p) q)) (nI q)
  | 0, q, hq => by
    have e : q = n := by omega
    subst e
    exact br_t (nI_le (Nat.le_refl _) (by omega)) h
  | d + 1, q, hq => by
    have hqn : q < n := by omega
    have C : (nI q).toNatClampNeg = q := nI_clamp (by omega)
    refine br_f (nI_ge hqn (by omega)) ⟨vp_in_nI (by omega) (by decide), ?_⟩
    rw [C]
    have key : a_parent q = nI p ↔ (par q ≠ q ∧ par q = p) := by
      rcases (hr.1 q hqn).2.1 with ⟨a, b, _⟩ | ⟨a, b, _⟩
      · rw [b]; exact ⟨fun z => absurd z (m1_nI (by omega)), fun z => absurd a z.1⟩
      · have := (dt_par hd hqn a).1
        rw [b, nI_eq (by omega) (by omega)]; exact ⟨fun z => ⟨a, z⟩, fun z => z.2⟩
    refine br_c (fun z => nm_r ((nI_1 _).trans (congrArg nI ?_)) (nm_r (nI_1 q) (xc_loop hr hd n8 hp h d (q + 1) (by omega)))) (fun z => nm_r ((Int32.add_zero _).trans (congrArg nI ?_)) (nm_r (nI_1 q) (xc_loop hr hd n8 hp h d (q + 1) (by omega))))
    · show _ = _ + ct_b _
      rw [ct_bt (key.mp z)]
    · show _ = _ + ct_b _
      rw [ct_bf (fun y => z (key.mpr y))]; rfl
theorem xc_ (hr : ra_ n num wp par pl low a_number a_walkPoint a_parent a_parentLine a_lowest) (hd : dr_ n P A B num wp par pl low) (n8 : n ≤ 8) {p : Nat} (hp : p < n) {post : Int32 → Prop} (h : post (nI (ct_n (fun q => par q ≠ q ∧ par q = p) n))) : wpX_childrenOf post (nI n, f_present, f_groupCount, f_bridgeSet, f_hingeSet, f_walked, a_endA, a_endB, a_number, a_walkPoint, a_parent, a_parentLine, a_lowest, a_nextLine, a_stack, a_marked, a_pointRoot, a_lineRoot, a_between, a_melted, a_pull, a_left, a_cameFrom, a_queue, a_matrix, a_dist) (nI p) :=
  ⟨n + 1, xc_loop hr hd n8 hp h n 0 (by omega)⟩
end
section
variable {n : Nat} {P : Nat → Prop} {A B num wp par pl low : Nat → Nat}
variable {f_present : Int32} {f_groupCount : Int32} {f_walked : Int32} {a_endA : Nat → Int32} {a_endB : Nat → Int32} {a_number : Nat → Int32} {a_walkPoint : Nat → Int32} {a_parent : Nat → Int32} {a_parentLine : Nat → Int32} {a_lowest : Nat → Int32} {a_nextLine : Nat → Int32} {a_stack : Nat → Int32} {a_marked : Nat → Int32} {a_pointRoot : Nat → Int32} {a_lineRoot : Nat → Int32} {a_between : Nat → Int32} {a_melted : Nat → Int32} {a_pull : Nat → Int32} {a_left : Nat → Int32} {a_cameFrom : Nat → Int32} {a_queue : Nat → Int32} {a_matrix : Nat → Int64} {a_dist : Nat → Int32}
theorem xl_119 (hr : ra_ n num wp par pl low a_number a_walkPoint a_parent a_parentLine a_lowest) (hd : dr_ n P A B num wp par pl low) (n8 : n ≤ 8) {f_bridgeSet : Int32} {Q : Nat → Prop} {post : SX → Prop} (h : ∀ f_hingeSet, (∀ v, v < 32 → (bt f_hingeSet v = true ↔ Q v ∨ (v < n ∧ par v = v ∧ 2 ≤ ct_n (fun q => par q ≠ q ∧ par q = v) n))) → post (nI n, f_present, f_groupCount, f_bridgeSet, f_hingeSet, f_walked, a_endA, a_endB, a_number, a_walkPoint, a_parent, a_parentLine, a_lowest, a_nextLine, a_stack, a_marked, a_pointRoot, a_lineRoot, a_between, a_melted, a_pull, a_left, a_cameFrom, a_queue, a_matrix, a_dist)) :
    ∀ d k f_hingeSet, k + d = n → (∀ v, v < 32 → (bt f_hingeSet v = true ↔ Q v ∨ (v < k ∧ par v = v ∧ 2 ≤ ct_n (fun q => par q ≠ q ∧ par q = v) n))) → wX_solveByLowest_119 post (nI n) f_present f_groupCount f_bridgeSet f_walked a_endA a_endB a_number a_walkPoint a_parent a_parentLine a_lowest a_nextLine a_stack a_marked a_pointRoot a_lineRoot a_between a_melted a_pull a_left a_cameFrom a_queue a_matrix a_dist (d + 1) (nI k) f_hingeSet
  | 0, k, f_hingeSet, hk, I => by
    have e : k = n := by omega
    subst e
    exact br_t (nI_le (Nat.le_refl _) (by omega)) (h _ I)
  | d + 1, k, f_hingeSet, hk, I => by
    have hkn : k < n := by omega
    have C : (nI k).toNatClampNeg = k := nI_clamp (by omega)
    have no : ¬ (par k = k ∧ 2 ≤ ct_n (fun q => par q ≠ q ∧ par q = k) n) → wX_solveByLowest_119 post (nI n) f_present f_groupCount f_bridgeSet f_walked a_endA a_endB a_number a_walkPoint a_parent a_parentLine a_lowest a_nextLine a_stack a_marked a_pointRoot a_lineRoot a_between a_melted a_pull a_left a_cameFrom a_queue a_matrix a_dist (d + 1) (nI (k + 1)) f_hingeSet := by
      intro z
      refine xl_119 hr hd n8 h d (k + 1) _ (by omega) fun v hv => ?_
      rw [I v hv]
      refine ⟨fun y => y.elim Or.inl (fun y => Or.inr ⟨by omega, y.2⟩), fun y => y.elim Or.inl (fun y => ?_)⟩
      rcases Nat.lt_or_ge v k with w | w
      · exact Or.inr ⟨w, y.2⟩
      · have e : v = k := by omega
        subst e; exact absurd y.2 z
    refine br_f (nI_ge hkn (by omega)) ⟨vp_in_nI (by omega) (by decide), ?_⟩
    rw [C]
    have neg := ra_neg hr hd n8 hkn
    refine br_c (fun z => nm_r (bb_or0 _) (nm_r (nI_1 k) (no fun y => absurd (neg.mpr y.1) (Int32.not_lt.mpr z)))) (fun z => xc_ hr hd n8 hkn ?_)
    have rk : par k = k := neg.mp (Int32.not_le.mp z)
    have cl : ct_n (fun q => par q ≠ q ∧ par q = k) n < 2 ^ 31 := Nat.lt_of_le_of_lt (ct_le _ _) (by omega)
    refine pk_le _ 1 (fun y => nm_r (bb_or0 _) (nm_r (nI_1 k) (no fun w => by omega))) (fun y => nm_e (nm_r (nI_1 k) (xl_119 hr hd n8 h d (k + 1) _ (by omega) fun v hv => ?_))) rfl rfl cl
    rw [bb_or1 rfl (by omega) hv, I v hv]
    constructor
    · rintro ((q | q) | rfl)
      · exact Or.inl q
      · exact Or.inr ⟨by omega, q.2⟩
      · exact Or.inr ⟨by omega, rk, by omega⟩
    · rintro (q | q)
      · exact Or.inl (Or.inl q)
      · rcases Nat.lt_or_ge v k with w | w
        · exact Or.inl (Or.inr ⟨w, q.2⟩)
        · exact Or.inr (by omega)
theorem xl_67 (hr : ra_ n num wp par pl low a_number a_walkPoint a_parent a_parentLine a_lowest) (hd : dr_ n P A B num wp par pl low) (n8 : n ≤ 8) {f_bridgeSet f_hingeSet z0 z1 : Int32} {post : SX → Prop} {J : Int32 → Int32 → Int32 → Prop} {k : Nat} (hk : k < n) (nr : par k ≠ k)
    (h : ∀ h', (∀ v, v < 32 → (bt h' v = true ↔ bt f_hingeSet v = true ∨ (par (par k) ≠ par k ∧ num (par k) ≤ low k ∧ v = par k))) → J (nI (k + 1)) (z1 ||| z0) h') : wX_solveByLowest_67 post J (nI k) (nI (par k)) z0 z1 (nI n) f_present f_groupCount f_bridgeSet f_hingeSet f_walked a_endA a_endB a_number a_walkPoint a_parent a_parentLine a_lowest a_nextLine a_stack a_marked a_pointRoot a_lineRoot a_between a_melted a_pull a_left a_cameFrom a_queue a_matrix a_dist := by
  obtain ⟨pn, _, _, _⟩ := dt_par hd hk nr
  have C : (nI k).toNatClampNeg = k := nI_clamp (by omega)
  have D : (nI (par k)).toNatClampNeg = par k := nI_clamp (by omega)
  have neg := ra_neg hr hd n8 pn
  have a := (hr.1 _ hk).2.2
  have b := (hr.1 _ pn).1
  have la : low k < 8 := by have := hd.2.2.2.1.1 k hk; have := (hd.1.2.2.1 k hk).1; omega
  have lb : num (par k) < 8 := by have := (hd.1.2.2.1 _ pn).1; omega
  refine nm_e (And.intro (vp_in_nI (by omega) (by decide)) ?_)
  rw [C, D]
  refine br_c (fun z => nm_r (bb_or0 _) (nm_r (nI_1 k) (h _ fun v hv => ⟨Or.inl, fun y => y.elim id (fun w => absurd (neg.mp z) w.1)⟩))) (fun z => ⟨vp_in_nI (by omega) (by decide), vp_in_nI (by omega) (by decide), pk_lt (low k) (num (par k)) (fun y => nm_r (bb_or0 _) (nm_r (nI_1 k) (h _ fun v hv => ⟨Or.inl, fun w => w.elim id (fun w => by omega)⟩))) (fun y => nm_e (nm_r (nI_1 k) (h _ fun v hv => ?_))) a b⟩)
  rw [bb_or1 rfl (by omega) hv]
  exact ⟨fun w => w.elim Or.inl (fun w => Or.inr ⟨fun q => z (neg.mpr q), y, w⟩), fun w => w.elim Or.inl (fun w => Or.inr w.2.2)⟩
theorem xl_16 (hX : xg_ n P A B f_present a_endA a_endB) (hr : ra_ n num wp par pl low a_number a_walkPoint a_parent a_parentLine a_lowest) (hd : dr_ n P A B num wp par pl low) {post : SX → Prop} (h : ∀ f_bridgeSet f_hingeSet, (∀ v, bt f_bridgeSet v = true ↔ sp_br A B P (fun x => x < n) v) → (∀ v, bt f_hingeSet v = true ↔ sp_hi A B P (fun x => x < n) v) → post (nI n, f_present, f_groupCount, f_bridgeSet, f_hingeSet, f_walked, a_endA, a_endB, a_number, a_walkPoint, a_parent, a_parentLine, a_lowest, a_nextLine, a_stack, a_marked, a_pointRoot, a_lineRoot, a_between, a_melted, a_pull, a_left, a_cameFrom, a_queue, a_matrix, a_dist)) :
    ∀ d k f_bridgeSet f_hingeSet, k + d = n → (∀ v, v < 32 → (bt f_bridgeSet v = true ↔ ∃ x, x < k ∧ par x ≠ x ∧ low x = num x ∧ v = pl x)) → (∀ v, v < 32 → (bt f_hingeSet v = true ↔ ∃ p, p < k ∧ par p ≠ p ∧ par (par p) ≠ par p ∧ num (par p) ≤ low p ∧ v = par p)) →
    wX_solveByLowest_16 post (nI n) f_present f_groupCount f_walked a_endA a_endB a_number a_walkPoint a_parent a_parentLine a_lowest a_nextLine a_stack a_marked a_pointRoot a_lineRoot a_between a_melted a_pull a_left a_cameFrom a_queue a_matrix a_dist (d + 1) (nI k) f_bridgeSet f_hingeSet
  | 0, k, f_bridgeSet, f_hingeSet, hk, I, J => by
    have e : k = n := by omega
    subst e
    have n8 := hX.1.1.2
    refine br_t (nI_le (Nat.le_refl _) (by omega)) ⟨k + 1, xl_119 hr hd n8 (Q := fun v => ∃ p, p < k ∧ par p ≠ p ∧ par (par p) ≠ par p ∧ num (par p) ≤ low p ∧ v = par p) (fun f_hingeSet H => h _ _ (fun v => ?_) (fun v => ?_)) k 0 f_hingeSet (by omega) (fun v hv => ?_)⟩
    · rw [dt_bridges hX.1 hd v]
      rcases Nat.lt_or_ge v 32 with z | z
      · exact I v z
      · refine ⟨fun q => absurd (bb_lt q) (by omega), fun ⟨x, q1, q2, q3, q4⟩ => ?_⟩
        have := (hX.1.2 _ (dt_par hd q1 q2).2.2.1).1
        omega
    · rw [dt_hinges hX.1 hd v]
      have two : (v < k ∧ par v = v ∧ 2 ≤ ct_n (fun q => par q ≠ q ∧ par q = v) k) ↔ (v < k ∧ par v = v ∧ ∃ p q, p < k ∧ q < k ∧ p ≠ q ∧ (par p ≠ p ∧ par p = v) ∧ (par q ≠ q ∧ par q = v)) := by
        refine ⟨fun ⟨a, b, c⟩ => ⟨a, b, ?_⟩, fun ⟨a, b, p, q, hp, hq, ne, c, d⟩ => ⟨a, b, ct_two' ne hp hq c d⟩⟩
        obtain ⟨i, j, hij, hj, p, q⟩ := ct_two c
        exact ⟨i, j, by omega, hj, by omega, p, q⟩
      rw [← two]
      rcases Nat.lt_or_ge v 32 with z | z
      · exact H v z
      · refine ⟨fun q => absurd (bb_lt q) (by omega), fun q => ?_⟩
        rcases q with ⟨p, q1, q2, _, _, q4⟩ | q
        · have := (dt_par hd q1 q2).1
          omega
        · omega
    · rw [J v hv]
      exact ⟨Or.inl, fun z => z.elim id (fun y => by omega)⟩
  | d + 1, k, f_bridgeSet, f_hingeSet, hk, I, J => by
    have n8 := hX.1.1.2
    have hkn : k < n := by omega
    have C : (nI k).toNatClampNeg = k := nI_clamp (by omega)
    have neg := ra_neg hr hd n8 hkn
    refine br_f (nI_ge hkn (by omega)) ⟨vp_in_nI (by omega) (by decide), ?_⟩
    rw [C]
    refine nm_e (br_c (fun z => nm_r (nI_1 k) ?_) (fun z => ⟨vp_in_nI (by omega) (by decide), vp_in_nI (by omega) (by decide), ?_⟩))
    · have rk := neg.mp z
      refine xl_16 hX hr hd h d (k + 1) _ _ (by omega) (fun v hv => ?_) (fun v hv => ?_)
      · rw [I v hv]
        refine ⟨fun ⟨x, q⟩ => ⟨x, by omega, q.2⟩, fun ⟨x, q⟩ => ?_⟩
        rcases Nat.lt_or_ge x k with w | w
        · exact ⟨x, w, q.2⟩
        · have e : x = k := by omega
          subst e; exact absurd rk q.2.1
      · rw [J v hv]
        refine ⟨fun ⟨x, q⟩ => ⟨x, by omega, q.2⟩, fun ⟨x, q⟩ => ?_⟩
        rcases Nat.lt_or_ge x k with w | w
        · exact ⟨x, w, q.2⟩
        · have e : x = k := by omega
          subst e; exact absurd rk q.2.1
    · have nr : par k ≠ k := fun e => z (neg.mpr e)
      rcases (hr.1 k hkn).2.1 with ⟨q, _⟩ | ⟨_, pa, pla⟩
      · exact absurd q nr
      · rw [pa, pla, (hr.1 k hkn).1, (hr.1 k hkn).2.2]
        have pk16 := (hX.1.2 _ (dt_par hd hkn nr).2.2.1).1
        have la : low k < 8 := by have := hd.2.2.2.1.1 k hkn; have := (hd.1.2.2.1 k hkn).1; omega
        have lb : num k < 8 := by have := (hd.1.2.2.1 _ hkn).1; omega
        have go : ∀ z0, (∀ v, v < 32 → (bt z0 v = true ↔ low k = num k ∧ v = pl k)) → wX_solveByLowest_67 post (wX_solveByLowest_16 post (nI n) f_present f_groupCount f_walked a_endA a_endB a_number a_walkPoint a_parent a_parentLine a_lowest a_nextLine a_stack a_marked a_pointRoot a_lineRoot a_between a_melted a_pull a_left a_cameFrom a_queue a_matrix a_dist (d + 1)) (nI k) (nI (par k)) z0 f_bridgeSet (nI n) f_present f_groupCount f_bridgeSet f_hingeSet f_walked a_endA a_endB a_number a_walkPoint a_parent a_parentLine a_lowest a_nextLine a_stack a_marked a_pointRoot a_lineRoot a_between a_melted a_pull a_left a_cameFrom a_queue a_matrix a_dist := by
          intro z0 hz
          refine xl_67 hr hd n8 hkn nr (fun h' H => xl_16 hX hr hd h d (k + 1) _ _ (by omega) (fun v hv => ?_) (fun v hv => ?_))
          · rw [bb_or, I v hv, hz v hv]
            constructor
            · rintro (⟨x, q⟩ | q)
              · exact ⟨x, by omega, q.2⟩
              · exact ⟨k, by omega, nr, q⟩
            · rintro ⟨x, q⟩
              rcases Nat.lt_or_ge x k with w | w
              · exact Or.inl ⟨x, w, q.2⟩
              · have e : x = k := by omega
                subst e; exact Or.inr q.2.2
          · rw [H v hv, J v hv]
            constructor
            · rintro (⟨x, q⟩ | q)
              · exact ⟨x, by omega, q.2⟩
              · exact ⟨k, by omega, nr, q⟩
            · rintro ⟨x, q⟩
              rcases Nat.lt_or_ge x k with w | w
              · exact Or.inl ⟨x, w, q.2⟩
              · have e : x = k := by omega
                subst e; exact Or.inr q.2.2
        refine pk_eq (low k) (num k) (fun e => ⟨vp_in_nI (by omega) (by decide), go _ fun v hv => ?_⟩) (fun e => go 0 fun v hv => ⟨fun q => absurd q (bb_0 v), fun q => absurd q.1 e⟩)
        rw [bb_shl rfl (by omega) hv]
        exact ⟨fun q => ⟨e, q⟩, fun q => q.2⟩
end
section
variable {n : Nat} {P : Nat → Prop} {A B : Nat → Nat}
variable {f_present : Int32} {f_groupCount : Int32} {f_bridgeSet : Int32} {f_hingeSet : Int32} {f_walked : Int32} {a_endA : Nat → Int32} {a_endB : Nat → Int32} {a_number : Nat → Int32} {a_walkPoint : Nat → Int32} {a_parent : Nat → Int32} {a_parentLine : Nat → Int32} {a_lowest : Nat → Int32} {a_nextLine : Nat → Int32} {a_stack : Nat → Int32} {a_marked : Nat → Int32} {a_pointRoot : Nat → Int32} {a_lineRoot : Nat → Int32} {a_between : Nat → Int32} {a_melted : Nat → Int32} {a_pull : Nat → Int32} {a_left : Nat → Int32} {a_cameFrom : Nat → Int32} {a_queue : Nat → Int32} {a_matrix : Nat → Int64} {a_dist : Nat → Int32}
theorem xl_solve (hX : xg_ n P A B f_present a_endA a_endB) {post : SX → Prop}
    (h : ∀ (f_bridgeSet : Int32) (f_hingeSet : Int32) (f_walked : Int32) (a_number : Nat → Int32) (a_walkPoint : Nat → Int32) (a_parent : Nat → Int32) (a_parentLine : Nat → Int32) (a_lowest : Nat → Int32) (a_nextLine : Nat → Int32) (a_stack : Nat → Int32), (∀ v, bt f_bridgeSet v = true ↔ sp_br A B P (fun x => x < n) v) → (∀ v, bt f_hingeSet v = true ↔ sp_hi A B P (fun x => x < n) v) → post (nI n, f_present, nI (gc_c A B P (fun x => x < n)), f_bridgeSet, f_hingeSet, f_walked, a_endA, a_endB, a_number, a_walkPoint, a_parent, a_parentLine, a_lowest, a_nextLine, a_stack, a_marked, a_pointRoot, a_lineRoot, a_between, a_melted, a_pull, a_left, a_cameFrom, a_queue, a_matrix, a_dist)) : wpX_solveByLowest post (nI n, f_present, f_groupCount, f_bridgeSet, f_hingeSet, f_walked, a_endA, a_endB, a_number, a_walkPoint, a_parent, a_parentLine, a_lowest, a_nextLine, a_stack, a_marked, a_pointRoot, a_lineRoot, a_between, a_melted, a_pull, a_left, a_cameFrom, a_queue, a_matrix, a_dist) := by
  unfold wpX_solveByLowest
  dsimp only
  refine xw_all hX fun f_walked a_number a_walkPoint a_parent a_parentLine a_lowest a_nextLine a_stack num wp par pl low hd hr => ⟨n + 1, xl_16 hX hr hd (fun f_bridgeSet f_hingeSet H1 H2 => h _ _ _ _ _ _ _ _ _ _ H1 H2) n 0 0 0 (by omega) (fun v hv => ⟨fun z => absurd z (bb_0 v), fun ⟨x, q⟩ => by omega⟩) (fun v hv => ⟨fun z => absurd z (bb_0 v), fun ⟨x, q⟩ => by omega⟩)⟩
end
end
section
/-! ===== chains that lead back ===== -/
/-- line k leads back to u -/
def ld_ (A B : Nat → Nat) (P : Nat → Prop) (num par pl : Nat → Nat) (k u : Nat) : Prop := tc_ A B P k u ∧ num u < num (oe_ A B k u) ∧ (par (oe_ A B k u) = oe_ A B k u ∨ pl (oe_ A B k u) ≠ k)
def lx_ (a k b l : Nat) : Prop := a < b ∨ (a = b ∧ k < l)
/-- the way of a chain -/
def pt_ (A B par : Nat → Nat) (u k y : Nat) : Prop := an_ par u y ∧ an_ par y (oe_ A B k u)
/-- marked by the chains ahead of (i, k) -/
def mk_ (A B : Nat → Nat) (P : Nat → Prop) (num par pl : Nat → Nat) (i k y : Nat) : Prop := ∃ u j, ld_ A B P num par pl j u ∧ lx_ (num u) j i k ∧ pt_ A B par u j y
/-- taken out by them -/
def tk_ (A B : Nat → Nat) (P : Nat → Prop) (num par pl : Nat → Nat) (i k t : Nat) : Prop := ∃ u j, ld_ A B P num par pl j u ∧ lx_ (num u) j i k ∧ (t = j ∨ ∃ y, pt_ A B par u j y ∧ y ≠ u ∧ t = pl y)
/-- a chain that is a ring -/
def rg_ (A B : Nat → Nat) (P : Nat → Prop) (num par pl : Nat → Nat) (u k : Nat) : Prop := ∀ z, pt_ A B par u k z → z ≠ u → ¬ mk_ A B P num par pl (num u) k z
/-- some ring ahead of (i, k), behind the last root up to i -/
def ay_ (n : Nat) (A B : Nat → Nat) (P : Nat → Prop) (num par pl : Nat → Nat) (i k : Nat) : Prop := ∃ u j, ld_ A B P num par pl j u ∧ lx_ (num u) j i k ∧ rg_ A B P num par pl u j ∧ ∀ z, z < n → par z = z → num z ≤ i → num z ≤ num u
/-- hinges found by the chains ahead of (i, k) -/
def hf_ (n : Nat) (A B : Nat → Nat) (P : Nat → Prop) (num par pl : Nat → Nat) (i k v : Nat) : Prop := ∃ j, ld_ A B P num par pl j v ∧ lx_ (num v) j i k ∧ rg_ A B P num par pl v j ∧ ay_ n A B P num par pl (num v) j
section
variable {n : Nat} {P : Nat → Prop} {A B num wp par pl low : Nat → Nat}
theorem ld_f (hg : gr_ n P A B) (hd : dr_ n P A B num wp par pl low) {k u : Nat} (h : ld_ A B P num par pl k u) : u < n ∧ oe_ A B k u < n ∧ P k ∧ jn_ A B k u (oe_ A B k u) ∧ an_ par u (oe_ A B k u) ∧ u ≠ oe_ A B k u ∧ par (oe_ A B k u) ≠ oe_ A B k u ∧ pl (oe_ A B k u) ≠ k := by
  obtain ⟨t, l, r⟩ := h
  have j := oe_jn t
  have g := hg.2 k t.1
  have b : u < n ∧ oe_ A B k u < n := by
    rcases j with ⟨j1, j2⟩ | ⟨j1, j2⟩
    · rw [← j2]; exact ⟨by rw [← j1]; exact g.2.1, g.2.2.1⟩
    · rw [← j1]; exact ⟨by rw [← j2]; exact g.2.2.1, g.2.1⟩
  have ne : u ≠ oe_ A B k u := fun e => by rw [← e] at l; omega
  have a : an_ par u (oe_ A B k u) := by
    rcases dt_line hd t.1 j with z | z
    · exact z
    · have := dt_nu hd z b.1; omega
  have np := (dt_st a ne).1
  exact ⟨b.1, b.2, t.1, j, a, ne, np, r.resolve_left np⟩
/-- a line that leaves a subtree, not by its own line, leads back -/
theorem ld_out (hg : gr_ n P A B) (hd : dr_ n P A B num wp par pl low) {p x y k : Nat} (hx : x < n) (a : an_ par p x) (b : ¬ an_ par p y) (pk : P k) (j : jn_ A B k x y) (nk : par p = p ∨ k ≠ pl p) : ld_ A B P num par pl k y ∧ oe_ A B k y = x := by
  have o : oe_ A B k y = x := oe_of (hg.2 k pk).2.2.2 (jn_s j)
  obtain ⟨ay, ny⟩ := dt_leave hd pk j a b
  have hp := dt_lt hd a hx
  refine ⟨⟨jn_tc pk (jn_s j), ?_, ?_⟩, o⟩
  · rw [o]
    have := dt_lts hd ay ny hp
    have := dt_nu hd a hx
    omega
  · rw [o]
    rcases Classical.em (par x = x) with z | z
    · exact Or.inl z
    · refine Or.inr fun e => ?_
      have d := dt_par hd hx z
      rw [e] at d
      have oy : y = par x := (oe_of (hg.2 k pk).2.2.2 j).symm.trans (oe_of (hg.2 k pk).2.2.2 (jn_s d.2.2.2))
      rcases an_st a with w | w
      · subst w; exact nk.elim z (fun q => q e.symm)
      · exact b (oy ▸ w)
/-- a chain's line isn't the own line of a point on its way -/
theorem ld_ne (hg : gr_ n P A B) (hd : dr_ n P A B num wp par pl low) {k u x : Nat} (h : ld_ A B P num par pl k u) (hx : x < n) (nr : par x ≠ x) : k ≠ pl x := by
  intro e
  obtain ⟨un, vn, pk, j, a, ne, np, q⟩ := ld_f hg hd h
  obtain ⟨_, l, _, d⟩ := dt_par hd hx nr
  rw [← e] at d
  have o := oe_of (hg.2 k pk).2.2.2 j
  rcases d with ⟨d1, d2⟩ | ⟨d1, d2⟩
  · rcases j with ⟨j1, j2⟩ | ⟨j1, j2⟩
    · have : oe_ A B k u = x := j2.symm.trans d2
      rw [this] at q; exact q e.symm
    · have e1 : u = x := j2.symm.trans d2
      have e2 : oe_ A B k u = par x := j1.symm.trans d1
      have := h.2.1
      rw [e2, e1] at this; omega
  · rcases j with ⟨j1, j2⟩ | ⟨j1, j2⟩
    · have e1 : u = x := j1.symm.trans d1
      have e2 : oe_ A B k u = par x := j2.symm.trans d2
      have := h.2.1
      rw [e2, e1] at this; omega
    · have : oe_ A B k u = x := j1.symm.trans d1
      rw [this] at q; exact q e.symm
theorem ld_cov (hg : gr_ n P A B) (hd : dr_ n P A B num wp par pl low) {x : Nat} (hx : x < n) (nr : par x ≠ x) : (∃ u k, ld_ A B P num par pl k u ∧ pt_ A B par u k x ∧ x ≠ u) ↔ low x < num x := by
  constructor
  · rintro ⟨u, k, h, p, ne⟩
    obtain ⟨un, vn, pk, j, a, _, _, _⟩ := ld_f hg hd h
    have lt := dt_lts hd p.1 (fun e => ne e.symm) hx
    have := dt_out hg hd vn pk (jn_s j) p.2 (fun z => ne (dt_anti hd z p.1 un)) (Or.inr (ld_ne hg hd h hx nr))
    omega
  · intro l
    obtain ⟨x', y, k, hx', hy, a, b, pk, j, nk, e⟩ := dt_att hg hd hx l
    obtain ⟨h, o⟩ := ld_out hg hd hx' a b pk j nk
    obtain ⟨ay, ny⟩ := dt_leave hd pk j a b
    exact ⟨y, k, h, ⟨ay, by rw [o]; exact a⟩, fun e => ny e.symm⟩
/-- what is left of the lines: the bridges -/
theorem ch_br (hg : gr_ n P A B) (hd : dr_ n P A B num wp par pl low) (t : Nat) : (P t ∧ ¬ tk_ A B P num par pl n 0 t) ↔ sp_br A B P (fun x => x < n) t := by
  rw [dt_bridges hg hd t]
  have all : ∀ {u j}, ld_ A B P num par pl j u → lx_ (num u) j n 0 := fun h => Or.inl (hd.1.2.2.1 _ (ld_f hg hd h).1).1
  constructor
  · rintro ⟨pt, nt⟩
    rcases Classical.em (∃ x, x < n ∧ par x ≠ x ∧ t = pl x) with ⟨x, hx, nr, e⟩ | z
    · refine ⟨x, hx, nr, ?_, e⟩
      apply Classical.byContradiction
      intro ne
      have l : low x < num x := by have := hd.2.2.2.1.1 x hx; omega
      obtain ⟨u, k, h, p, nu⟩ := (ld_cov hg hd hx nr).mpr l
      exact nt ⟨u, k, h, all h, Or.inr ⟨x, p, nu, e⟩⟩
    · exfalso
      have g := hg.2 t pt
      have nn : ∀ x, x < n → par x = x ∨ pl x ≠ t := fun x hx => (Classical.em (par x = x)).elim Or.inl (fun q => Or.inr fun e => z ⟨x, hx, q, e.symm⟩)
      have oa : oe_ A B t (A t) = B t := if_pos rfl
      have ob : oe_ A B t (B t) = A t := if_neg g.2.2.2
      rcases hd.2.2.1 t pt with q | q
      · have h : ld_ A B P num par pl t (A t) := ⟨⟨pt, Or.inl rfl⟩, by rw [oa]; exact dt_lts hd q g.2.2.2 g.2.2.1, by rw [oa]; exact nn _ g.2.2.1⟩
        exact nt ⟨_, t, h, all h, Or.inl rfl⟩
      · have h : ld_ A B P num par pl t (B t) := ⟨⟨pt, Or.inr rfl⟩, by rw [ob]; exact dt_lts hd q (fun e => g.2.2.2 e.symm) g.2.1, by rw [ob]; exact nn _ g.2.1⟩
        exact nt ⟨_, t, h, all h, Or.inl rfl⟩
  · rintro ⟨x, hx, nr, e, rfl⟩
    refine ⟨(dt_par hd hx nr).2.2.1, ?_⟩
    rintro ⟨u, j, h, _, r⟩
    rcases r with r | ⟨y, p, ny, r⟩
    · exact ld_ne hg hd h hx nr r.symm
    · have nry := (dt_st p.1 (fun e => ny e.symm)).1
      have hy := dt_lt hd p.2 (ld_f hg hd h).2.1
      have := dt_pl hd hx hy nr nry r
      subst this
      have := (ld_cov hg hd hx nr).mp ⟨u, j, h, p, ny⟩
      omega
/-- hinges beside a bridge -/
theorem ch_side (hg : gr_ n P A B) {u j j' : Nat} (t : tc_ A B P j u) (t' : tc_ A B P j' u) (ne : j' ≠ j) (h : sp_br A B P (fun x => x < n) j) : sp_hi A B P (fun x => x < n) u := by
  have J := oe_jn t
  have J' := oe_jn t'
  have g := hg.2 j t.1
  have g' := hg.2 j' t'.1
  have b : u < n ∧ oe_ A B j u < n ∧ oe_ A B j u ≠ u := by
    rcases J with ⟨j1, j2⟩ | ⟨j1, j2⟩
    · rw [← j2, ← j1]; exact ⟨g.2.1, g.2.2.1, fun e => g.2.2.2 e.symm⟩
    · rw [← j1, ← j2]; exact ⟨g.2.2.1, g.2.1, g.2.2.2⟩
  have b' : oe_ A B j' u < n ∧ oe_ A B j' u ≠ u := by
    rcases J' with ⟨j1, j2⟩ | ⟨j1, j2⟩
    · rw [← j2, ← j1]; exact ⟨g'.2.2.1, fun e => g'.2.2.2 e.symm⟩
    · rw [← j1, ← j2]; exact ⟨g'.2.1, g'.2.2.2⟩
  have nb : ¬ gc A B (fun i => P i ∧ i ≠ j) (fun x => x < n) u (oe_ A B j u) := by
    rcases J with ⟨j1, j2⟩ | ⟨j1, j2⟩
    · rw [← j2, ← j1]; exact h.2
    · rw [← j1, ← j2]; exact fun z => h.2 (gc_s z)
  refine ⟨b.1, oe_ A B j' u, oe_ A B j u, b', ⟨b.2.1, b.2.2⟩, gc_t (gc_s (jn_gc t'.1 b.1 b'.1 J')) (jn_gc t.1 b.1 b.2.1 J), fun z => nb ?_⟩
  refine gc_t (jn_gc (L := fun i => P i ∧ i ≠ j) ⟨t'.1, ne⟩ b.1 b'.1 J') (gc_mono (fun k pk a c => ⟨pk, fun e => ?_⟩) (fun x q => q.1) z)
  subst e
  exact t.2.elim (fun q => a.2 q) (fun q => c.2 q)
/-- a child of u into whose subtree a chain goes: the first such chain is a ring -/
theorem ch_ring (hg : gr_ n P A B) (hd : dr_ n P A B num wp par pl low) {u p : Nat} (hp : p < n) (pu : par p = u) (np : p ≠ u) (h : par u = u ∨ num u ≤ low p) (l : low p < num p) : ∃ k, ld_ A B P num par pl k u ∧ an_ par p (oe_ A B k u) ∧ rg_ A B P num par pl u k := by
  have nr : par p ≠ p := fun e => np (e.symm.trans pu)
  have un : u < n := pu ▸ (dt_par hd hp nr).1
  obtain ⟨x', y, k0, hx', hy, a, b, pk, j, nk, e⟩ := dt_att hg hd hp l
  obtain ⟨h0, o⟩ := ld_out hg hd hx' a b pk j nk
  obtain ⟨ay, ny⟩ := dt_leave hd pk j a b
  have ay' := (dt_st ay ny).2
  rw [pu] at ay'
  have yu : y = u := by
    rcases h with h | h
    · exact an_root h ay'
    · apply Classical.byContradiction
      intro q
      have := dt_lts hd ay' q un
      omega
  subst yu
  obtain ⟨k, ⟨hk, ak⟩, lk⟩ := pk_least (fun k => ld_ A B P num par pl k y ∧ an_ par p (oe_ A B k y)) ⟨k0, h0, by rw [o]; exact a⟩
  refine ⟨k, hk, ak, ?_⟩
  rintro z ⟨z1, z2⟩ nz ⟨u2, k2, h2, x2, y1, y2⟩
  obtain ⟨_, v2, pk2, j2, _, _, _, _⟩ := ld_f hg hd h2
  have vn := (ld_f hg hd hk).2.1
  have zn := dt_lt hd z2 vn
  have apz : an_ par p z := by
    rcases an_cmp ak z2 with q | q
    · exact q
    · rcases Classical.em (z = p) with w | w
      · subst w; exact an_r _
      · have := (dt_st q w).2
        rw [pu] at this
        exact absurd (dt_anti hd this z1 un) nz
  have u2u : an_ par u2 y := by
    rcases an_cmp y1 z1 with q | q
    · exact q
    · have a1 := dt_nu hd q (dt_lt hd y1 zn)
      have : num u2 ≤ num y := by rcases x2 with w | w <;> omega
      have : y = u2 := df_inj (vis := fun x => x < n) hd.1 un (dt_lt hd y1 zn) (by omega)
      subst this; exact an_r _
  rcases Classical.em (u2 = y) with q | q
  · subst q
    have : k2 < k := by rcases x2 with w | w <;> omega
    exact lk k2 this ⟨h2, an_t apz y2⟩
  · have lt := dt_lts hd u2u q un
    rcases h with h | h
    · exact q (an_root h u2u)
    · have := dt_out hg hd v2 pk2 (jn_s j2) (an_t apz y2) (fun w => ?_) (Or.inr (ld_ne hg hd h2 hp nr))
      · omega
      · have := dt_nu hd w (dt_lt hd u2u un)
        have := (dt_par hd hp nr).2.1
        rw [pu] at this
        omega
/-- the hinges by chains are the hinges -/
theorem ch_hi (hg : gr_ n P A B) (hd : dr_ n P A B num wp par pl low) (u : Nat) : (hf_ n A B P num par pl n 0 u ∨ (u < n ∧ (∃ j, tc_ A B P j u ∧ sp_br A B P (fun x => x < n) j) ∧ ∃ j j', j ≠ j' ∧ tc_ A B P j u ∧ tc_ A B P j' u)) ↔ sp_hi A B P (fun x => x < n) u := by
  constructor
  · rintro (⟨k, h, _, r, u', k', h', x', r', nz⟩ | ⟨un, ⟨j, tj, bj⟩, i, i', ne, ti, ti'⟩)
    · obtain ⟨un, vn, pk, J, a, nu, np, q⟩ := ld_f hg hd h
      rw [dt_hinges hg hd u]
      obtain ⟨p, hp, pu, npu, ap⟩ := dt_below hd a (fun e => nu e.symm) vn
      have nrp : par p ≠ p := fun e => npu (e.symm.trans pu)
      have aup : an_ par u p := pu ▸ an_p p
      rcases Classical.em (par u = u) with ru | ru
      · have e := nz u un ru (Nat.le_refl _)
        have e' : u' = u := df_inj (vis := fun x => x < n) hd.1 (ld_f hg hd h').1 un (by rcases x' with w | w <;> omega)
        subst e'
        have kk : k' < k := by rcases x' with w | w <;> omega
        obtain ⟨_, vn', pk', J', a', nu', np', q'⟩ := ld_f hg hd h'
        obtain ⟨p', hp', pu', npu', ap'⟩ := dt_below hd a' (fun e => nu' e.symm) vn'
        have nrp' : par p' ≠ p' := fun e => npu' (e.symm.trans pu')
        refine Or.inr ⟨un, ru, p, p', hp, hp', fun e => ?_, ⟨nrp, pu⟩, ⟨nrp', pu'⟩⟩
        subst e
        exact r p ⟨aup, ap⟩ npu ⟨u', k', h', Or.inr ⟨rfl, kk⟩, aup, ap'⟩
      · refine Or.inl ⟨p, hp, nrp, by rw [pu]; exact ru, ?_, pu.symm⟩
        rw [pu]
        apply Classical.byContradiction
        intro nl
        have lp := (dt_par hd hp nrp).2.1
        rw [pu] at lp
        obtain ⟨x2, y, k2, hx2, hy, a2, b2, pk2, j2, nk2, e2⟩ := dt_att hg hd hp (by omega)
        obtain ⟨h2, o2⟩ := ld_out hg hd hx2 a2 b2 pk2 j2 nk2
        obtain ⟨ay, ny⟩ := dt_leave hd pk2 j2 a2 b2
        exact r p ⟨aup, ap⟩ npu ⟨y, k2, h2, Or.inl (by omega), ay, by rw [o2]; exact a2⟩
    · rcases Classical.em (i = j) with e | e
      · subst e; exact ch_side hg ti ti' (fun z => ne z.symm) bj
      · exact ch_side hg tj ti e bj
  · intro s
    have lt : ∀ {v}, v < n → num v < n := fun h => (hd.1.2.2.1 _ h).1
    have own : ∀ p, p < n → par p ≠ p → low p = num p → ∀ i, i ≠ pl p → tc_ A B P i (par p) → hf_ n A B P num par pl n 0 (par p) ∨ (par p < n ∧ (∃ j, tc_ A B P j (par p) ∧ sp_br A B P (fun x => x < n) j) ∧ ∃ j j', j ≠ j' ∧ tc_ A B P j (par p) ∧ tc_ A B P j' (par p)) := by
      intro p hp nr e i ni ti
      obtain ⟨a, _, b, c⟩ := dt_par hd hp nr
      exact Or.inr ⟨a, ⟨pl p, jn_tc b c, (dt_bridges hg hd _).mpr ⟨p, hp, nr, e, rfl⟩⟩, i, pl p, ni, ti, jn_tc b c⟩
    rw [dt_hinges hg hd u] at s
    rcases s with ⟨p, hp, nr, nru, l, e⟩ | ⟨un, ru, p, q, hp, hq, ne, ⟨nrp, pu⟩, ⟨nrq, qu⟩⟩
    · obtain ⟨un, lpu, pP, pJ⟩ := dt_par hd hp nr
      rw [← e] at nru l un lpu pJ
      obtain ⟨uun, _, uP, uJ⟩ := dt_par hd un nru
      have npu : p ≠ u := fun z => nr (e.symm.trans z.symm)
      have ti : tc_ A B P (pl u) u := jn_tc uP (jn_s uJ)
      have nel : pl u ≠ pl p := fun z => npu (dt_pl hd un hp nru nr z).symm
      rcases Nat.lt_or_ge (low p) (num p) with lp | lp
      · obtain ⟨k, hk, ak, rk⟩ := ch_ring hg hd hp e.symm npu (Or.inr l) lp
        obtain ⟨r, rn, rr, ar, lr⟩ := hd.2.2.2.2 u un
        -- a first chain of this group ahead of (u, k), or none
        rcases Classical.em (∃ m, ∃ v j, ld_ A B P num par pl j v ∧ lx_ (num v) j (num u) k ∧ an_ par r v ∧ m = num v * 16 + j) with z | z
        · obtain ⟨m, ⟨v, j, hv, xv, av, em⟩, lm⟩ := pk_least _ z
          refine Or.inl ⟨k, hk, Or.inl (lt un), rk, v, j, hv, xv, ?_, fun z hz rz lz => Nat.le_trans (lr z hz rz lz) (dt_nu hd av (ld_f hg hd hv).1)⟩
          rintro z ⟨z1, z2⟩ nz ⟨u2, k2, h2, x2, y1, y2⟩
          have j16 := (hg.2 j (ld_f hg hd hv).2.2.1).1
          have k16 := (hg.2 k2 (ld_f hg hd h2).2.2.1).1
          refine lm (num u2 * 16 + k2) (by rcases x2 with w | w <;> omega) ⟨u2, k2, h2, ?_, ?_, rfl⟩
          · rcases x2 with w | w
            · rcases xv with v | v
              · exact Or.inl (by omega)
              · exact Or.inl (by omega)
            · rcases xv with v | v
              · exact Or.inl (by omega)
              · exact Or.inr (by omega)
          · rcases an_cmp y1 (an_t av z1) with w | w
            · have := an_root rr w
              subst this; exact an_r _
            · exact w
        · -- none: u's own line is a bridge
          have eu : low u = num u := by
            apply Classical.byContradiction
            intro q
            have lu : low u < num u := by have := hd.2.2.2.1.1 u un; omega
            obtain ⟨x', y, k2, hx', hy, a, b, pk2, j2, nk2, e2⟩ := dt_att hg hd un lu
            obtain ⟨h2, o2⟩ := ld_out hg hd hx' a b pk2 j2 nk2
            obtain ⟨ay, ny⟩ := dt_leave hd pk2 j2 a b
            refine z ⟨_, y, k2, h2, Or.inl (dt_lts hd ay ny un), ?_, rfl⟩
            rcases an_cmp ay ar with w | w
            · have := an_root rr w
              subst this; exact an_r _
            · exact w
          exact Or.inr ⟨un, ⟨pl u, ti, (dt_bridges hg hd _).mpr ⟨u, un, nru, eu, rfl⟩⟩, pl u, pl p, nel, ti, jn_tc pP pJ⟩
      · have := own p hp nr (by have := hd.2.2.2.1.1 p hp; omega) (pl u) nel (e ▸ ti)
        rw [← e] at this; exact this
    · obtain ⟨_, _, pP, pJ⟩ := dt_par hd hp nrp
      obtain ⟨_, _, qP, qJ⟩ := dt_par hd hq nrq
      have npu : p ≠ u := fun z => nrp (pu.trans z.symm)
      have nqu : q ≠ u := fun z => nrq (qu.trans z.symm)
      have tp : tc_ A B P (pl p) u := by rw [pu] at pJ; exact jn_tc pP pJ
      have tq : tc_ A B P (pl q) u := by rw [qu] at qJ; exact jn_tc qP qJ
      have nel : pl q ≠ pl p := fun z => ne (dt_pl hd hq hp nrq nrp z).symm
      rcases Nat.lt_or_ge (low p) (num p) with lp | lp
      · rcases Nat.lt_or_ge (low q) (num q) with lq | lq
        · obtain ⟨k, hk, ak, rk⟩ := ch_ring hg hd hp pu npu (Or.inl ru) lp
          obtain ⟨k', hk', ak', rk'⟩ := ch_ring hg hd hq qu nqu (Or.inl ru) lq
          have kk : k ≠ k' := fun z => by
            subst z
            rcases an_cmp ak ak' with w | w
            · have := (dt_st w ne).2
              rw [qu] at this
              exact npu (an_root ru this)
            · have := (dt_st w (fun e => ne e.symm)).2
              rw [pu] at this
              exact nqu (an_root ru this)
          have fin : ∀ k k', k < k' → ld_ A B P num par pl k u → rg_ A B P num par pl u k → ld_ A B P num par pl k' u → rg_ A B P num par pl u k' → hf_ n A B P num par pl n 0 u := fun k k' l a b c d => ⟨k', c, Or.inl (lt un), d, u, k, a, Or.inr ⟨rfl, l⟩, b, fun z _ _ h => h⟩
          rcases Nat.lt_or_ge k k' with w | w
          · exact Or.inl (fin k k' w hk rk hk' rk')
          · exact Or.inl (fin k' k (by omega) hk' rk' hk rk)
        · have := own q hq nrq (by have := hd.2.2.2.1.1 q hq; omega) (pl p) (fun z => nel z.symm) (by rw [qu]; exact tp)
          rw [qu] at this; exact this
      · have := own p hp nrp (by have := hd.2.2.2.1.1 p hp; omega) (pl q) nel (by rw [pu]; exact tq)
        rw [pu] at this; exact this
end
end
section
/-! ===== engine 1 ===== -/
theorem bb_nat (x : Int32) : x = nI x.toBitVec.toNat := by
  apply Int32.toBitVec_inj.1
  show x.toBitVec = BitVec.ofNat 32 x.toBitVec.toNat
  simp
theorem bb_two {x : Int32} (h16 : ∀ v, bt x v = true → v < 16) : x &&& (x - 1) = 0 ↔ ¬ ∃ i j, i ≠ j ∧ bt x i = true ∧ bt x j = true := by
  have e := bb_nat x
  have tb : ∀ i, bt x i = x.toBitVec.toNat.testBit i := fun i => rfl
  generalize x.toBitVec.toNat = m at e tb
  have lt : m < 2 ^ 16 := Nat.lt_pow_two_of_testBit m fun i hi => by
    rw [← tb i]
    cases q : bt x i
    · rfl
    · have := h16 i q; omega
  rcases Nat.eq_zero_or_pos m with z | z
  · subst z
    rw [e]
    refine ⟨fun _ => ?_, fun _ => by decide⟩
    rintro ⟨i, j, _, a, _⟩
    rw [← e, tb i, Nat.zero_testBit] at a
    cases a
  · have nz : m ≠ 0 := by omega
    have s : x - 1 = nI (m - 1) := by rw [e]; exact pk_sub (b := 1) z
    rw [s, e]
    have a : nI m &&& nI (m - 1) = nI (m &&& (m - 1)) := by
      apply Int32.toBitVec_inj.1
      show BitVec.ofNat 32 m &&& BitVec.ofNat 32 (m - 1) = BitVec.ofNat 32 (m &&& (m - 1))
      apply BitVec.eq_of_getLsbD_eq
      intro i hi
      simp [hi]
    have le : m &&& (m - 1) ≤ m := Nat.and_le_left
    rw [a, ← nI_0, nI_eq (by omega) (by omega), Nat.and_sub_one_eq_zero_iff_isPowerOfTwo nz]
    constructor
    · rintro ⟨k, hk⟩ ⟨i, j, ne, bi, bj⟩
      rw [← e, tb, hk, Nat.testBit_two_pow, decide_eq_true_iff] at bi
      rw [← e, tb, hk, Nat.testBit_two_pow, decide_eq_true_iff] at bj
      omega
    · intro no
      obtain ⟨k, hk⟩ := Nat.exists_testBit_of_ne_zero nz
      refine ⟨k, Nat.eq_of_testBit_eq fun i => ?_⟩
      rw [Nat.testBit_two_pow]
      rcases Classical.em (k = i) with w | w
      · rw [decide_eq_true w, ← w]; exact hk
      · rw [decide_eq_false w]
        cases q : m.testBit i
        · rfl
        · exact absurd ⟨k, i, w, by rw [← e, tb]; exact hk, by rw [← e, tb]; exact q⟩ no
/-- a boolean array -/
def mr_ (n : Nat) (m : Nat → Prop) (a : Nat → Int32) : Prop := ∀ x, x < n → (m x ∧ a x = 1) ∨ (¬ m x ∧ a x = 0)
theorem mr_br {n : Nat} {m : Nat → Prop} {a : Nat → Int32} (h : mr_ n m a) {x : Nat} (hx : x < n) {X Y : Prop} (f : ¬ m x → X) (g : m x → Y) : (a x = 0 → X) ∧ (¬ a x = 0 → Y) := by
  rcases h x hx with ⟨p, e⟩ | ⟨p, e⟩
  · exact br_f (by rw [e]; decide) (g p)
  · exact br_t e (f p)
theorem mr_put {n : Nat} {m m' : Nat → Prop} {a : Nat → Int32} {y : Nat} (h : mr_ n m a) (e : ∀ x, x < n → (m' x ↔ m x ∨ x = y)) : mr_ n m' (upd a y 1) := by
  intro x hx
  rcases Classical.em (x = y) with z | z
  · subst z; rw [pk_us]; exact Or.inl ⟨(e x hx).mpr (Or.inr rfl), rfl⟩
  · rw [pk_un z]
    rcases h x hx with ⟨p, q⟩ | ⟨p, q⟩
    · exact Or.inl ⟨(e x hx).mpr (Or.inl p), q⟩
    · exact Or.inr ⟨fun w => ((e x hx).mp w).elim p z, q⟩
theorem mr_eqv {n : Nat} {m m' : Nat → Prop} {a : Nat → Int32} (h : mr_ n m a) (e : ∀ x, x < n → (m x ↔ m' x)) : mr_ n m' a := by
  intro x hx
  rcases h x hx with ⟨p, q⟩ | ⟨p, q⟩
  · exact Or.inl ⟨(e x hx).mp p, q⟩
  · exact Or.inr ⟨fun w => p ((e x hx).mpr w), q⟩
section
variable {n : Nat} {P : Nat → Prop} {A B num wp par pl low : Nat → Nat}
theorem ch_mid (hd : dr_ n P A B num wp par pl low) {u k v y : Nat} (un : u < n) (vn : v < n) (h : mk_ A B P num par pl (num u) k v) (a : an_ par u v) (b : an_ par u y) (c : an_ par y v) : mk_ A B P num par pl (num u) k y ∧ (y ≠ u → tk_ A B P num par pl (num u) k (pl y)) := by
  obtain ⟨u', j, h', x', p1, p2⟩ := h
  have hu' := dt_lt hd p1 vn
  have l : num u' ≤ num u := by rcases x' with w | w <;> omega
  have uu : an_ par u' u := by
    rcases an_cmp p1 a with w | w
    · exact w
    · have := dt_nu hd w hu'
      have : u = u' := df_inj (vis := fun x => x < n) hd.1 un hu' (by omega)
      subst this; exact an_r _
  have p : pt_ A B par u' j y := ⟨an_t uu b, an_t c p2⟩
  refine ⟨⟨u', j, h', x', p⟩, fun ny => ⟨u', j, h', x', Or.inr ⟨y, p, fun e => ?_, rfl⟩⟩⟩
  subst e
  exact ny (dt_anti hd uu b un)
/-- the chains ahead of (i, k + 1) -/
theorem lx_s {a j i k : Nat} : lx_ a j i (k + 1) ↔ lx_ a j i k ∨ (a = i ∧ j = k) := by unfold lx_; omega
theorem lx_n {a j i : Nat} (h : j < 16) : lx_ a j i 16 ↔ lx_ a j (i + 1) 0 := by unfold lx_; omega
theorem mk_s (hg : gr_ n P A B) (hd : dr_ n P A B num wp par pl low) {u k : Nat} (un : u < n) (y : Nat) : mk_ A B P num par pl (num u) (k + 1) y ↔ mk_ A B P num par pl (num u) k y ∨ (ld_ A B P num par pl k u ∧ pt_ A B par u k y) := by
  constructor
  · rintro ⟨v, j, h, x, p⟩
    rcases lx_s.mp x with x | ⟨e0, rfl⟩
    · exact Or.inl ⟨v, j, h, x, p⟩
    · have : v = u := df_inj (vis := fun x => x < n) hd.1 (ld_f hg hd h).1 un e0
      subst this; exact Or.inr ⟨h, p⟩
  · rintro (⟨v, j, h, x, p⟩ | ⟨h, p⟩)
    · exact ⟨v, j, h, lx_s.mpr (Or.inl x), p⟩
    · exact ⟨u, k, h, lx_s.mpr (Or.inr ⟨rfl, rfl⟩), p⟩
theorem tk_s (hg : gr_ n P A B) (hd : dr_ n P A B num wp par pl low) {u k : Nat} (un : u < n) (t : Nat) : tk_ A B P num par pl (num u) (k + 1) t ↔ tk_ A B P num par pl (num u) k t ∨ (ld_ A B P num par pl k u ∧ (t = k ∨ ∃ y, pt_ A B par u k y ∧ y ≠ u ∧ t = pl y)) := by
  constructor
  · rintro ⟨v, j, h, x, p⟩
    rcases lx_s.mp x with x | ⟨e0, rfl⟩
    · exact Or.inl ⟨v, j, h, x, p⟩
    · have : v = u := df_inj (vis := fun x => x < n) hd.1 (ld_f hg hd h).1 un e0
      subst this; exact Or.inr ⟨h, p⟩
  · rintro (⟨v, j, h, x, p⟩ | ⟨h, p⟩)
    · exact ⟨v, j, h, lx_s.mpr (Or.inl x), p⟩
    · exact ⟨u, k, h, lx_s.mpr (Or.inr ⟨rfl, rfl⟩), p⟩
theorem hf_s (hg : gr_ n P A B) (hd : dr_ n P A B num wp par pl low) {u k : Nat} (un : u < n) (v : Nat) : hf_ n A B P num par pl (num u) (k + 1) v ↔ hf_ n A B P num par pl (num u) k v ∨ (v = u ∧ ld_ A B P num par pl k u ∧ rg_ A B P num par pl u k ∧ ay_ n A B P num par pl (num u) k) := by
  constructor
  · rintro ⟨j, h, x, p⟩
    rcases lx_s.mp x with x | ⟨e0, rfl⟩
    · exact Or.inl ⟨j, h, x, p⟩
    · have : v = u := df_inj (vis := fun x => x < n) hd.1 (ld_f hg hd h).1 un e0
      subst this; exact Or.inr ⟨rfl, h, p⟩
  · rintro (⟨j, h, x, p⟩ | ⟨rfl, h, p⟩)
    · exact ⟨j, h, lx_s.mpr (Or.inl x), p⟩
    · exact ⟨k, h, lx_s.mpr (Or.inr ⟨rfl, rfl⟩), p⟩
theorem ay_s (hg : gr_ n P A B) (hd : dr_ n P A B num wp par pl low) {u k : Nat} (un : u < n) : ay_ n A B P num par pl (num u) (k + 1) ↔ ay_ n A B P num par pl (num u) k ∨ (ld_ A B P num par pl k u ∧ rg_ A B P num par pl u k) := by
  constructor
  · rintro ⟨v, j, h, x, p⟩
    rcases lx_s.mp x with x | ⟨e0, rfl⟩
    · exact Or.inl ⟨v, j, h, x, p⟩
    · have : v = u := df_inj (vis := fun x => x < n) hd.1 (ld_f hg hd h).1 un e0
      subst this; exact Or.inr ⟨h, p.1⟩
  · rintro (⟨v, j, h, x, p⟩ | ⟨h, p⟩)
    · exact ⟨v, j, h, lx_s.mpr (Or.inl x), p⟩
    · exact ⟨u, k, h, lx_s.mpr (Or.inr ⟨rfl, rfl⟩), p, fun z _ _ q => q⟩
/-- some ring ahead of i, behind the last root ahead of i -/
def aq_ (n : Nat) (A B : Nat → Nat) (P : Nat → Prop) (num par pl : Nat → Nat) (i : Nat) : Prop := ∃ u j, ld_ A B P num par pl j u ∧ lx_ (num u) j i 0 ∧ rg_ A B P num par pl u j ∧ ∀ z, z < n → par z = z → num z < i → num z ≤ num u
theorem aq_next (hg : gr_ n P A B) (hd : dr_ n P A B num wp par pl low) (i : Nat) : aq_ n A B P num par pl (i + 1) ↔ ay_ n A B P num par pl i 16 := by
  constructor
  · rintro ⟨u, j, h, x, r, z⟩
    exact ⟨u, j, h, (lx_n (hg.2 j (ld_f hg hd h).2.2.1).1).mpr x, r, fun y a b c => z y a b (by omega)⟩
  · rintro ⟨u, j, h, x, r, z⟩
    exact ⟨u, j, h, (lx_n (hg.2 j (ld_f hg hd h).2.2.1).1).mp x, r, fun y a b c => z y a b (by omega)⟩
theorem aq_go (hd : dr_ n P A B num wp par pl low) {u : Nat} (un : u < n) (nr : par u ≠ u) : ay_ n A B P num par pl (num u) 0 ↔ aq_ n A B P num par pl (num u) := by
  constructor
  · rintro ⟨v, j, h, x, r, z⟩
    exact ⟨v, j, h, x, r, fun y a b c => z y a b (by omega)⟩
  · rintro ⟨v, j, h, x, r, z⟩
    refine ⟨v, j, h, x, r, fun y a b c => z y a b ?_⟩
    have : num y ≠ num u := fun e => by
      have := df_inj (vis := fun x => x < n) hd.1 a un e
      subst this; exact nr b
    omega
theorem aq_rt {u : Nat} (un : u < n) (r : par u = u) : ¬ ay_ n A B P num par pl (num u) 0 := by
  rintro ⟨v, j, h, x, _, z⟩
  have := z u un r (Nat.le_refl _)
  unfold lx_ at x; omega
theorem xx_next (hg : gr_ n P A B) (hd : dr_ n P A B num wp par pl low) (i : Nat) : (∀ y, mk_ A B P num par pl i 16 y ↔ mk_ A B P num par pl (i + 1) 0 y) ∧ (∀ y, tk_ A B P num par pl i 16 y ↔ tk_ A B P num par pl (i + 1) 0 y) ∧ (∀ y, hf_ n A B P num par pl i 16 y ↔ hf_ n A B P num par pl (i + 1) 0 y) := by
  refine ⟨fun y => ⟨?_, ?_⟩, fun y => ⟨?_, ?_⟩, fun y => ⟨?_, ?_⟩⟩
  · rintro ⟨u, j, h, x, r⟩
    exact ⟨u, j, h, (lx_n (hg.2 j (ld_f hg hd h).2.2.1).1).mp x, r⟩
  · rintro ⟨u, j, h, x, r⟩
    exact ⟨u, j, h, (lx_n (hg.2 j (ld_f hg hd h).2.2.1).1).mpr x, r⟩
  · rintro ⟨u, j, h, x, r⟩
    exact ⟨u, j, h, (lx_n (hg.2 j (ld_f hg hd h).2.2.1).1).mp x, r⟩
  · rintro ⟨u, j, h, x, r⟩
    exact ⟨u, j, h, (lx_n (hg.2 j (ld_f hg hd h).2.2.1).1).mpr x, r⟩
  · rintro ⟨j, h, x, r⟩
    exact ⟨j, h, (lx_n (hg.2 j (ld_f hg hd h).2.2.1).1).mp x, r⟩
  · rintro ⟨j, h, x, r⟩
    exact ⟨j, h, (lx_n (hg.2 j (ld_f hg hd h).2.2.1).1).mpr x, r⟩
end
section
variable {n : Nat} {P : Nat → Prop} {A B num wp par pl low : Nat → Nat}
variable {f_present : Int32} {f_groupCount : Int32} {f_bridgeSet : Int32} {f_hingeSet : Int32} {f_walked : Int32} {a_endA : Nat → Int32} {a_endB : Nat → Int32} {a_number : Nat → Int32} {a_walkPoint : Nat → Int32} {a_parent : Nat → Int32} {a_parentLine : Nat → Int32} {a_lowest : Nat → Int32} {a_nextLine : Nat → Int32} {a_stack : Nat → Int32} {a_marked : Nat → Int32} {a_pointRoot : Nat → Int32} {a_lineRoot : Nat → Int32} {a_between : Nat → Int32} {a_melted : Nat → Int32} {a_pull : Nat → Int32} {a_left : Nat → Int32} {a_cameFrom : Nat → Int32} {a_queue : Nat → Int32} {a_matrix : Nat → Int64} {a_dist : Nat → Int32}
theorem xb_lead (hX : xg_ n P A B f_present a_endA a_endB) (hr : ra_ n num wp par pl low a_number a_walkPoint a_parent a_parentLine a_lowest) (hd : dr_ n P A B num wp par pl low) {k u : Nat} (hk : k < 16) (un : u < n) {post : Int32 → Prop} (h1 : ld_ A B P num par pl k u → post 1) (h0 : ¬ ld_ A B P num par pl k u → post 0) : wpX_leadsBackTo post (nI n, f_present, f_groupCount, f_bridgeSet, f_hingeSet, f_walked, a_endA, a_endB, a_number, a_walkPoint, a_parent, a_parentLine, a_lowest, a_nextLine, a_stack, a_marked, a_pointRoot, a_lineRoot, a_between, a_melted, a_pull, a_left, a_cameFrom, a_queue, a_matrix, a_dist) (nI k) (nI u) := by
  have n8 := hX.1.1.2
  unfold wpX_leadsBackTo
  dsimp only
  refine xt_ hX hk (by omega) (fun t => br_f bb_10 (xo_ hX hk (by omega) ?_)) (fun t => br_t rfl (h0 fun z => t z.1))
  have vn : oe_ A B k u < n := by
    have := hX.1.2 _ t.1
    unfold oe_
    by_cases z : A k = u
    · rw [if_pos z]; exact this.2.2.1
    · rw [if_neg z]; exact this.2.1
  have C : (nI u).toNatClampNeg = u := nI_clamp (by omega)
  have D : (nI (oe_ A B k u)).toNatClampNeg = oe_ A B k u := nI_clamp (by omega)
  refine ⟨vp_in_nI (by omega) (by decide), vp_in_nI (by omega) (by decide), ?_⟩
  rw [C, D]
  have lu := (hd.1.2.2.1 _ un).1
  have lv := (hd.1.2.2.1 _ vn).1
  refine pk_le (num (oe_ A B k u)) (num u) (fun l => h0 fun z => ?_) (fun l => ⟨vp_in_nI (by omega) (by decide), ?_⟩) (hr.1 _ vn).1 (hr.1 _ un).1
  · have := z.2.1; omega
  · rcases (hr.1 _ vn).2.1 with ⟨a, _, b⟩ | ⟨a, _, b⟩
    · rw [b]; exact br_f (m1_nI (by omega)) (h1 ⟨t, l, Or.inl a⟩)
    · have := (hX.1.2 _ (dt_par hd vn a).2.2.1).1
      exact pk_eq (pl (oe_ A B k u)) k (fun e => h0 fun z => z.2.2.elim a (fun q => q e)) (fun e => h1 ⟨t, l, Or.inr e⟩) b rfl
end
section
variable {n : Nat} {P : Nat → Prop} {A B num wp par pl low : Nat → Nat}
variable {f_present : Int32} {f_groupCount : Int32} {f_hingeSet : Int32} {f_walked : Int32} {a_endA : Nat → Int32} {a_endB : Nat → Int32} {a_number : Nat → Int32} {a_walkPoint : Nat → Int32} {a_parent : Nat → Int32} {a_parentLine : Nat → Int32} {a_lowest : Nat → Int32} {a_nextLine : Nat → Int32} {a_stack : Nat → Int32} {a_pointRoot : Nat → Int32} {a_lineRoot : Nat → Int32} {a_between : Nat → Int32} {a_melted : Nat → Int32} {a_pull : Nat → Int32} {a_left : Nat → Int32} {a_cameFrom : Nat → Int32} {a_queue : Nat → Int32} {a_matrix : Nat → Int64} {a_dist : Nat → Int32}
theorem xb_up (hX : xg_ n P A B f_present a_endA a_endB) (hr : ra_ n num wp par pl low a_number a_walkPoint a_parent a_parentLine a_lowest) (hd : dr_ n P A B num wp par pl low) {k u : Nat} (hl : ld_ A B P num par pl k u) {post : Int32 → SX → Prop}
    (h : ∀ r f_bridgeSet a_marked, ((r = 1 ∧ rg_ A B P num par pl u k) ∨ (r = 0 ∧ ¬ rg_ A B P num par pl u k)) → (∀ v, v < 32 → (bt f_bridgeSet v = true ↔ P v ∧ ¬ tk_ A B P num par pl (num u) (k + 1) v)) → mr_ n (mk_ A B P num par pl (num u) (k + 1)) a_marked → post r (nI n, f_present, f_groupCount, f_bridgeSet, f_hingeSet, f_walked, a_endA, a_endB, a_number, a_walkPoint, a_parent, a_parentLine, a_lowest, a_nextLine, a_stack, a_marked, a_pointRoot, a_lineRoot, a_between, a_melted, a_pull, a_left, a_cameFrom, a_queue, a_matrix, a_dist)) :
    ∀ fuel v f_bridgeSet a_marked, num v < fuel → an_ par u v → an_ par v (oe_ A B k u) → (∀ t, t < 32 → (bt f_bridgeSet t = true ↔ (P t ∧ ¬ tk_ A B P num par pl (num u) k t) ∧ t ≠ k ∧ ¬ ∃ z, (an_ par v z ∧ z ≠ v ∧ an_ par z (oe_ A B k u)) ∧ t = pl z)) →
    mr_ n (fun z => mk_ A B P num par pl (num u) k z ∨ z = u ∨ (an_ par v z ∧ z ≠ v ∧ an_ par z (oe_ A B k u))) a_marked → (∀ z, an_ par v z → z ≠ v → an_ par z (oe_ A B k u) → ¬ mk_ A B P num par pl (num u) k z) →
    wX_goUp_28 post (nI u) (nI n) f_present f_groupCount f_hingeSet f_walked fuel (nI v) f_bridgeSet a_endA a_endB a_number a_walkPoint a_parent a_parentLine a_lowest a_nextLine a_stack a_marked a_pointRoot a_lineRoot a_between a_melted a_pull a_left a_cameFrom a_queue a_matrix a_dist := by
  have n8 := hX.1.1.2
  obtain ⟨un, xn, pk, J, a, ne, np, q⟩ := ld_f hX.1 hd hl
  intro fuel
  induction fuel with
  | zero => intro v _ _ z; omega
  | succ fuel ih =>
    intro v f_bridgeSet a_marked hf av ax Ib Im In
    have vn := dt_lt hd ax xn
    have C : (nI v).toNatClampNeg = v := nI_clamp (by omega)
    have i8 : vp_in (nI v) 8 := vp_in_nI (by omega) (by decide)
    refine And.intro i8 ?_
    rw [C]
    refine mr_br Im vn (fun nm => ⟨i8, nm_e ⟨i8, nm_e ⟨i8, nm_e ?_⟩⟩⟩) (fun mv => ?_)
    · have nvu : v ≠ u := fun e => nm (Or.inr (Or.inl e))
      obtain ⟨nr, av'⟩ := dt_st av (fun e => nvu e.symm)
      obtain ⟨pn, pl', pP, pJ⟩ := dt_par hd vn nr
      rcases (hr.1 v vn).2.1 with ⟨z, _⟩ | ⟨_, pa, pla⟩
      · exact absurd z nr
      · rw [pa, pla]
        have p16 := (hX.1.2 _ pP).1
        have grow : ∀ z, (an_ par (par v) z ∧ z ≠ par v ∧ an_ par z (oe_ A B k u)) ↔ (an_ par v z ∧ z ≠ v ∧ an_ par z (oe_ A B k u)) ∨ z = v := by
          intro z
          constructor
          · rintro ⟨z1, z2, z3⟩
            rcases Classical.em (z = v) with w | w
            · exact Or.inr w
            · refine Or.inl ⟨?_, w, z3⟩
              rcases an_cmp z3 ax with y | y
              · exact absurd (dt_anti hd (dt_st y w).2 z1 pn) z2
              · exact y
          · rintro (⟨z1, z2, z3⟩ | rfl)
            · refine ⟨an_t (an_p v) z1, fun e => ?_, z3⟩
              subst e; exact dt_up hd vn nr z1
            · exact ⟨an_p _, fun e => nr e.symm, ax⟩
        refine ih (par v) _ _ (by omega) av' (an_t (an_p v) ax) (fun t ht => ?_) (mr_put (y := v) Im (fun x hx => ?_)) (fun z z1 z2 z3 => ?_)
        · rw [bb_del rfl (by omega) ht, Ib t ht]
          constructor
          · rintro ⟨⟨b1, b2, b3⟩, b4⟩
            refine ⟨b1, b2, fun ⟨z, z1, z2⟩ => ?_⟩
            rcases (grow z).mp z1 with w | w
            · exact b3 ⟨z, w, z2⟩
            · subst w; exact b4 z2
          · rintro ⟨b1, b2, b3⟩
            exact ⟨⟨b1, b2, fun ⟨z, z1, z2⟩ => b3 ⟨z, (grow z).mpr (Or.inl z1), z2⟩⟩, fun e => b3 ⟨v, (grow v).mpr (Or.inr rfl), e⟩⟩
        · rw [grow x]
          constructor
          · rintro (w | w | w | w)
            · exact Or.inl (Or.inl w)
            · exact Or.inl (Or.inr (Or.inl w))
            · exact Or.inl (Or.inr (Or.inr w))
            · exact Or.inr w
          · rintro ((w | w | w) | w)
            · exact Or.inl w
            · exact Or.inr (Or.inl w)
            · exact Or.inr (Or.inr (Or.inl w))
            · exact Or.inr (Or.inr (Or.inr w))
        · rcases (grow z).mp ⟨z1, z2, z3⟩ with w | w
          · exact In z w.1 w.2.1 w.2.2
          · subst w; exact fun q => nm (Or.inl q)
    · have mv' : v = u ∨ mk_ A B P num par pl (num u) k v := by
        rcases mv with w | w | w
        · exact Or.inr w
        · exact Or.inl w
        · exact absurd rfl w.2.1
      -- between u and v all was done by earlier chains
      have mid : ∀ y, an_ par u y → an_ par y v → (mk_ A B P num par pl (num u) k y ∨ y = u) ∧ (y ≠ u → tk_ A B P num par pl (num u) k (pl y)) := by
        intro y y1 y2
        rcases mv' with w | w
        · subst w
          have := dt_anti hd y2 y1 vn
          exact ⟨Or.inr this, fun z => absurd this z⟩
        · have := ch_mid hd un vn w av y1 y2
          exact ⟨Or.inl this.1, this.2⟩
      have side : ∀ y, pt_ A B par u k y → (an_ par v y ∧ y ≠ v ∧ an_ par y (oe_ A B k u)) ∨ an_ par y v := by
        rintro y ⟨y1, y2⟩
        rcases Classical.em (y = v) with w | w
        · subst w; exact Or.inr (an_r _)
        · rcases an_cmp y2 ax with z | z
          · exact Or.inr z
          · exact Or.inl ⟨z, w, y2⟩
      have fb : ∀ t, t < 32 → (bt f_bridgeSet t = true ↔ P t ∧ ¬ tk_ A B P num par pl (num u) (k + 1) t) := by
        intro t ht
        rw [Ib t ht, tk_s hX.1 hd un t]
        constructor
        · rintro ⟨⟨b1, b2⟩, b3, b4⟩
          refine ⟨b1, ?_⟩
          rintro (w | ⟨_, w | ⟨y, y1, y2, y3⟩⟩)
          · exact b2 w
          · exact b3 w
          · rcases side y y1 with z | z
            · exact b4 ⟨y, z, y3⟩
            · exact b2 (y3 ▸ (mid y y1.1 z).2 y2)
        · rintro ⟨b1, b2⟩
          refine ⟨⟨b1, fun w => b2 (Or.inl w)⟩, fun w => b2 (Or.inr ⟨hl, Or.inl w⟩), fun ⟨z, z1, z2⟩ => b2 (Or.inr ⟨hl, Or.inr ⟨z, ⟨an_t av z1.1, z1.2.2⟩, fun e => ?_, z2⟩⟩)⟩
          subst e
          exact z1.2.1 (dt_anti hd av z1.1 vn)
      have fm : mr_ n (mk_ A B P num par pl (num u) (k + 1)) a_marked := by
        refine mr_eqv Im fun y hy => ?_
        rw [mk_s hX.1 hd un y]
        constructor
        · rintro (w | w | w)
          · exact Or.inl w
          · subst w; exact Or.inr ⟨hl, an_r _, a⟩
          · exact Or.inr ⟨hl, an_t av w.1, w.2.2⟩
        · rintro (w | ⟨_, w⟩)
          · exact Or.inl w
          · rcases side y w with z | z
            · exact Or.inr (Or.inr z)
            · exact (mid y w.1 z).1.elim Or.inl (fun q => Or.inr (Or.inl q))
      have hv8 : v < 8 := by omega
      refine pk_eq v u (fun e => h 1 _ _ (Or.inl ⟨rfl, fun z z1 z2 => ?_⟩) fb fm) (fun e => h 0 _ _ (Or.inr ⟨rfl, fun r => ?_⟩) fb fm)
      · subst e; exact In z z1.1 z2 z1.2
      · exact r v ⟨av, ax⟩ e (mv'.resolve_left e)
theorem xb_goUp (hX : xg_ n P A B f_present a_endA a_endB) (hr : ra_ n num wp par pl low a_number a_walkPoint a_parent a_parentLine a_lowest) (hd : dr_ n P A B num wp par pl low) {k u : Nat} (hl : ld_ A B P num par pl k u) {post : Int32 → SX → Prop} {f_bridgeSet : Int32} {a_marked : Nat → Int32}
    (Ib : ∀ v, v < 32 → (bt f_bridgeSet v = true ↔ P v ∧ ¬ tk_ A B P num par pl (num u) k v)) (Im : mr_ n (mk_ A B P num par pl (num u) k) a_marked)
    (h : ∀ r f_bridgeSet a_marked, ((r = 1 ∧ rg_ A B P num par pl u k) ∨ (r = 0 ∧ ¬ rg_ A B P num par pl u k)) → (∀ v, v < 32 → (bt f_bridgeSet v = true ↔ P v ∧ ¬ tk_ A B P num par pl (num u) (k + 1) v)) → mr_ n (mk_ A B P num par pl (num u) (k + 1)) a_marked → post r (nI n, f_present, f_groupCount, f_bridgeSet, f_hingeSet, f_walked, a_endA, a_endB, a_number, a_walkPoint, a_parent, a_parentLine, a_lowest, a_nextLine, a_stack, a_marked, a_pointRoot, a_lineRoot, a_between, a_melted, a_pull, a_left, a_cameFrom, a_queue, a_matrix, a_dist)) : wpX_goUp post (nI n, f_present, f_groupCount, f_bridgeSet, f_hingeSet, f_walked, a_endA, a_endB, a_number, a_walkPoint, a_parent, a_parentLine, a_lowest, a_nextLine, a_stack, a_marked, a_pointRoot, a_lineRoot, a_between, a_melted, a_pull, a_left, a_cameFrom, a_queue, a_matrix, a_dist) (nI k) (nI u) := by
  have n8 := hX.1.1.2
  obtain ⟨un, xn, pk, J, a, ne, np, q⟩ := ld_f hX.1 hd hl
  have k16 := (hX.1.2 _ pk).1
  have C : (nI u).toNatClampNeg = u := nI_clamp (by omega)
  unfold wpX_goUp
  dsimp only
  rw [C]
  have lv := (hd.1.2.2.1 _ xn).1
  refine ⟨vp_in_nI (by omega) (by decide), nm_e (nm_e (xo_ hX k16 (by omega) ⟨9, xb_up hX hr hd hl h 9 _ _ _ (by omega) a (an_r _) (fun t ht => ?_) (mr_put (y := u) Im fun x hx => ?_) (fun z z1 z2 z3 => absurd (dt_anti hd z3 z1 xn) z2)⟩))⟩
  · rw [bb_del rfl (by omega) ht, Ib t ht]
    refine ⟨fun ⟨b1, b2⟩ => ⟨b1, b2, fun ⟨z, z1, _⟩ => z1.2.1 (dt_anti hd z1.2.2 z1.1 xn)⟩, fun ⟨b1, b2, _⟩ => ⟨b1, b2⟩⟩
  · refine ⟨fun w => w.elim Or.inl (fun w => w.elim Or.inr (fun w => absurd (dt_anti hd w.2.2 w.1 xn) w.2.1)), fun w => w.elim Or.inl (fun w => Or.inr (Or.inl w))⟩
end
end
section
section
variable {n : Nat} {P : Nat → Prop} {A B num wp par pl low : Nat → Nat}
variable {f_present : Int32} {f_groupCount : Int32} {f_walked : Int32} {a_endA : Nat → Int32} {a_endB : Nat → Int32} {a_number : Nat → Int32} {a_walkPoint : Nat → Int32} {a_parent : Nat → Int32} {a_parentLine : Nat → Int32} {a_lowest : Nat → Int32} {a_nextLine : Nat → Int32} {a_stack : Nat → Int32} {a_pointRoot : Nat → Int32} {a_lineRoot : Nat → Int32} {a_between : Nat → Int32} {a_melted : Nat → Int32} {a_pull : Nat → Int32} {a_left : Nat → Int32} {a_cameFrom : Nat → Int32} {a_queue : Nat → Int32} {a_matrix : Nat → Int64} {a_dist : Nat → Int32}
theorem xb_161 (hX : xg_ n P A B f_present a_endA a_endB) (hr : ra_ n num wp par pl low a_number a_walkPoint a_parent a_parentLine a_lowest) (hd : dr_ n P A B num wp par pl low) {f_bridgeSet : Int32} {a_marked : Nat → Int32} (Hb : ∀ v, bt f_bridgeSet v = true ↔ sp_br A B P (fun x => x < n) v) {post : SX → Prop} (h : ∀ f_hingeSet, (∀ v, bt f_hingeSet v = true ↔ sp_hi A B P (fun x => x < n) v) → post (nI n, f_present, f_groupCount, f_bridgeSet, f_hingeSet, f_walked, a_endA, a_endB, a_number, a_walkPoint, a_parent, a_parentLine, a_lowest, a_nextLine, a_stack, a_marked, a_pointRoot, a_lineRoot, a_between, a_melted, a_pull, a_left, a_cameFrom, a_queue, a_matrix, a_dist)) :
    ∀ d k f_hingeSet, k + d = n → (∀ v, v < 32 → (bt f_hingeSet v = true ↔ hf_ n A B P num par pl n 0 v ∨ (v < k ∧ (∃ j, tc_ A B P j v ∧ sp_br A B P (fun x => x < n) j) ∧ ∃ j j', j ≠ j' ∧ tc_ A B P j v ∧ tc_ A B P j' v))) → wX_solveByChains_161 post (nI n) f_present f_groupCount f_bridgeSet f_walked a_endA a_endB a_number a_walkPoint a_parent a_parentLine a_lowest a_nextLine a_stack a_marked a_pointRoot a_lineRoot a_between a_melted a_pull a_left a_cameFrom a_queue a_matrix a_dist (d + 1) (nI k) f_hingeSet
  | 0, k, f_hingeSet, hk, I => by
    have e : k = n := by omega
    subst e
    have n8 := hX.1.1.2
    refine br_t (nI_le (Nat.le_refl _) (by omega)) (h _ fun v => ?_)
    rw [← ch_hi hX.1 hd v]
    rcases Nat.lt_or_ge v 32 with z | z
    · exact I v z
    · refine ⟨fun q => absurd (bb_lt q) (by omega), fun q => ?_⟩
      rcases q with ⟨j, q, _⟩ | q
      · have := (ld_f hX.1 hd q).1; omega
      · omega
  | d + 1, k, f_hingeSet, hk, I => by
    have n8 := hX.1.1.2
    have hkn : k < n := by omega
    have no : ¬ ((∃ j, tc_ A B P j k ∧ sp_br A B P (fun x => x < n) j) ∧ ∃ j j', j ≠ j' ∧ tc_ A B P j k ∧ tc_ A B P j' k) → wX_solveByChains_161 post (nI n) f_present f_groupCount f_bridgeSet f_walked a_endA a_endB a_number a_walkPoint a_parent a_parentLine a_lowest a_nextLine a_stack a_marked a_pointRoot a_lineRoot a_between a_melted a_pull a_left a_cameFrom a_queue a_matrix a_dist (d + 1) (nI (k + 1)) f_hingeSet := by
      intro z
      refine xb_161 hX hr hd Hb h d (k + 1) _ (by omega) fun v hv => ?_
      rw [I v hv]
      refine ⟨fun y => y.elim Or.inl (fun y => Or.inr ⟨by omega, y.2⟩), fun y => y.elim Or.inl (fun y => ?_)⟩
      rcases Nat.lt_or_ge v k with w | w
      · exact Or.inr ⟨w, y.2⟩
      · have e : v = k := by omega
        subst e; exact absurd y.2 z
    refine br_f (nI_ge hkn (by omega)) (xa_ hX (by omega) fun r hrr => ?_)
    have c1 : (r &&& f_bridgeSet) = 0 ↔ ¬ ∃ j, tc_ A B P j k ∧ sp_br A B P (fun x => x < n) j := by
      rw [bb_eq0]
      refine ⟨fun z ⟨j, a, b⟩ => z j (by have := (hX.1.2 _ a.1).1; omega) (bb_and.mpr ⟨(hrr j).mpr a, (Hb j).mpr b⟩), fun z v hv q => ?_⟩
      obtain ⟨q1, q2⟩ := bb_and.mp q
      exact z ⟨v, (hrr v).mp q1, (Hb v).mp q2⟩
    have c2 : (r &&& (r - 1)) = 0 ↔ ¬ ∃ j j', j ≠ j' ∧ tc_ A B P j k ∧ tc_ A B P j' k := by
      rw [bb_two (fun v q => (hX.1.2 _ ((hrr v).mp q).1).1)]
      exact ⟨fun z ⟨i, j, a, b, c⟩ => z ⟨i, j, a, (hrr i).mpr b, (hrr j).mpr c⟩, fun z ⟨i, j, a, b, c⟩ => z ⟨i, j, a, (hrr i).mp b, (hrr j).mp c⟩⟩
    refine br_c (fun z => nm_r (bb_or0 _) (nm_r (nI_1 k) (no fun y => c1.mp z y.1))) (fun z => br_c (fun y => nm_r (bb_or0 _) (nm_r (nI_1 k) (no fun w => c2.mp y w.2))) (fun y => nm_e (nm_r (nI_1 k) (xb_161 hX hr hd Hb h d (k + 1) _ (by omega) fun v hv => ?_))))
    rw [bb_or1 rfl (by omega) hv, I v hv]
    constructor
    · rintro ((q | q) | rfl)
      · exact Or.inl q
      · exact Or.inr ⟨by omega, q.2⟩
      · exact Or.inr ⟨by omega, Classical.byContradiction fun w => z (c1.mpr w), Classical.byContradiction fun w => y (c2.mpr w)⟩
    · rintro (q | q)
      · exact Or.inl (Or.inl q)
      · rcases Nat.lt_or_ge v k with w | w
        · exact Or.inl (Or.inr ⟨w, q.2⟩)
        · exact Or.inr (by omega)
/-- what the chains' loops hold at (i, k) -/
def xb_I (n : Nat) (P : Nat → Prop) (A B num par pl : Nat → Nat) (i k : Nat) (f_bridgeSet f_hingeSet : Int32) (a_marked : Nat → Int32) : Prop :=
  (∀ v, v < 32 → (bt f_bridgeSet v = true ↔ P v ∧ ¬ tk_ A B P num par pl i k v)) ∧ (∀ v, v < 32 → (bt f_hingeSet v = true ↔ hf_ n A B P num par pl i k v)) ∧ mr_ n (mk_ A B P num par pl i k) a_marked
def x01_ (x : Int32) (Q : Prop) : Prop := (x = 1 ∧ Q) ∨ (x = 0 ∧ ¬ Q)
theorem x01_e {x : Int32} {Q R : Prop} (h : x01_ x Q) (e : Q ↔ R) : x01_ x R := h.elim (fun z => Or.inl ⟨z.1, e.mp z.2⟩) (fun z => Or.inr ⟨z.1, fun y => z.2 (e.mpr y)⟩)
theorem xb_81 (hX : xg_ n P A B f_present a_endA a_endB) (hr : ra_ n num wp par pl low a_number a_walkPoint a_parent a_parentLine a_lowest) (hd : dr_ n P A B num wp par pl low) {u : Nat} (un : u < n) {post : SX → Prop} {J : Int32 → Int32 → Int32 → Int32 → Int32 → Int32 → Int32 → Int32 → (Nat → Int32) → (Nat → Int32) → (Nat → Int32) → (Nat → Int32) → (Nat → Int32) → (Nat → Int32) → (Nat → Int32) → (Nat → Int32) → (Nat → Int32) → (Nat → Int32) → (Nat → Int32) → (Nat → Int32) → (Nat → Int32) → (Nat → Int32) → (Nat → Int32) → (Nat → Int32) → (Nat → Int32) → (Nat → Int32) → (Nat → Int64) → (Nat → Int32) → Prop}
    (h : ∀ x1 f_bridgeSet f_hingeSet a_marked, x01_ x1 (ay_ n A B P num par pl (num u) 16) → xb_I n P A B num par pl (num u) 16 f_bridgeSet f_hingeSet a_marked → J x1 (nI (num u + 1)) (nI n) f_present f_groupCount f_bridgeSet f_hingeSet f_walked a_endA a_endB a_number a_walkPoint a_parent a_parentLine a_lowest a_nextLine a_stack a_marked a_pointRoot a_lineRoot a_between a_melted a_pull a_left a_cameFrom a_queue a_matrix a_dist) :
    ∀ d k x1 f_bridgeSet f_hingeSet a_marked, k + d = 16 → x01_ x1 (ay_ n A B P num par pl (num u) k) → xb_I n P A B num par pl (num u) k f_bridgeSet f_hingeSet a_marked → wX_solveByChains_81 post J (nI (num u)) (nI u) (d + 1) x1 (nI k) (nI n) f_present f_groupCount f_bridgeSet f_hingeSet f_walked a_endA a_endB a_number a_walkPoint a_parent a_parentLine a_lowest a_nextLine a_stack a_marked a_pointRoot a_lineRoot a_between a_melted a_pull a_left a_cameFrom a_queue a_matrix a_dist
  | 0, k, x1, f_bridgeSet, f_hingeSet, a_marked, hk, I1, I2 => by
    have e : k = 16 := by omega
    subst e
    exact br_t (show (16 : Int32) ≤ nI 16 from by decide) (nm_r (nI_1 _) (h _ _ _ _ I1 I2))
  | d + 1, k, x1, f_bridgeSet, f_hingeSet, a_marked, hk, I1, I2 => by
    have n8 := hX.1.1.2
    have hk16 : k < 16 := by omega
    refine br_f (nI_ge (b := 16) hk16 (by decide)) (xb_lead hX hr hd hk16 un (fun hl => br_f bb_10 (xb_goUp hX hr hd hl I2.1 I2.2.2 fun r f_bridgeSet a_marked hrg Hb Hm => ?_)) (fun nl => br_t rfl (nm_r (nI_1 k) (xb_81 hX hr hd un h d (k + 1) _ _ _ _ (by omega) (x01_e I1 ?_) ⟨fun v hv => ?_, fun v hv => ?_, mr_eqv I2.2.2 fun y _ => ?_⟩))))
    · have go : ∀ z0, (∀ v, v < 32 → (bt z0 v = true ↔ v = u ∧ rg_ A B P num par pl u k ∧ ay_ n A B P num par pl (num u) k)) → wX_solveByChains_128 post J (wX_solveByChains_81 post J (nI (num u)) (nI u) (d + 1)) x1 (nI (num u)) (nI u) (nI k) r z0 f_hingeSet (nI n) f_present f_groupCount f_bridgeSet f_hingeSet f_walked a_endA a_endB a_number a_walkPoint a_parent a_parentLine a_lowest a_nextLine a_stack a_marked a_pointRoot a_lineRoot a_between a_melted a_pull a_left a_cameFrom a_queue a_matrix a_dist := by
        intro z0 hz
        have Hh : ∀ v, v < 32 → (bt (f_hingeSet ||| z0) v = true ↔ hf_ n A B P num par pl (num u) (k + 1) v) := by
          intro v hv
          rw [bb_or, I2.2.1 v hv, hz v hv, hf_s hX.1 hd un v]
          exact ⟨fun q => q.elim Or.inl (fun q => Or.inr ⟨q.1, hl, q.2⟩), fun q => q.elim Or.inl (fun q => Or.inr ⟨q.1, q.2.2⟩)⟩
        have re : ∀ x, x01_ x (ay_ n A B P num par pl (num u) (k + 1)) → wX_solveByChains_81 post J (nI (num u)) (nI u) (d + 1) x (nI (k + 1)) (nI n) f_present f_groupCount f_bridgeSet (f_hingeSet ||| z0) f_walked a_endA a_endB a_number a_walkPoint a_parent a_parentLine a_lowest a_nextLine a_stack a_marked a_pointRoot a_lineRoot a_between a_melted a_pull a_left a_cameFrom a_queue a_matrix a_dist := fun x hx => xb_81 hX hr hd un h d (k + 1) x _ _ _ (by omega) hx ⟨Hb, Hh, Hm⟩
        have as := ay_s hX.1 hd (k := k) un
        refine nm_e ?_
        rcases I1 with ⟨rfl, q⟩ | ⟨rfl, q⟩
        · exact br_f bb_10 (nm_r (nI_1 k) (re 1 (Or.inl ⟨rfl, as.mpr (Or.inl q)⟩)))
        · refine br_t rfl ?_
          rcases hrg with ⟨rfl, w⟩ | ⟨rfl, w⟩
          · exact br_f bb_10 (nm_r (nI_1 k) (re 1 (Or.inl ⟨rfl, as.mpr (Or.inr ⟨hl, w⟩)⟩)))
          · exact br_t rfl (nm_r (nI_1 k) (re 0 (Or.inr ⟨rfl, fun z => (as.mp z).elim q (fun y => w y.2)⟩)))
      have no : ¬ (rg_ A B P num par pl u k ∧ ay_ n A B P num par pl (num u) k) → wX_solveByChains_127 post J (wX_solveByChains_81 post J (nI (num u)) (nI u) (d + 1)) x1 (nI (num u)) (nI u) (nI k) r f_hingeSet (nI n) f_present f_groupCount f_bridgeSet f_hingeSet f_walked a_endA a_endB a_number a_walkPoint a_parent a_parentLine a_lowest a_nextLine a_stack a_marked a_pointRoot a_lineRoot a_between a_melted a_pull a_left a_cameFrom a_queue a_matrix a_dist := fun q => go 0 fun v hv => ⟨fun w => absurd w (bb_0 v), fun w => absurd w.2 q⟩
      rcases hrg with ⟨e, w⟩ | ⟨e, w⟩
      · refine br_f (by rw [e]; decide) ?_
        rcases I1 with ⟨e', q⟩ | ⟨e', q⟩
        · refine br_f (by rw [e']; decide) (go _ fun v hv => ?_)
          rw [bb_shl rfl (by omega) hv]
          exact ⟨fun z => ⟨z, w, q⟩, fun z => z.1⟩
        · exact br_t e' (no fun z => q z.2)
      · exact br_t e (no fun z => w z.1)
    · rw [ay_s hX.1 hd un]; exact ⟨Or.inl, fun q => q.elim id (fun q => absurd q.1 nl)⟩
    · rw [I2.1 v hv, tk_s hX.1 hd un v]
      exact ⟨fun q => ⟨q.1, fun w => w.elim q.2 (fun w => nl w.1)⟩, fun q => ⟨q.1, fun w => q.2 (Or.inl w)⟩⟩
    · rw [I2.2.1 v hv, hf_s hX.1 hd un v]
      exact ⟨Or.inl, fun w => w.elim id (fun w => absurd w.2.1 nl)⟩
    · rw [mk_s hX.1 hd un y]
      exact ⟨Or.inl, fun w => w.elim id (fun w => absurd w.1 nl)⟩
theorem xb_44 (hX : xg_ n P A B f_present a_endA a_endB) (hr : ra_ n num wp par pl low a_number a_walkPoint a_parent a_parentLine a_lowest) (hd : dr_ n P A B num wp par pl low) {post : SX → Prop}
    (h : ∀ f_bridgeSet f_hingeSet a_marked, (∀ v, bt f_bridgeSet v = true ↔ sp_br A B P (fun x => x < n) v) → (∀ v, bt f_hingeSet v = true ↔ sp_hi A B P (fun x => x < n) v) → post (nI n, f_present, f_groupCount, f_bridgeSet, f_hingeSet, f_walked, a_endA, a_endB, a_number, a_walkPoint, a_parent, a_parentLine, a_lowest, a_nextLine, a_stack, a_marked, a_pointRoot, a_lineRoot, a_between, a_melted, a_pull, a_left, a_cameFrom, a_queue, a_matrix, a_dist)) :
    ∀ d i x1 f_bridgeSet f_hingeSet a_marked, i + d = n → x01_ x1 (aq_ n A B P num par pl i) → xb_I n P A B num par pl i 0 f_bridgeSet f_hingeSet a_marked → wX_solveByChains_44 post (d + 1) x1 (nI i) (nI n) f_present f_groupCount f_bridgeSet f_hingeSet f_walked a_endA a_endB a_number a_walkPoint a_parent a_parentLine a_lowest a_nextLine a_stack a_marked a_pointRoot a_lineRoot a_between a_melted a_pull a_left a_cameFrom a_queue a_matrix a_dist
  | 0, i, x1, f_bridgeSet, f_hingeSet, a_marked, hi, I1, I2 => by
    have e : i = n := by omega
    subst e
    have n8 := hX.1.1.2
    have Hb : ∀ v, bt f_bridgeSet v = true ↔ sp_br A B P (fun x => x < i) v := by
      intro v
      rw [← ch_br hX.1 hd v]
      rcases Nat.lt_or_ge v 32 with z | z
      · exact I2.1 v z
      · exact ⟨fun q => absurd (bb_lt q) (by omega), fun q => by have := (hX.1.2 _ q.1).1; omega⟩
    refine br_t (nI_le (Nat.le_refl _) (by omega)) ⟨i + 1, xb_161 hX hr hd Hb (fun f_hingeSet H => h _ _ _ Hb H) i 0 _ (by omega) fun v hv => ?_⟩
    rw [I2.2.1 v hv]
    exact ⟨Or.inl, fun z => z.elim id (fun z => by omega)⟩
  | d + 1, i, x1, f_bridgeSet, f_hingeSet, a_marked, hi, I1, I2 => by
    have n8 := hX.1.1.2
    have hin : i < n := by omega
    have wpn := hd.1.2.2.2 i hin
    have C : (nI i).toNatClampNeg = i := nI_clamp (by omega)
    have D : (nI (wp i)).toNatClampNeg = wp i := nI_clamp (by have := wpn.1; omega)
    have un : wp i < n := wpn.1
    have ei : num (wp i) = i := wpn.2
    have neg := ra_neg hr hd n8 un
    have nx := xx_next hX.1 hd i
    have go : ∀ x, x01_ x (ay_ n A B P num par pl i 0) → ∃ n81, wX_solveByChains_81 post (wX_solveByChains_44 post (d + 1)) (nI i) (nI (wp i)) n81 x 0 (nI n) f_present f_groupCount f_bridgeSet f_hingeSet f_walked a_endA a_endB a_number a_walkPoint a_parent a_parentLine a_lowest a_nextLine a_stack a_marked a_pointRoot a_lineRoot a_between a_melted a_pull a_left a_cameFrom a_queue a_matrix a_dist := by
      intro x hx
      have K := xb_81 (u := wp i) hX hr hd un (post := post) (J := wX_solveByChains_44 post (d + 1)) (f_groupCount := f_groupCount) (f_walked := f_walked) (a_nextLine := a_nextLine) (a_stack := a_stack) (a_pointRoot := a_pointRoot) (a_lineRoot := a_lineRoot) (a_between := a_between) (a_melted := a_melted) (a_pull := a_pull) (a_left := a_left) (a_cameFrom := a_cameFrom) (a_queue := a_queue) (a_matrix := a_matrix) (a_dist := a_dist) (fun x1 f_bridgeSet f_hingeSet a_marked J1 J2 => ?_) 16 0 x f_bridgeSet f_hingeSet a_marked rfl (by rw [ei]; exact hx) (by rw [ei]; exact I2)
      · rw [ei] at K; exact ⟨17, K⟩
      · rw [ei] at J1 J2 ⊢
        refine xb_44 hX hr hd h d (i + 1) _ _ _ _ (by omega) (x01_e J1 (aq_next hX.1 hd i).symm) ⟨fun v hv => ?_, fun v hv => ?_, mr_eqv J2.2.2 fun y _ => nx.1 y⟩
        · rw [J2.1 v hv, nx.2.1 v]
        · rw [J2.2.1 v hv, nx.2.2 v]
    refine br_f (nI_ge hin (by omega)) ⟨vp_in_nI (by omega) (by decide), ?_⟩
    rw [C]
    refine nm_r (hr.2 i hin) ?_
    rw [D]
    have rt : par (wp i) = wp i → ¬ ay_ n A B P num par pl i 0 := fun q => by have := aq_rt (n := n) (A := A) (B := B) (P := P) (num := num) (pl := pl) un q; rw [ei] at this; exact this
    have nrt : par (wp i) ≠ wp i → (ay_ n A B P num par pl i 0 ↔ aq_ n A B P num par pl i) := fun q => by have := aq_go hd un q; rw [ei] at this; exact this
    rcases I1 with ⟨rfl, q⟩ | ⟨rfl, q⟩
    · refine br_f bb_10 ⟨vp_in_nI (by omega) (by decide), br_c (fun z => go 0 (Or.inr ⟨rfl, rt (neg.mp z)⟩)) (fun z => go 1 (Or.inl ⟨rfl, (nrt fun e => z (neg.mpr e)).mpr q⟩))⟩
    · refine br_t rfl (go 0 (Or.inr ⟨rfl, fun z => ?_⟩))
      rcases Classical.em (par (wp i) = wp i) with w | w
      · exact rt w z
      · exact q ((nrt w).mp z)
theorem xb_19 (hX : xg_ n P A B f_present a_endA a_endB) (hr : ra_ n num wp par pl low a_number a_walkPoint a_parent a_parentLine a_lowest) (hd : dr_ n P A B num wp par pl low) {post : SX → Prop}
    (h : ∀ f_bridgeSet f_hingeSet a_marked, (∀ v, bt f_bridgeSet v = true ↔ sp_br A B P (fun x => x < n) v) → (∀ v, bt f_hingeSet v = true ↔ sp_hi A B P (fun x => x < n) v) → post (nI n, f_present, f_groupCount, f_bridgeSet, f_hingeSet, f_walked, a_endA, a_endB, a_number, a_walkPoint, a_parent, a_parentLine, a_lowest, a_nextLine, a_stack, a_marked, a_pointRoot, a_lineRoot, a_between, a_melted, a_pull, a_left, a_cameFrom, a_queue, a_matrix, a_dist)) :
    ∀ d k a_marked, k + d = n → (∀ x, x < k → a_marked x = 0) → wX_solveByChains_19 post (nI n) f_present f_groupCount f_present 0 f_walked (d + 1) (nI k) a_endA a_endB a_number a_walkPoint a_parent a_parentLine a_lowest a_nextLine a_stack a_marked a_pointRoot a_lineRoot a_between a_melted a_pull a_left a_cameFrom a_queue a_matrix a_dist
  | 0, k, a_marked, hk, I => by
    have e : k = n := by omega
    subst e
    have n8 := hX.1.1.2
    refine br_t (nI_le (Nat.le_refl _) (by omega)) ⟨k + 1, xb_44 hX hr hd h k 0 _ _ _ _ (by omega) (Or.inr ⟨rfl, ?_⟩) ⟨fun v hv => ?_, fun v hv => ?_, fun x hx => Or.inr ⟨?_, I x hx⟩⟩⟩
    · rintro ⟨u, j, _, x, _⟩; unfold lx_ at x; omega
    · rw [hX.2.1 v]
      refine ⟨fun z => ⟨z, ?_⟩, fun z => z.1⟩
      rintro ⟨u, j, _, x, _⟩; unfold lx_ at x; omega
    · refine ⟨fun z => absurd z (bb_0 v), ?_⟩
      rintro ⟨j, _, x, _⟩; unfold lx_ at x; omega
    · rintro ⟨u, j, _, x, _⟩; unfold lx_ at x; omega
  | d + 1, k, a_marked, hk, I => by
    have n8 := hX.1.1.2
    have hkn : k < n := by omega
    refine br_f (nI_ge hkn (by omega)) ⟨vp_in_nI (by omega) (by decide), nm_e (nm_r (nI_1 k) (xb_19 hX hr hd h d (k + 1) _ (by omega) fun x hx => ?_))⟩
    rw [nI_clamp (by omega), by_b0]
    rcases Classical.em (x = k) with z | z
    · subst z; rw [pk_us]
    · rw [pk_un z]; exact I x (by omega)
end
section
variable {n : Nat} {P : Nat → Prop} {A B : Nat → Nat}
variable {f_present : Int32} {f_groupCount : Int32} {f_bridgeSet : Int32} {f_hingeSet : Int32} {f_walked : Int32} {a_endA : Nat → Int32} {a_endB : Nat → Int32} {a_number : Nat → Int32} {a_walkPoint : Nat → Int32} {a_parent : Nat → Int32} {a_parentLine : Nat → Int32} {a_lowest : Nat → Int32} {a_nextLine : Nat → Int32} {a_stack : Nat → Int32} {a_marked : Nat → Int32} {a_pointRoot : Nat → Int32} {a_lineRoot : Nat → Int32} {a_between : Nat → Int32} {a_melted : Nat → Int32} {a_pull : Nat → Int32} {a_left : Nat → Int32} {a_cameFrom : Nat → Int32} {a_queue : Nat → Int32} {a_matrix : Nat → Int64} {a_dist : Nat → Int32}
theorem xb_solve (hX : xg_ n P A B f_present a_endA a_endB) {post : SX → Prop}
    (h : ∀ (f_bridgeSet : Int32) (f_hingeSet : Int32) (f_walked : Int32) (a_number : Nat → Int32) (a_walkPoint : Nat → Int32) (a_parent : Nat → Int32) (a_parentLine : Nat → Int32) (a_lowest : Nat → Int32) (a_nextLine : Nat → Int32) (a_stack : Nat → Int32) (a_marked : Nat → Int32), (∀ v, bt f_bridgeSet v = true ↔ sp_br A B P (fun x => x < n) v) → (∀ v, bt f_hingeSet v = true ↔ sp_hi A B P (fun x => x < n) v) → post (nI n, f_present, nI (gc_c A B P (fun x => x < n)), f_bridgeSet, f_hingeSet, f_walked, a_endA, a_endB, a_number, a_walkPoint, a_parent, a_parentLine, a_lowest, a_nextLine, a_stack, a_marked, a_pointRoot, a_lineRoot, a_between, a_melted, a_pull, a_left, a_cameFrom, a_queue, a_matrix, a_dist)) : wpX_solveByChains post (nI n, f_present, f_groupCount, f_bridgeSet, f_hingeSet, f_walked, a_endA, a_endB, a_number, a_walkPoint, a_parent, a_parentLine, a_lowest, a_nextLine, a_stack, a_marked, a_pointRoot, a_lineRoot, a_between, a_melted, a_pull, a_left, a_cameFrom, a_queue, a_matrix, a_dist) := by
  unfold wpX_solveByChains
  dsimp only
  exact xw_all hX fun f_walked a_number a_walkPoint a_parent a_parentLine a_lowest a_nextLine a_stack num wp par pl low hd hr => ⟨n + 1, xb_19 hX hr hd (fun f_bridgeSet f_hingeSet a_marked H1 H2 => h _ _ _ _ _ _ _ _ _ _ _ H1 H2) n 0 _ (by omega) (fun x hx => absurd hx (by omega))⟩
end
end
section
/-! ===== a forest of lines, rings, blocks ===== -/
/-- the tree lines: their ends aren't joined by earlier lines -/
def tr_ (n : Nat) (P : Nat → Prop) (A B : Nat → Nat) (j : Nat) : Prop := P j ∧ ¬ gc A B (fun i => P i ∧ i < j) (fun x => x < n) (A j) (B j)
/-- tree line t lies on the way between the ends of k -/
def fc_ (n : Nat) (P : Nat → Prop) (A B : Nat → Nat) (k t : Nat) : Prop := tr_ n P A B t ∧ ¬ gc A B (fun i => tr_ n P A B i ∧ i ≠ t) (fun x => x < n) (A k) (B k)
def ef_ (n : Nat) (P : Nat → Prop) (A B : Nat → Nat) (k t : Nat) : Prop := (P k ∧ ¬ tr_ n P A B k) ∧ fc_ n P A B k t
def fe_ (n : Nat) (P : Nat → Prop) (A B : Nat → Nat) (k l : Nat) : Prop := cl_ (ef_ n P A B) k l
section
variable {n : Nat} {P : Nat → Prop} {A B : Nat → Nat}
theorem tr_P {j : Nat} (h : tr_ n P A B j) : P j := h.1
theorem tr_sk {Q : Nat → Prop} {k u v : Nat} (h : ¬ Q k) : gc A B (fun i => Q i ∧ i < k + 1) (fun x => x < n) u v ↔ gc A B (fun i => Q i ∧ i < k) (fun x => x < n) u v := by
  refine gc_eqL (fun i => ⟨fun z => ⟨z.1, ?_⟩, fun z => ⟨z.1, by omega⟩⟩) (fun x => Iff.rfl)
  rcases Nat.lt_or_ge i k with w | w
  · exact w
  · have e : i = k := by omega
    exact absurd z.1 (e ▸ h)
theorem tr_pl {Q : Nat → Prop} {k : Nat} (q : Q k) (a : A k < n) (b : B k < n) (u v : Nat) : gc A B (fun i => Q i ∧ i < k + 1) (fun x => x < n) u v ↔ gc A B (fun i => Q i ∧ i < k) (fun x => x < n) u v ∨ (gc A B (fun i => Q i ∧ i < k) (fun x => x < n) u (A k) ∧ gc A B (fun i => Q i ∧ i < k) (fun x => x < n) (B k) v) ∨ (gc A B (fun i => Q i ∧ i < k) (fun x => x < n) u (B k) ∧ gc A B (fun i => Q i ∧ i < k) (fun x => x < n) (A k) v) := by
  refine gc_add (L := fun i => Q i ∧ i < k) (S := fun x => x < n) (k := k) a b (fun j => ⟨fun z => ?_, fun z => z.elim (fun y => ⟨y.1, by omega⟩) (fun e => ⟨e ▸ q, by omega⟩)⟩) u v
  rcases Nat.lt_or_ge j k with w | w
  · exact Or.inl ⟨z.1, w⟩
  · exact Or.inr (by omega)
theorem tr_lt (hg : gr_ n P A B) : ∀ k u v, gc A B (fun i => P i ∧ i < k) (fun x => x < n) u v ↔ gc A B (fun i => tr_ n P A B i ∧ i < k) (fun x => x < n) u v := by
  intro k
  induction k with
  | zero => intro u v; exact gc_eqL (fun k => ⟨fun z => absurd z.2 (by omega), fun z => absurd z.2 (by omega)⟩) (fun x => Iff.rfl)
  | succ k ih =>
    intro u v
    rcases Classical.em (P k) with pk | pk
    · have g := hg.2 k pk
      rw [tr_pl pk g.2.1 g.2.2.1 u v]
      rcases Classical.em (tr_ n P A B k) with t | t
      · rw [tr_pl t g.2.1 g.2.2.1 u v, ih u v, ih u (A k), ih (B k) v, ih u (B k), ih (A k) v]
      · have j : gc A B (fun i => P i ∧ i < k) (fun x => x < n) (A k) (B k) := Classical.byContradiction fun q => t ⟨pk, q⟩
        rw [tr_sk t, ← ih u v]
        constructor
        · rintro (z | ⟨z1, z2⟩ | ⟨z1, z2⟩)
          · exact z
          · exact gc_t z1 (gc_t j z2)
          · exact gc_t z1 (gc_t (gc_s j) z2)
        · exact Or.inl
    · rw [tr_sk pk, tr_sk (fun z => pk (tr_P z))]
      exact ih u v
theorem tr_all (hg : gr_ n P A B) (u v : Nat) : gc A B P (fun x => x < n) u v ↔ gc A B (tr_ n P A B) (fun x => x < n) u v := by
  have := tr_lt hg 16 u v
  rw [gc_eqL (L := fun i => P i ∧ i < 16) (L' := P) (fun k => ⟨fun z => z.1, fun z => ⟨z, (hg.2 k z).1⟩⟩) (fun x => Iff.rfl)] at this
  rw [gc_eqL (L := fun i => tr_ n P A B i ∧ i < 16) (L' := tr_ n P A B) (fun k => ⟨fun z => z.1, fun z => ⟨z, (hg.2 k z.1).1⟩⟩) (fun x => Iff.rfl)] at this
  exact this
theorem tr_forest (hg : gr_ n P A B) {t : Nat} (ht : tr_ n P A B t) : ¬ gc A B (fun i => tr_ n P A B i ∧ i ≠ t) (fun x => x < n) (A t) (B t) := by
  have key : ∀ k t, tr_ n P A B t → t < k → ¬ gc A B (fun i => (tr_ n P A B i ∧ i < k) ∧ i ≠ t) (fun x => x < n) (A t) (B t) := by
    intro k
    induction k with
    | zero => intro t _ h; omega
    | succ k ih =>
      intro t tt lt h
      rcases Classical.em (t = k) with e | e
      · subst e
        refine tt.2 ((tr_lt hg t _ _).mpr (gc_mono (fun i z _ _ => ⟨z.1.1, ?_⟩) (fun _ z => z) h))
        have := z.1.2; have := z.2; omega
      · have lt' : t < k := by omega
        have up : ∀ {u v}, gc A B (fun i => (tr_ n P A B i ∧ i < k) ∧ i ≠ t) (fun x => x < n) u v → gc A B (fun i => tr_ n P A B i ∧ i < k) (fun x => x < n) u v := fun z => gc_mono (fun i y _ _ => y.1) (fun _ y => y) z
        have gt := hg.2 t tt.1
        have l : gc A B (fun i => tr_ n P A B i ∧ i < k) (fun x => x < n) (A t) (B t) := gc_l (L := fun i => tr_ n P A B i ∧ i < k) ⟨tt, lt'⟩ gt.2.1 gt.2.2.1
        rcases Classical.em (tr_ n P A B k) with q | q
        · have g := hg.2 k q.1
          rw [gc_add (L := fun i => (tr_ n P A B i ∧ i < k) ∧ i ≠ t) (k := k) g.2.1 g.2.2.1 (fun j => ⟨fun z => by rcases Nat.lt_or_ge j k with w | w; exact Or.inl ⟨⟨z.1.1, w⟩, z.2⟩; exact Or.inr (by have := z.1.2; omega), fun z => z.elim (fun y => ⟨⟨y.1.1, by omega⟩, y.2⟩) (fun e' => by subst e'; exact ⟨⟨q, by omega⟩, fun f => e f.symm⟩)⟩)] at h
          have bad : ¬ gc A B (fun i => tr_ n P A B i ∧ i < k) (fun x => x < n) (A k) (B k) := fun z => q.2 ((tr_lt hg k _ _).mpr z)
          rcases h with z | ⟨z1, z2⟩ | ⟨z1, z2⟩
          · exact ih t tt lt' z
          · exact bad (gc_t (gc_s (up z1)) (gc_t l (gc_s (up z2))))
          · exact bad (gc_t (up z2) (gc_t (gc_s l) (up z1)))
        · refine ih t tt lt' (gc_mono (fun i z _ _ => ⟨⟨z.1.1, ?_⟩, z.2⟩) (fun _ z => z) h)
          rcases Nat.lt_or_ge i k with w | w
          · exact w
          · have e : i = k := by omega
            exact absurd z.1.1 (e ▸ q)
  intro h
  have t16 := (hg.2 t ht.1).1
  exact key 16 t ht t16 (gc_mono (fun i z _ _ => ⟨⟨z.1, (hg.2 i z.1.1).1⟩, z.2⟩) (fun _ z => z) h)
/-- a tree line between x and y: which side is which -/
theorem tr_split (hg : gr_ n P A B) {t x y : Nat} (ht : tr_ n P A B t) (h : gc A B (tr_ n P A B) (fun x => x < n) x y) (ns : ¬ gc A B (fun i => tr_ n P A B i ∧ i ≠ t) (fun x => x < n) x y) :
    ∃ c d, jn_ A B t c d ∧ gc A B (fun i => tr_ n P A B i ∧ i ≠ t) (fun x => x < n) x c ∧ gc A B (fun i => tr_ n P A B i ∧ i ≠ t) (fun x => x < n) d y := by
  have g := hg.2 t ht.1
  rw [gc_add (L := fun i => tr_ n P A B i ∧ i ≠ t) (k := t) g.2.1 g.2.2.1 (fun j => ⟨fun z => (Classical.em (j = t)).elim Or.inr (fun y => Or.inl ⟨z, y⟩), fun z => z.elim (fun y => y.1) (fun e => e ▸ ht)⟩)] at h
  rcases h with z | ⟨z1, z2⟩ | ⟨z1, z2⟩
  · exact absurd z ns
  · exact ⟨A t, B t, Or.inl ⟨rfl, rfl⟩, z1, z2⟩
  · exact ⟨B t, A t, Or.inr ⟨rfl, rfl⟩, z1, z2⟩
theorem jn_en {k x y p : Nat} (h : jn_ A B k x y) (nx : x ≠ p) : sp_en A B k p x := ⟨h.elim (fun z => Or.inl z.1.symm) (fun z => Or.inr z.2.symm), nx⟩
/-! lines in one group when p is left out -/
theorem sp_any (hg : gr_ n P A B) {p k l u w : Nat} (pk : P k) (pl : P l) (h : sp_at A B P (fun x => x < n) p k l) (hu : sp_en A B k p u) (hw : sp_en A B l p w) : gc A B P (fun x => x < n ∧ x ≠ p) u w := by
  have self : ∀ k u v, P k → sp_en A B k p u → sp_en A B k p v → gc A B P (fun x => x < n ∧ x ≠ p) u v := by
    rintro k u v pk ⟨u1, u2⟩ ⟨v1, v2⟩
    have g := hg.2 k pk
    rcases u1 with rfl | rfl
    · rcases v1 with rfl | rfl
      · exact gc_r _
      · exact gc_l (S := fun x => x < n ∧ x ≠ p) pk ⟨g.2.1, u2⟩ ⟨g.2.2.1, v2⟩
    · rcases v1 with rfl | rfl
      · exact gc_s (gc_l (S := fun x => x < n ∧ x ≠ p) pk ⟨g.2.1, v2⟩ ⟨g.2.2.1, u2⟩)
      · exact gc_r _
  obtain ⟨u', w', hu', hw', g⟩ := h
  exact gc_t (self k u u' pk hu hu') (gc_t g (self l w' w pl hw' hw))
theorem sp_r (hg : gr_ n P A B) {p k : Nat} (pk : P k) : sp_at A B P (fun x => x < n) p k k := by
  have g := hg.2 k pk
  rcases Classical.em (A k = p) with e | e
  · exact ⟨B k, B k, ⟨Or.inr rfl, fun f => g.2.2.2 (e.trans f.symm)⟩, ⟨Or.inr rfl, fun f => g.2.2.2 (e.trans f.symm)⟩, gc_r _⟩
  · exact ⟨A k, A k, ⟨Or.inl rfl, e⟩, ⟨Or.inl rfl, e⟩, gc_r _⟩
theorem sp_s {p k l : Nat} {V : Nat → Prop} (h : sp_at A B P V p k l) : sp_at A B P V p l k := by
  obtain ⟨u, w, a, b, g⟩ := h
  exact ⟨w, u, b, a, gc_s g⟩
theorem sp_t (hg : gr_ n P A B) {p k l m : Nat} (pl : P l) (pm : P m) (h : sp_at A B P (fun x => x < n) p k l) (g : sp_at A B P (fun x => x < n) p l m) : sp_at A B P (fun x => x < n) p k m := by
  obtain ⟨u, w, a, b, q⟩ := h
  obtain ⟨u', w', a', b', q'⟩ := g
  exact ⟨u, w', a, b', gc_t q (sp_any hg pl pm ⟨u', w', a', b', q'⟩ b b')⟩
/-- a ring stays together -/
theorem e1_ (hg : gr_ n P A B) {p k t : Nat} (pk : P k) (h : fc_ n P A B k t) : sp_at A B P (fun x => x < n) p k t := by
  have g := hg.2 k pk
  have j : gc A B (tr_ n P A B) (fun x => x < n) (A k) (B k) := (tr_all hg _ _).mp (gc_l pk g.2.1 g.2.2.1)
  obtain ⟨c, d, jt, g1, g2⟩ := tr_split hg h.1 j h.2
  have key : ∀ a c d : Nat, (a = A k ∨ a = B k) → jn_ A B t c d → gc A B (fun i => tr_ n P A B i ∧ i ≠ t) (fun x => x < n) a c → ¬ gc A B (fun i => tr_ n P A B i ∧ i ≠ t) (fun x => x < n) a p → sp_at A B P (fun x => x < n) p k t := by
    intro a c d ea jt ga np
    have na : a ≠ p := fun e => np (e ▸ gc_r _)
    have nc : c ≠ p := fun e => np (e ▸ ga)
    exact ⟨a, c, ⟨ea, na⟩, jn_en jt nc, gc_mono (fun i z _ _ => z.1.1) (fun x z => z) (gc_wo np ga)⟩
  rcases Classical.em (gc A B (fun i => tr_ n P A B i ∧ i ≠ t) (fun x => x < n) (A k) p) with z | z
  · exact key (B k) d c (Or.inr rfl) (jn_s jt) (gc_s g2) fun y => h.2 (gc_t z (gc_s y))
  · exact key (A k) c d (Or.inl rfl) jt g1 z
theorem fe_P {k l : Nat} (h : fe_ n P A B k l) (pk : P k) : P l := (h P (fun x y e => ⟨fun _ => e.2.1.1, fun _ => e.1.1⟩)).mp pk
theorem fe_tg (hg : gr_ n P A B) {k l : Nat} (h : fe_ n P A B k l) (pk : P k) : sp_tg A B P (fun x => x < n) k l := by
  intro p hp
  refine ((h (fun x => P x ∧ sp_at A B P (fun x => x < n) p k x) fun x y e => ?_).mp ⟨pk, sp_r hg pk⟩).2
  have px := e.1.1
  have py := e.2.1.1
  have s := e1_ (p := p) hg px e.2
  exact ⟨fun z => ⟨py, sp_t hg px py z.2 s⟩, fun z => ⟨px, sp_t hg py px z.2 (sp_s s)⟩⟩
/-- the last line of the way from y to p -/
theorem e3_ (hg : gr_ n P A B) {y p : Nat} (ne : y ≠ p) (h : gc A B (tr_ n P A B) (fun x => x < n) y p) : ∃ t, tr_ n P A B t ∧ (A t = p ∨ B t = p) ∧ ¬ gc A B (fun i => tr_ n P A B i ∧ i ≠ t) (fun x => x < n) y p := by
  have key : ∀ m z w, tr_ n P A B m → jn_ A B m z w → z < n → w < n → (z = p ∨ ∃ t, tr_ n P A B t ∧ (A t = p ∨ B t = p) ∧ ¬ gc A B (fun i => tr_ n P A B i ∧ i ≠ t) (fun x => x < n) z p) → (w = p ∨ ∃ t, tr_ n P A B t ∧ (A t = p ∨ B t = p) ∧ ¬ gc A B (fun i => tr_ n P A B i ∧ i ≠ t) (fun x => x < n) w p) := by
    intro m z w tm j hz hw h
    rcases Classical.em (w = p) with e | e
    · exact Or.inl e
    · rcases Classical.em (z = p) with f | f
      · subst f
        refine Or.inr ⟨m, tm, j.elim (fun q => Or.inl q.1) (fun q => Or.inr q.2), fun q => tr_forest hg tm ?_⟩
        rcases j with ⟨j1, j2⟩ | ⟨j1, j2⟩
        · rw [j1, j2]; exact gc_s q
        · rw [j1, j2]; exact q
      · obtain ⟨t, tt, at', nt⟩ := h.resolve_left f
        refine Or.inr ⟨t, tt, at', fun q => nt (gc_t (jn_gc (L := fun i => tr_ n P A B i ∧ i ≠ t) ⟨tm, fun e' => ?_⟩ hz hw j) q)⟩
        subst e'
        rcases j with ⟨j1, j2⟩ | ⟨j1, j2⟩
        · exact at'.elim (fun q => f (j1.symm.trans q)) (fun q => e (j2.symm.trans q))
        · exact at'.elim (fun q => e (j1.symm.trans q)) (fun q => f (j2.symm.trans q))
  exact ((gc_sep h (fun z => z = p ∨ ∃ t, tr_ n P A B t ∧ (A t = p ∨ B t = p) ∧ ¬ gc A B (fun i => tr_ n P A B i ∧ i ≠ t) (fun x => x < n) z p) fun m tm va vb => ⟨key m _ _ tm (Or.inl ⟨rfl, rfl⟩) va vb, key m _ _ tm (Or.inr ⟨rfl, rfl⟩) vb va⟩).mpr (Or.inl rfl)).resolve_left ne
/-- only one line at p is the last one -/
theorem e5_ (hg : gr_ n P A B) {t t' p x : Nat} (ht : tr_ n P A B t) (ht' : tr_ n P A B t') (a : A t = p ∨ B t = p) (a' : A t' = p ∨ B t' = p) (ne : t' ≠ t) (h : gc A B (tr_ n P A B) (fun x => x < n) x p) (ns : ¬ gc A B (fun i => tr_ n P A B i ∧ i ≠ t) (fun x => x < n) x p) : gc A B (fun i => tr_ n P A B i ∧ i ≠ t') (fun x => x < n) x p := by
  obtain ⟨c, d, j, g1, g2⟩ := tr_split hg ht h ns
  have gt := hg.2 t ht.1
  have gt' := hg.2 t' ht'.1
  have dp : d = p := by
    have cp : c ≠ p := fun e => ns (e ▸ g1)
    rcases j with ⟨j1, j2⟩ | ⟨j1, j2⟩
    · exact a.elim (fun q => absurd (j1.symm.trans q) cp) (fun q => j2.symm.trans q)
    · exact a.elim (fun q => j1.symm.trans q) (fun q => absurd (j2.symm.trans q) cp)
  subst dp
  have w := gc_woL (D := fun i => i = t') g1 (fun i e ti va vb => ?_)
  · have jn : gc A B (fun i => tr_ n P A B i ∧ i ≠ t') (fun x => x < n) c d := by
      have b : c < n ∧ d < n := by
        rcases j with ⟨rfl, rfl⟩ | ⟨rfl, rfl⟩
        · exact gt.2.imp id (fun q => q.1)
        · exact ⟨gt.2.2.1, gt.2.1⟩
      exact jn_gc (L := fun i => tr_ n P A B i ∧ i ≠ t') ⟨ht, fun e => ne e.symm⟩ b.1 b.2 j
    exact gc_t (gc_mono (fun i z _ _ => ⟨z.1.1, z.2⟩) (fun _ z => z) w) jn
  · subst e
    intro q
    rcases a' with e | e
    · exact ns (e ▸ q)
    · refine ns (gc_t q ?_)
      have := gc_l (L := fun i => tr_ n P A B i ∧ i ≠ t) (S := fun x => x < n) (A := A) (B := B) (k := i) ⟨ht', ne⟩ va vb
      rw [e] at this; exact this
/-- the points that hang at p by lines of one kind -/
def eu_ (n : Nat) (P : Nat → Prop) (A B : Nat → Nat) (k p x : Nat) : Prop := ∃ t, tr_ n P A B t ∧ (A t = p ∨ B t = p) ∧ fe_ n P A B k t ∧ gc A B (tr_ n P A B) (fun x => x < n) x p ∧ ¬ gc A B (fun i => tr_ n P A B i ∧ i ≠ t) (fun x => x < n) x p
theorem eu_cl (hg : gr_ n P A B) {k p x y : Nat} (g : gc A B P (fun x => x < n ∧ x ≠ p) x y) (h : eu_ n P A B k p x) : eu_ n P A B k p y := by
  have key : ∀ m x y, P m → jn_ A B m x y → (x < n ∧ x ≠ p) → (y < n ∧ y ≠ p) → eu_ n P A B k p x → eu_ n P A B k p y := by
    rintro m x y pm j hx hy ⟨t, tt, at', ft, gx, nx⟩
    have gy : gc A B (tr_ n P A B) (fun x => x < n) y p := gc_t ((tr_all hg _ _).mp (gc_s (jn_gc pm hx.1 hy.1 j))) gx
    rcases Classical.em (gc A B (fun i => tr_ n P A B i ∧ i ≠ t) (fun x => x < n) x y) with q | q
    · exact ⟨t, tt, at', ft, gy, fun w => nx (gc_t q w)⟩
    · -- t lies between x and y: m isn't of the tree
      have flip : ∀ s, (¬ gc A B (fun i => tr_ n P A B i ∧ i ≠ s) (fun x => x < n) x y) → ¬ gc A B (fun i => tr_ n P A B i ∧ i ≠ s) (fun x => x < n) (A m) (B m) := by
        intro s h
        rcases j with ⟨rfl, rfl⟩ | ⟨rfl, rfl⟩
        · exact h
        · exact fun w => h (gc_s w)
      have nt : ¬ tr_ n P A B m := fun tm => by
        refine q (jn_gc (L := fun i => tr_ n P A B i ∧ i ≠ t) ⟨tm, fun e => ?_⟩ hx.1 hy.1 j)
        subst e
        rcases j with ⟨j1, j2⟩ | ⟨j1, j2⟩
        · exact at'.elim (fun w => hx.2 (j1.symm.trans w)) (fun w => hy.2 (j2.symm.trans w))
        · exact at'.elim (fun w => hy.2 (j1.symm.trans w)) (fun w => hx.2 (j2.symm.trans w))
      have fm : fe_ n P A B m t := cl_b ⟨⟨pm, nt⟩, tt, flip t q⟩
      have gxy : gc A B (tr_ n P A B) (fun x => x < n) x y := (tr_all hg _ _).mp (jn_gc pm hx.1 hy.1 j)
      obtain ⟨t', tt', at2, ny⟩ := e3_ hg hy.2 gy
      have ne : t' ≠ t := fun e => by
        subst e
        -- both x and y are cut from p by t, and from each other: impossible
        obtain ⟨c, d, jt, g1, g2⟩ := tr_split hg tt gx nx
        obtain ⟨c', d', jt', g1', g2'⟩ := tr_split hg tt gy ny
        have cp : c ≠ p := fun e => nx (e ▸ g1)
        have cp' : c' ≠ p := fun e => ny (e ▸ g1')
        have cc : c = c' := by
          rcases jt with ⟨j1, j2⟩ | ⟨j1, j2⟩
          · rcases jt' with ⟨i1, i2⟩ | ⟨i1, i2⟩
            · exact j1.symm.trans i1
            · exact at'.elim (fun w => absurd (j1.symm.trans w) cp) (fun w => absurd (i2.symm.trans w) cp')
          · rcases jt' with ⟨i1, i2⟩ | ⟨i1, i2⟩
            · exact at'.elim (fun w => absurd (i1.symm.trans w) cp') (fun w => absurd (j2.symm.trans w) cp)
            · exact j2.symm.trans i2
        subst cc
        exact q (gc_t g1 (gc_s g1'))
      have nxy : ¬ gc A B (fun i => tr_ n P A B i ∧ i ≠ t') (fun x => x < n) x y := fun w => ny (gc_t (gc_s w) (e5_ hg tt tt' at' at2 ne gx nx))
      have fm' : fe_ n P A B m t' := cl_b ⟨⟨pm, nt⟩, tt', flip t' nxy⟩
      exact ⟨t', tt', at2, cl_t ft (cl_t (cl_s fm) fm'), gy, ny⟩
  exact (gc_sep g (eu_ n P A B k p) fun m pm va vb => ⟨key m _ _ pm (Or.inl ⟨rfl, rfl⟩) va vb, key m _ _ pm (Or.inr ⟨rfl, rfl⟩) vb va⟩).mp h
/-- lines at p that stay together without p are of one kind -/
theorem e2_ (hg : gr_ n P A B) {p k l : Nat} (hk : tc_ A B P k p) (hl : tc_ A B P l p) (h : sp_at A B P (fun x => x < n) p k l) : fe_ n P A B k l := by
  have j := oe_jn hk
  have j' := oe_jn hl
  have ends : ∀ {k x}, P k → jn_ A B k p x → p < n ∧ x < n ∧ x ≠ p := by
    intro k x pk j
    have g := hg.2 k pk
    rcases j with ⟨rfl, rfl⟩ | ⟨rfl, rfl⟩
    · exact ⟨g.2.1, g.2.2.1, fun e => g.2.2.2 e.symm⟩
    · exact ⟨g.2.2.1, g.2.1, g.2.2.2⟩
  have at1 : ∀ {k x}, P k → jn_ A B k p x → ∀ t, tr_ n P A B t → ¬ gc A B (fun i => tr_ n P A B i ∧ i ≠ t) (fun x => x < n) x p → (k = t ∨ fe_ n P A B k t) := by
    intro k x pk j t tt nt
    obtain ⟨hp, hx, _⟩ := ends pk j
    rcases Classical.em (tr_ n P A B k) with q | q
    · exact Or.inl (Classical.byContradiction fun ne => nt (gc_s (jn_gc (L := fun i => tr_ n P A B i ∧ i ≠ t) ⟨q, ne⟩ hp hx j)))
    · refine Or.inr (cl_b ⟨⟨pk, q⟩, tt, fun w => nt ?_⟩)
      rcases j with ⟨rfl, rfl⟩ | ⟨rfl, rfl⟩
      · exact gc_s w
      · exact w
  obtain ⟨hp, hx, nx⟩ := ends hk.1 j
  obtain ⟨_, hy, ny⟩ := ends hl.1 j'
  have gx : gc A B (tr_ n P A B) (fun x => x < n) (oe_ A B k p) p := (tr_all hg _ _).mp (gc_s (jn_gc hk.1 hp hx j))
  obtain ⟨t, tt, at', nt⟩ := e3_ hg nx gx
  have fkt : fe_ n P A B k t := (at1 hk.1 j t tt nt).elim (fun e => e ▸ cl_r _ _) id
  obtain ⟨s, ts, as, fs, _, ns⟩ := eu_cl hg (sp_any hg hk.1 hl.1 h (jn_en (jn_s j) nx) (jn_en (jn_s j') ny)) (k := k) ⟨t, tt, at', fkt, gx, nt⟩
  exact (at1 hl.1 j' s ts ns).elim (fun e => e ▸ fs) (fun q => cl_t fs (cl_s q))
/-- lines that stay together whichever point is left out are of one kind -/
theorem e4_ (hg : gr_ n P A B) {k l : Nat} (pk : P k) (pl : P l) (h : sp_tg A B P (fun x => x < n) k l) : fe_ n P A B k l := by
  have gk := hg.2 k pk
  have gl := hg.2 l pl
  -- some tree line of k's kind, in the group of l's end
  have conn : gc A B P (fun x => x < n) (A l) (A k) := by
    obtain ⟨u, w, a, b, g⟩ := h (A k) gk.2.1
    have g' : gc A B P (fun x => x < n) u w := gc_mono (fun _ z _ _ => z) (fun _ z => z.1) g
    have eu : gc A B P (fun x => x < n) (A k) u := by
      rcases a.1 with e | e
      · rw [e]; exact gc_r _
      · rw [e]; exact gc_l pk gk.2.1 gk.2.2.1
    have ew : gc A B P (fun x => x < n) (A l) w := by
      rcases b.1 with e | e
      · rw [e]; exact gc_r _
      · rw [e]; exact gc_l pl gl.2.1 gl.2.2.1
    exact gc_t ew (gc_s (gc_t eu g'))
  have start : ∃ t, tr_ n P A B t ∧ fe_ n P A B k t ∧ gc A B P (fun x => x < n) (A l) (A t) := by
    rcases Classical.em (tr_ n P A B k) with q | q
    · exact ⟨k, q, cl_r _ _, conn⟩
    · have g0 : gc A B (tr_ n P A B) (fun x => x < n) (A k) (B k) := (tr_all hg _ _).mp (gc_l pk gk.2.1 gk.2.2.1)
      obtain ⟨t, tt, at', nt⟩ := e3_ hg gk.2.2.2 g0
      have gt := hg.2 t tt.1
      refine ⟨t, tt, cl_b ⟨⟨pk, q⟩, tt, nt⟩, gc_t conn (gc_t (gc_l pk gk.2.1 gk.2.2.1) ?_)⟩
      rcases at' with e | e
      · rw [e]; exact gc_r _
      · have := gc_l (A := A) (B := B) (L := P) (S := fun x => x < n) tt.1 gt.2.1 gt.2.2.1
        rw [e] at this; exact gc_s this
  obtain ⟨t0, tt0, ft0, gt0⟩ := start
  obtain ⟨m, ⟨t, tt, ft, gx, em⟩, lm⟩ := pk_least (fun m => ∃ t, tr_ n P A B t ∧ fe_ n P A B k t ∧ gc A B P (fun x => x < n) (A l) (A t) ∧ m = ct_n (gc A B (fun i => tr_ n P A B i ∧ i ≠ t) (fun x => x < n) (A l)) n) ⟨_, t0, tt0, ft0, gt0, rfl⟩
  have gt := hg.2 t tt.1
  have pt := tt.1
  -- the end q of t on the side of l's end, and the other one
  have sides : ∃ q r, jn_ A B t q r ∧ gc A B (fun i => tr_ n P A B i ∧ i ≠ t) (fun x => x < n) (A l) q := by
    rcases Classical.em (gc A B (fun i => tr_ n P A B i ∧ i ≠ t) (fun x => x < n) (A l) (A t)) with z | z
    · exact ⟨A t, B t, Or.inl ⟨rfl, rfl⟩, z⟩
    · obtain ⟨c, d, j, g1, _⟩ := tr_split hg tt ((tr_all hg _ _).mp gx) z
      exact ⟨c, d, j, g1⟩
  obtain ⟨q, r, j, gq⟩ := sides
  have be : q < n ∧ r < n ∧ q ≠ r := by
    rcases j with ⟨rfl, rfl⟩ | ⟨rfl, rfl⟩
    · exact ⟨gt.2.1, gt.2.2.1, gt.2.2.2⟩
    · exact ⟨gt.2.2.1, gt.2.1, fun e => gt.2.2.2 e.symm⟩
  have tg : ∀ p, p < n → sp_at A B P (fun x => x < n) p t l := fun p hp => sp_t hg pk pl (sp_s (fe_tg hg ft pk p hp)) (h p hp)
  rcases Classical.em (q = A l) with e | e
  · subst e
    exact cl_t ft (e2_ hg (p := A l) (jn_tc pt j) ⟨pl, Or.inl rfl⟩ (tg _ be.1))
  · exfalso
    have fo : ¬ gc A B (fun i => tr_ n P A B i ∧ i ≠ t) (fun x => x < n) r q := by
      rcases j with ⟨rfl, rfl⟩ | ⟨rfl, rfl⟩
      · exact fun w => tr_forest hg tt (gc_s w)
      · exact tr_forest hg tt
    have grq : gc A B (tr_ n P A B) (fun x => x < n) r q := jn_gc tt be.2.1 be.1 (jn_s j)
    have at' : A t = q ∨ B t = q := j.elim (fun z => Or.inl z.1) (fun z => Or.inr z.2)
    obtain ⟨s, ts, as, fs, gs, ns⟩ := eu_cl hg (k := k) (sp_any hg pt pl (tg q be.1) (jn_en (jn_s j) (fun w => be.2.2 w.symm)) ⟨Or.inl rfl, fun w => e w.symm⟩) ⟨t, tt, at', ft, grq, fo⟩
    have nst : s ≠ t := fun w => ns (w ▸ gq)
    have gsn := hg.2 s ts.1
    refine lm _ ?_ ⟨s, ts, fs, ?_, rfl⟩
    · rw [em]
      refine ct_lt (a := q) ns gq (fun z hz gz => ?_) be.1
      have w := gc_woL (D := fun i => i = t) gz (fun i ei ti va vb => ?_)
      · exact gc_mono (fun i y _ _ => ⟨y.1.1, y.2⟩) (fun _ y => y) w
      · subst ei
        intro y
        rcases at' with e' | e'
        · exact ns (e' ▸ y)
        · refine ns (gc_t y ?_)
          have := gc_l (L := fun i => tr_ n P A B i ∧ i ≠ s) (S := fun x => x < n) (A := A) (B := B) (k := i) ⟨tt, fun w => nst w.symm⟩ va vb
          rw [e'] at this; exact this
    · refine gc_t ((tr_all hg _ _).mpr gs) ?_
      rcases as with e' | e'
      · rw [e']; exact gc_r _
      · have := gc_l (A := A) (B := B) (L := P) (S := fun x => x < n) ts.1 gsn.2.1 gsn.2.2.1
        rw [e'] at this; exact gc_s this
/-- bridges: tree lines on no ring -/
theorem cv_br (hg : gr_ n P A B) (v : Nat) : (tr_ n P A B v ∧ ¬ ∃ k, ef_ n P A B k v) ↔ sp_br A B P (fun x => x < n) v := by
  constructor
  · rintro ⟨tv, no⟩
    refine ⟨tv.1, fun g => tr_forest hg tv ?_⟩
    refine gc_sub (fun m pm va vb => ?_) g
    rcases Classical.em (tr_ n P A B m) with q | q
    · exact gc_l (L := fun i => tr_ n P A B i ∧ i ≠ v) ⟨q, pm.2⟩ va vb
    · exact Classical.byContradiction fun w => no ⟨m, ⟨pm.1, q⟩, tv, w⟩
  · rintro ⟨pv, nb⟩
    have gv := hg.2 v pv
    have tv : tr_ n P A B v := by
      apply Classical.byContradiction
      intro q
      refine nb (gc_mono (fun i z _ _ => ⟨z.1, fun e => q (e ▸ z)⟩) (fun _ z => z) ((tr_all hg _ _).mp (gc_l pv gv.2.1 gv.2.2.1)))
    refine ⟨tv, ?_⟩
    rintro ⟨k, ⟨pk, ntk⟩, _, nk⟩
    have gk := hg.2 k pk
    obtain ⟨c, d, j, g1, g2⟩ := tr_split hg tv ((tr_all hg _ _).mp (gc_l pk gk.2.1 gk.2.2.1)) nk
    have up : ∀ {x y}, gc A B (fun i => tr_ n P A B i ∧ i ≠ v) (fun x => x < n) x y → gc A B (fun j => P j ∧ j ≠ v) (fun x => x < n) x y := fun z => gc_mono (fun i y _ _ => ⟨y.1.1, y.2⟩) (fun _ y => y) z
    have lk : gc A B (fun j => P j ∧ j ≠ v) (fun x => x < n) (A k) (B k) := gc_l (L := fun j => P j ∧ j ≠ v) ⟨pk, fun e => ntk (e ▸ tv)⟩ gk.2.1 gk.2.2.1
    have cd : gc A B (fun j => P j ∧ j ≠ v) (fun x => x < n) c d := gc_t (gc_s (up g1)) (gc_t lk (gc_s (up g2)))
    rcases j with ⟨rfl, rfl⟩ | ⟨rfl, rfl⟩
    · exact nb cd
    · exact nb (gc_s cd)
/-- hinges: points with lines of two kinds -/
theorem cv_hi (hg : gr_ n P A B) (p : Nat) : (∃ k l, tc_ A B P k p ∧ tc_ A B P l p ∧ ¬ fe_ n P A B k l) ↔ sp_hi A B P (fun x => x < n) p := by
  have ends : ∀ {k x}, P k → jn_ A B k p x → p < n ∧ x < n ∧ x ≠ p := by
    intro k x pk j
    have g := hg.2 k pk
    rcases j with ⟨rfl, rfl⟩ | ⟨rfl, rfl⟩
    · exact ⟨g.2.1, g.2.2.1, fun e => g.2.2.2 e.symm⟩
    · exact ⟨g.2.2.1, g.2.1, g.2.2.2⟩
  constructor
  · rintro ⟨k, l, hk, hl, nf⟩
    have j := oe_jn hk
    have j' := oe_jn hl
    obtain ⟨hp, hx⟩ := ends hk.1 j
    obtain ⟨_, hy⟩ := ends hl.1 j'
    exact ⟨hp, _, _, hx, hy, gc_t (gc_s (jn_gc hk.1 hp hx.1 j)) (jn_gc hl.1 hp hy.1 j'), fun z => nf (e2_ hg hk hl ⟨_, _, jn_en (jn_s j) hx.2, jn_en (jn_s j') hy.2, z⟩)⟩
  · rintro ⟨hp, u, v, hu, hv, g, ng⟩
    have near : ∀ u, u ≠ p → gc A B P (fun x => x < n) u p → ∃ k, tc_ A B P k p ∧ gc A B P (fun x => x < n ∧ x ≠ p) u (oe_ A B k p) := by
      intro u nu gu
      have key : ∀ m z w, P m → jn_ A B m z w → z < n → w < n → (z = p ∨ ∃ k, tc_ A B P k p ∧ gc A B P (fun x => x < n ∧ x ≠ p) z (oe_ A B k p)) → (w = p ∨ ∃ k, tc_ A B P k p ∧ gc A B P (fun x => x < n ∧ x ≠ p) w (oe_ A B k p)) := by
        intro m z w pm j hz hw h
        rcases Classical.em (w = p) with e | e
        · exact Or.inl e
        · rcases Classical.em (z = p) with f | f
          · subst f
            refine Or.inr ⟨m, jn_tc pm j, ?_⟩
            rw [oe_of (hg.2 m pm).2.2.2 j]; exact gc_r _
          · obtain ⟨k, tk, gk⟩ := h.resolve_left f
            exact Or.inr ⟨k, tk, gc_t (gc_s (jn_gc (S := fun x => x < n ∧ x ≠ p) pm ⟨hz, f⟩ ⟨hw, e⟩ j)) gk⟩
      exact ((gc_sep gu (fun z => z = p ∨ ∃ k, tc_ A B P k p ∧ gc A B P (fun x => x < n ∧ x ≠ p) z (oe_ A B k p)) fun m pm va vb => ⟨key m _ _ pm (Or.inl ⟨rfl, rfl⟩) va vb, key m _ _ pm (Or.inr ⟨rfl, rfl⟩) vb va⟩).mpr (Or.inl rfl)).resolve_left nu
    have gup : gc A B P (fun x => x < n) u p := Classical.byContradiction fun z => ng (gc_wo z g)
    obtain ⟨k, hk, gk⟩ := near u hu.2 gup
    obtain ⟨l, hl, gl⟩ := near v hv.2 (gc_t (gc_s g) gup)
    refine ⟨k, l, hk, hl, fun f => ng ?_⟩
    have j := oe_jn hk
    have j' := oe_jn hl
    exact gc_t gk (gc_t (sp_any hg hk.1 hl.1 (fe_tg hg f hk.1 p hp) (jn_en (jn_s j) (ends hk.1 j).2.2) (jn_en (jn_s j') (ends hl.1 j').2.2)) (gc_s gl))
end
end
section
/-! ===== union and find ===== -/
/-- f leads up to the root r x of every x below N -/
def uf_ (N : Nat) (f r : Nat → Nat) : Prop := ∃ h : Nat → Nat, ∀ x, x < N → f x < N ∧ (f x = x ∨ h (f x) < h x) ∧ r (f x) = r x ∧ (f x = x → r x = x) ∧ r x < N ∧ f (r x) = r x
def uq_ (N : Nat) (r : Nat → Nat) (E : Nat → Nat → Prop) : Prop := ∀ x y, x < N → y < N → (r x = r y ↔ cl_ E x y)
theorem uf_rr {N : Nat} {f r : Nat → Nat} (h : uf_ N f r) {x : Nat} (hx : x < N) : r x < N ∧ f (r x) = r x ∧ r (r x) = r x := by
  obtain ⟨g, h⟩ := h
  have a := h x hx
  exact ⟨a.2.2.2.2.1, a.2.2.2.2.2, (h _ a.2.2.2.2.1).2.2.2.1 a.2.2.2.2.2⟩
theorem uf_id (N : Nat) : uf_ N (fun x => x) (fun x => x) := ⟨fun _ => 0, fun x hx => ⟨hx, Or.inl rfl, rfl, fun _ => rfl, hx, rfl⟩⟩
theorem uf_join {N : Nat} {f r : Nat → Nat} (h : uf_ N f r) {i j : Nat} (hi : i < N) (hj : j < N) (ne : r i ≠ r j) : uf_ N (fu_ f (r i) (r j)) (fun x => if r x = r i then r j else r x) := by
  obtain ⟨a1, a2, a3⟩ := uf_rr h hi
  obtain ⟨b1, b2, b3⟩ := uf_rr h hj
  obtain ⟨g, h⟩ := h
  refine ⟨fun x => if r x = r i then g x + g (r j) + 1 else g x, fun x hx => ?_⟩
  obtain ⟨c1, c2, c3, c4, c5, c6⟩ := h x hx
  have nb : r (r j) ≠ r i := fun e => ne (e.symm.trans b3)
  dsimp only
  rcases Classical.em (x = r i) with e | e
  · subst e
    rw [fu_s, a3, if_pos rfl, if_pos rfl, if_neg nb, if_neg nb]
    refine ⟨b1, Or.inr (by omega), b3, fun q => absurd q.symm ne, b1, ?_⟩
    rw [fu_n (fun q => ne q.symm)]; exact b2
  · rw [fu_n e, c3]
    refine ⟨c1, ?_, rfl, fun q => ?_, ?_, ?_⟩
    · rcases c2 with c2 | c2
      · exact Or.inl c2
      · refine Or.inr ?_
        by_cases z : r x = r i
        · rw [if_pos z, if_pos z]; omega
        · rw [if_neg z, if_neg z]; exact c2
    · have := c4 q
      rw [if_neg (fun z => e (this.symm.trans z))]; exact this
    · by_cases z : r x = r i
      · rw [if_pos z]; exact b1
      · rw [if_neg z]; exact c5
    · by_cases z : r x = r i
      · rw [if_pos z, fu_n (fun q => ne q.symm)]; exact b2
      · rw [if_neg z, fu_n z]; exact c6
theorem uq_join {N : Nat} {r : Nat → Nat} {E E' : Nat → Nat → Prop} (h : uq_ N r E) {i j : Nat} (hi : i < N) (hj : j < N) (e : ∀ x y, E' x y ↔ E x y ∨ (x = i ∧ y = j)) : uq_ N (fun x => if r x = r i then r j else r x) E' := by
  intro x y hx hy
  rw [cl_add e x y, ← h x y hx hy, ← h x i hx hi, ← h j y hj hy, ← h x j hx hj, ← h i y hi hy]
  dsimp only
  by_cases a : r x = r i
  · by_cases b : r y = r i
    · rw [if_pos a, if_pos b]; exact ⟨fun _ => Or.inl (a.trans b.symm), fun _ => rfl⟩
    · rw [if_pos a, if_neg b]
      refine ⟨fun q => Or.inr (Or.inl ⟨a, q⟩), fun q => ?_⟩
      rcases q with q | q | q
      · exact absurd (q.symm.trans a) b
      · exact q.2
      · exact absurd q.2.symm b
  · by_cases b : r y = r i
    · rw [if_neg a, if_pos b]
      refine ⟨fun q => Or.inr (Or.inr ⟨q, b.symm⟩), fun q => ?_⟩
      rcases q with q | q | q
      · exact absurd (q.trans b) a
      · exact absurd q.1 a
      · exact q.1
    · rw [if_neg a, if_neg b]
      refine ⟨Or.inl, fun q => ?_⟩
      rcases q with q | q | q
      · exact q
      · exact absurd q.1 a
      · exact absurd q.2.symm b
theorem uq_same {N : Nat} {r : Nat → Nat} {E E' : Nat → Nat → Prop} (h : uq_ N r E) {i j : Nat} (hi : i < N) (hj : j < N) (s : r i = r j) (e : ∀ x y, E' x y ↔ E x y ∨ (x = i ∧ y = j)) : uq_ N r E' := by
  intro x y hx hy
  rw [cl_add e x y, ← h x y hx hy, ← h x i hx hi, ← h j y hj hy, ← h x j hx hj, ← h i y hi hy]
  refine ⟨Or.inl, fun q => ?_⟩
  rcases q with q | q | q
  · exact q
  · exact q.1.trans (s.trans q.2)
  · exact q.1.trans (s.symm.trans q.2)
theorem uq_e {N : Nat} {r : Nat → Nat} {E E' : Nat → Nat → Prop} (h : uq_ N r E) (e : ∀ x y, E x y ↔ E' x y) : uq_ N r E' := by
  have : E = E' := funext fun x => funext fun y => propext (e x y)
  rw [← this]; exact h
/-- an array of small numbers -/
def rp_n (N : Nat) (f : Nat → Nat) (a : Nat → Int32) : Prop := ∀ x, x < N → a x = nI (f x)
theorem rp_nu {N : Nat} {f : Nat → Nat} {a : Nat → Int32} (h : rp_n N f a) {i y : Nat} : rp_n N (fu_ f i y) (upd a i (nI y)) := by
  intro x hx
  rcases Classical.em (x = i) with e | e
  · subst e; rw [fu_s, pk_us]
  · rw [fu_n e, pk_un e]; exact h x hx
section
variable {n : Nat}
variable {f_present : Int32} {f_groupCount : Int32} {f_bridgeSet : Int32} {f_hingeSet : Int32} {f_walked : Int32} {a_endA : Nat → Int32} {a_endB : Nat → Int32} {a_number : Nat → Int32} {a_walkPoint : Nat → Int32} {a_parent : Nat → Int32} {a_parentLine : Nat → Int32} {a_lowest : Nat → Int32} {a_nextLine : Nat → Int32} {a_stack : Nat → Int32} {a_marked : Nat → Int32} {a_pointRoot : Nat → Int32} {a_lineRoot : Nat → Int32} {a_between : Nat → Int32} {a_melted : Nat → Int32} {a_pull : Nat → Int32} {a_left : Nat → Int32} {a_cameFrom : Nat → Int32} {a_queue : Nat → Int32} {a_matrix : Nat → Int64} {a_dist : Nat → Int32}
theorem xr_point (n8 : n ≤ 8) {f r : Nat → Nat} (hr : rp_n n f a_pointRoot) (hu : uf_ n f r) {x : Nat} (hx : x < n) {post : Int32 → Prop} (h : post (nI (r x))) : wpX_rootOfPoint post (nI n, f_present, f_groupCount, f_bridgeSet, f_hingeSet, f_walked, a_endA, a_endB, a_number, a_walkPoint, a_parent, a_parentLine, a_lowest, a_nextLine, a_stack, a_marked, a_pointRoot, a_lineRoot, a_between, a_melted, a_pull, a_left, a_cameFrom, a_queue, a_matrix, a_dist) (nI x) := by
  obtain ⟨g, H⟩ := hu
  have loop : ∀ fuel x, g x < fuel → x < n → post (nI (r x)) → wX_rootOfPoint_2 post (nI n) f_present f_groupCount f_bridgeSet f_hingeSet f_walked a_endA a_endB a_number a_walkPoint a_parent a_parentLine a_lowest a_nextLine a_stack a_marked a_pointRoot a_lineRoot a_between a_melted a_pull a_left a_cameFrom a_queue a_matrix a_dist fuel (nI x) := by
    intro fuel
    induction fuel with
    | zero => intro x h; omega
    | succ fuel ih =>
      intro x hf hx hp
      obtain ⟨c1, c2, c3, c4, c5, c6⟩ := H x hx
      have C : (nI x).toNatClampNeg = x := nI_clamp (by omega)
      have i8 : vp_in (nI x) 8 := vp_in_nI (by omega) (by decide)
      refine And.intro i8 ?_
      rw [C, hr x hx]
      refine pk_eq (f x) x (fun e => ?_) (fun e => ⟨i8, nm_e (ih (f x) ?_ c1 ?_)⟩)
      · rw [c4 e] at hp; exact hp
      · have := c2.resolve_left e; omega
      · rw [c3]; exact hp
  exact ⟨g x + 1, loop _ x (by omega) hx h⟩
theorem xr_line {f r : Nat → Nat} (hr : rp_n 16 f a_lineRoot) (hu : uf_ 16 f r) {x : Nat} (hx : x < 16) {post : Int32 → Prop} (h : post (nI (r x))) : wpX_rootOfLine post (nI n, f_present, f_groupCount, f_bridgeSet, f_hingeSet, f_walked, a_endA, a_endB, a_number, a_walkPoint, a_parent, a_parentLine, a_lowest, a_nextLine, a_stack, a_marked, a_pointRoot, a_lineRoot, a_between, a_melted, a_pull, a_left, a_cameFrom, a_queue, a_matrix, a_dist) (nI x) := by
  obtain ⟨g, H⟩ := hu
  have loop : ∀ fuel x, g x < fuel → x < 16 → post (nI (r x)) → wX_rootOfLine_2 post (nI n) f_present f_groupCount f_bridgeSet f_hingeSet f_walked a_endA a_endB a_number a_walkPoint a_parent a_parentLine a_lowest a_nextLine a_stack a_marked a_pointRoot a_lineRoot a_between a_melted a_pull a_left a_cameFrom a_queue a_matrix a_dist fuel (nI x) := by
    intro fuel
    induction fuel with
    | zero => intro x h; omega
    | succ fuel ih =>
      intro x hf hx hp
      obtain ⟨c1, c2, c3, c4, c5, c6⟩ := H x hx
      have C : (nI x).toNatClampNeg = x := nI_clamp (by omega)
      have i8 : vp_in (nI x) 16 := vp_in_nI (by omega) (by decide)
      refine And.intro i8 ?_
      rw [C, hr x hx]
      refine pk_eq (f x) x (fun e => ?_) (fun e => ⟨i8, nm_e (ih (f x) ?_ c1 ?_)⟩)
      · rw [c4 e] at hp; exact hp
      · have := c2.resolve_left e; omega
      · rw [c3]; exact hp
  exact ⟨g x + 1, loop _ x (by omega) hx h⟩
/-- two lines are joined -/
theorem xr_join {f r : Nat → Nat} {E E' : Nat → Nat → Prop} (hr : rp_n 16 f a_lineRoot) (hu : uf_ 16 f r) (hq : uq_ 16 r E) {i j : Nat} (hi : i < 16) (hj : j < 16) (e : ∀ x y, E' x y ↔ E x y ∨ (x = i ∧ y = j)) {post : SX → Prop}
    (h : ∀ f r a_lineRoot, rp_n 16 f a_lineRoot → uf_ 16 f r → uq_ 16 r E' → post (nI n, f_present, f_groupCount, f_bridgeSet, f_hingeSet, f_walked, a_endA, a_endB, a_number, a_walkPoint, a_parent, a_parentLine, a_lowest, a_nextLine, a_stack, a_marked, a_pointRoot, a_lineRoot, a_between, a_melted, a_pull, a_left, a_cameFrom, a_queue, a_matrix, a_dist)) : wpX_joinLines post (nI n, f_present, f_groupCount, f_bridgeSet, f_hingeSet, f_walked, a_endA, a_endB, a_number, a_walkPoint, a_parent, a_parentLine, a_lowest, a_nextLine, a_stack, a_marked, a_pointRoot, a_lineRoot, a_between, a_melted, a_pull, a_left, a_cameFrom, a_queue, a_matrix, a_dist) (nI i) (nI j) := by
  obtain ⟨a1, a2, a3⟩ := uf_rr hu hi
  obtain ⟨b1, b2, b3⟩ := uf_rr hu hj
  unfold wpX_joinLines
  dsimp only
  refine xr_line hr hu hi (xr_line hr hu hj ⟨vp_in_nI a1 (by decide), nm_e ?_⟩)
  rw [nI_clamp (show r i < 2 ^ 31 by omega), by_c (show r j < 128 by omega)]
  rcases Classical.em (r i = r j) with z | z
  · rw [upd_id (a := a_lineRoot) (u := r i) (x := nI (r j)) (by rw [hr _ a1, a2, z])]
    exact h f r _ hr hu (uq_same hq hi hj z e)
  · exact h _ _ _ (rp_nu hr) (uf_join hu hi hj z) (uq_join hq hi hj e)
end
end
section
/-! ===== the way of the tree between a line's ends ===== -/
/-- marked points: each but a has a tree line to one that was marked earlier -/
def cw_ (n : Nat) (P : Nat → Prop) (A B : Nat → Nat) (a : Nat) (M : Nat → Prop) (pl o : Nat → Nat) : Prop :=
  (∀ x, M x → x < n) ∧ M a ∧ (∀ x, M x → x ≠ a → tr_ n P A B (pl x) ∧ M (oe_ A B (pl x) x) ∧ jn_ A B (pl x) (oe_ A B (pl x) x) x ∧ o (oe_ A B (pl x) x) < o x)
def cw_c (n : Nat) (P : Nat → Prop) (A B : Nat → Nat) (M : Nat → Prop) : Prop := ∀ t, tr_ n P A B t → (M (A t) ↔ M (B t))
section
variable {n : Nat} {P M : Nat → Prop} {A B pl o : Nat → Nat} {a m : Nat}
theorem cw_put (hg : gr_ n P A B) (h : cw_ n P A B a M pl o) {t x y : Nat} (ht : tr_ n P A B t) (j : jn_ A B t x y) (mx : M x) (ny : ¬ M y) (yn : y < n) (hb : ∀ z, M z → o z < m) : cw_ n P A B a (fun z => M z ∨ z = y) (fu_ pl y t) (fu_ o y m) ∧ ∀ z, (M z ∨ z = y) → fu_ o y m z < m + 1 := by
  obtain ⟨h1, h2, h3⟩ := h
  have nm : ∀ {z}, M z → z ≠ y := fun mz e => ny (e ▸ mz)
  refine ⟨⟨fun z q => q.elim (h1 z) (fun e => e ▸ yn), Or.inl h2, fun z q nz => ?_⟩, fun z q => ?_⟩
  · rcases Classical.em (z = y) with e | e
    · subst e
      have oe : oe_ A B t z = x := oe_of (hg.2 t ht.1).2.2.2 (jn_s j)
      rw [fu_s, oe, fu_s, fu_n (nm mx)]
      exact ⟨ht, Or.inl mx, j, hb x mx⟩
    · have mz : M z := q.resolve_right e
      obtain ⟨b1, b2, b3, b4⟩ := h3 z mz nz
      rw [fu_n e, fu_n e, fu_n (nm b2)]
      exact ⟨b1, Or.inl b2, b3, b4⟩
  · rcases Classical.em (z = y) with e | e
    · subst e; rw [fu_s]; omega
    · rw [fu_n e]; have := hb z (q.resolve_right e); omega
theorem cw_inj (h : cw_ n P A B a M pl o) {x z : Nat} (mx : M x) (nx : x ≠ a) (mz : M z) (nz : z ≠ a) (e : pl z = pl x) : z = x := by
  obtain ⟨_, _, b3, b4⟩ := h.2.2 x mx nx
  obtain ⟨_, _, c3, c4⟩ := h.2.2 z mz nz
  rw [e] at c3 c4
  apply Classical.byContradiction
  intro ne
  have e1 : oe_ A B (pl x) x = z := by
    rcases b3 with ⟨q1, q2⟩ | ⟨q1, q2⟩
    · rcases c3 with ⟨w1, w2⟩ | ⟨w1, w2⟩
      · exact absurd (w2.symm.trans q2) ne
      · exact q1.symm.trans w1
    · rcases c3 with ⟨w1, w2⟩ | ⟨w1, w2⟩
      · exact q2.symm.trans w2
      · exact absurd (w1.symm.trans q1) ne
  have e2 : oe_ A B (pl x) z = x := by
    rcases b3 with ⟨q1, q2⟩ | ⟨q1, q2⟩
    · rcases c3 with ⟨w1, w2⟩ | ⟨w1, w2⟩
      · exact absurd (w2.symm.trans q2) ne
      · exact w2.symm.trans q2
    · rcases c3 with ⟨w1, w2⟩ | ⟨w1, w2⟩
      · exact w1.symm.trans q1
      · exact absurd (w1.symm.trans q1) ne
  rw [e1] at b4
  rw [e2] at c4
  omega
/-- a and a marked point hang together by lines of points marked up to it -/
theorem cw_way (h : cw_ n P A B a M pl o) : ∀ m y, o y < m → M y → gc A B (fun t => ∃ z, M z ∧ z ≠ a ∧ o z ≤ o y ∧ t = pl z) (fun x => x < n) a y := by
  intro m
  induction m with
  | zero => intro y h; omega
  | succ m ih =>
    intro y hy my
    rcases Classical.em (y = a) with e | e
    · subst e; exact gc_r _
    · obtain ⟨b1, b2, b3, b4⟩ := h.2.2 y my e
      have g := ih _ (by omega) b2
      refine gc_t (gc_mono (fun t ⟨z, z1, z2, z3, z4⟩ _ _ => ⟨z, z1, z2, by omega, z4⟩) (fun _ q => q) g) ?_
      exact jn_gc (L := fun t => ∃ z, M z ∧ z ≠ a ∧ o z ≤ o y ∧ t = pl z) ⟨y, my, e, Nat.le_refl _, rfl⟩ (h.1 _ b2) (h.1 _ my) b3
/-- one step of the way back: the line lies between the ends -/
theorem cw_fc (hg : gr_ n P A B) (h : cw_ n P A B a M pl o) {k x b : Nat} {Q : Nat → Prop} (ek : jn_ A B k a b) (mx : M x) (nx : x ≠ a) (gQ : gc A B Q (fun x => x < n) b x) (hQ : ∀ t, Q t → tr_ n P A B t ∧ ∃ z, M z ∧ z ≠ a ∧ o x < o z ∧ t = pl z) : fc_ n P A B k (pl x) := by
  obtain ⟨b1, b2, b3, b4⟩ := h.2.2 x mx nx
  refine ⟨b1, fun q => tr_forest hg b1 ?_⟩
  have q' : gc A B (fun i => tr_ n P A B i ∧ i ≠ pl x) (fun x => x < n) a b := by
    rcases ek with ⟨rfl, rfl⟩ | ⟨rfl, rfl⟩
    · exact q
    · exact gc_s q
  have g1 : gc A B (fun i => tr_ n P A B i ∧ i ≠ pl x) (fun x => x < n) b x := gc_mono (fun t qt _ _ => by
    obtain ⟨tt, z, z1, z2, z3, z4⟩ := hQ t qt
    refine ⟨tt, fun e => ?_⟩
    have := cw_inj h mx nx z1 z2 (z4.symm.trans e)
    rw [this] at z3; omega) (fun _ q => q) gQ
  have g2 : gc A B (fun i => tr_ n P A B i ∧ i ≠ pl x) (fun x => x < n) a (oe_ A B (pl x) x) := gc_mono (fun t ⟨z, z1, z2, z3, z4⟩ _ _ => by
    refine ⟨z4 ▸ (h.2.2 z z1 z2).1, fun e => ?_⟩
    have := cw_inj h mx nx z1 z2 (z4.symm.trans e)
    rw [this] at z3; omega) (fun _ q => q) (cw_way h _ _ (Nat.lt_succ_self _) b2)
  have g3 := gc_t (gc_s g2) (gc_t q' g1)
  rcases b3 with ⟨e1, e2⟩ | ⟨e1, e2⟩
  · rw [e1, e2]; exact g3
  · rw [e1, e2]; exact gc_s g3
end
section
variable {n : Nat} {P : Nat → Prop} {A B : Nat → Nat}
variable {f_present : Int32} {f_groupCount : Int32} {f_hingeSet : Int32} {f_walked : Int32} {a_endA : Nat → Int32} {a_endB : Nat → Int32} {a_number : Nat → Int32} {a_walkPoint : Nat → Int32} {a_parent : Nat → Int32} {a_parentLine : Nat → Int32} {a_lowest : Nat → Int32} {a_nextLine : Nat → Int32} {a_stack : Nat → Int32} {a_marked : Nat → Int32} {a_pointRoot : Nat → Int32} {a_between : Nat → Int32} {a_melted : Nat → Int32} {a_pull : Nat → Int32} {a_left : Nat → Int32} {a_cameFrom : Nat → Int32} {a_queue : Nat → Int32} {a_matrix : Nat → Int64} {a_dist : Nat → Int32}
/-- back along the way -/
theorem xv_171 (hX : xg_ n P A B f_present a_endA a_endB) {k : Nat} (pk : P k) (ntk : ¬ tr_ n P A B k) {M : Nat → Prop} {pl o : Nat → Nat} (hw : cw_ n P A B (A k) M pl o) (hp : ∀ x, M x → x ≠ A k → a_parentLine x = nI (pl x)) {Br : Nat → Prop} {E : Nat → Nat → Prop} {post : SX → Prop}
    (h : ∀ f r f_bridgeSet a_lineRoot, (∀ v, v < 32 → (bt f_bridgeSet v = true ↔ Br v ∧ ¬ fc_ n P A B k v)) → rp_n 16 f a_lineRoot → uf_ 16 f r → uq_ 16 r (fun x y => E x y ∨ (x = k ∧ fc_ n P A B k y)) → post (nI n, f_present, f_groupCount, f_bridgeSet, f_hingeSet, f_walked, a_endA, a_endB, a_number, a_walkPoint, a_parent, a_parentLine, a_lowest, a_nextLine, a_stack, a_marked, a_pointRoot, a_lineRoot, a_between, a_melted, a_pull, a_left, a_cameFrom, a_queue, a_matrix, a_dist)) :
    ∀ fuel x (Q : Nat → Prop) f r f_bridgeSet a_lineRoot, o x < fuel → M x → (∀ t, Q t → tr_ n P A B t ∧ ∃ z, M z ∧ z ≠ A k ∧ o x < o z ∧ t = pl z) → gc A B Q (fun x => x < n) (B k) x → (∀ t, Q t → fc_ n P A B k t) → (∀ v, v < 32 → (bt f_bridgeSet v = true ↔ Br v ∧ ¬ Q v)) → rp_n 16 f a_lineRoot → uf_ 16 f r → uq_ 16 r (fun x y => E x y ∨ (x = k ∧ Q y)) → wX_coverWay_171 post (nI k) fuel (nI x) (nI n) f_present f_groupCount f_bridgeSet f_hingeSet f_walked a_endA a_endB a_number a_walkPoint a_parent a_parentLine a_lowest a_nextLine a_stack a_marked a_pointRoot a_lineRoot a_between a_melted a_pull a_left a_cameFrom a_queue a_matrix a_dist := by
  have n8 := hX.1.1.2
  have g := hX.1.2 k pk
  intro fuel
  induction fuel with
  | zero => intro x _ _ _ _ _ h; omega
  | succ fuel ih =>
    intro x Q f r f_bridgeSet a_lineRoot hf mx hQ gQ fQ Hb Hr Hu Hq
    have xn := hw.1 x mx
    have C : (nI x).toNatClampNeg = x := nI_clamp (by omega)
    refine And.intro (vp_in_nI g.1 (by decide)) (pk_eq x (A k) (fun e => ?_) (fun e => ⟨vp_in_nI (by omega) (by decide), ?_⟩) rfl (yg_a hX.2.2 g.1))
    · have QQ : ∀ t, Q t ↔ fc_ n P A B k t := fun t => ⟨fQ t, fun z => Classical.byContradiction fun nq => z.2 (gc_s (gc_mono (fun i qi _ _ => ⟨(hQ i qi).1, fun e' => nq (e' ▸ qi)⟩) (fun _ q => q) (e ▸ gQ)))⟩
      refine h f r _ _ (fun v hv => ?_) Hr Hu (uq_e Hq fun a b => by rw [QQ b])
      rw [Hb v hv, QQ v]
    · rw [C]
      obtain ⟨b1, b2, b3, b4⟩ := hw.2.2 x mx e
      have p16 := (hX.1.2 _ b1.1).1
      have ft := cw_fc hX.1 hw (k := k) (b := B k) (Or.inl ⟨rfl, rfl⟩) mx e gQ hQ
      refine nm_r (hp x mx e) (nm_e (xr_join (E' := fun x' y => (E x' y ∨ (x' = k ∧ Q y)) ∨ (x' = pl x ∧ y = k)) Hr Hu Hq p16 g.1 (fun _ _ => Iff.rfl) fun f r a_lineRoot Hr Hu Hq => xo_ hX p16 (by omega) (ih _ (fun t => Q t ∨ t = pl x) f r _ _ (by omega) b2 (fun t qt => ?_) (gc_t (gc_mono (fun t qt _ _ => Or.inl qt) (fun _ q => q) gQ) (jn_gc (L := fun t => Q t ∨ t = pl x) (Or.inr rfl) xn (hw.1 _ b2) (jn_s b3))) (fun t qt => qt.elim (fQ t) (fun e' => e' ▸ ft)) (fun v hv => ?_) Hr Hu ?_)))
      · rcases qt with qt | rfl
        · obtain ⟨tt, z, z1, z2, z3, z4⟩ := hQ t qt
          exact ⟨tt, z, z1, z2, by omega, z4⟩
        · exact ⟨b1, x, mx, e, b4, rfl⟩
      · rw [bb_del rfl (by omega) hv, Hb v hv]
        exact ⟨fun z => ⟨z.1.1, fun w => w.elim z.1.2 z.2⟩, fun z => ⟨⟨z.1, fun w => z.2 (Or.inl w)⟩, fun w => z.2 (Or.inr w)⟩⟩
      · intro u v hu hv
        rw [Hq u v hu hv]
        refine ⟨fun z => cl_sub (fun a b w => ?_) z, fun z => cl_sub (fun a b w => ?_) z⟩
        · rcases w with (w | w) | ⟨rfl, rfl⟩
          · exact cl_b (Or.inl w)
          · exact cl_b (Or.inr ⟨w.1, Or.inl w.2⟩)
          · exact cl_s (cl_b (Or.inr ⟨rfl, Or.inr rfl⟩))
        · rcases w with w | ⟨rfl, w | rfl⟩
          · exact cl_b (Or.inl (Or.inl w))
          · exact cl_b (Or.inl (Or.inr ⟨rfl, w⟩))
          · exact cl_s (cl_b (Or.inr ⟨rfl, rfl⟩))
end
/-- the marks and lines so far, and how far the rounds are -/
def cm_ (n : Nat) (P : Nat → Prop) (A B : Nat → Nat) (a : Nat) (M : Nat → Prop) (a_parentLine a_marked : Nat → Int32) : Prop := ∃ pl o m, cw_ n P A B a M pl o ∧ (∀ z, M z → o z < m) ∧ mr_ n M a_marked ∧ ∀ x, M x → x ≠ a → a_parentLine x = nI (pl x)
section
variable {n : Nat} {P : Nat → Prop} {A B : Nat → Nat}
variable {f_present : Int32} {f_groupCount : Int32} {f_bridgeSet : Int32} {f_hingeSet : Int32} {f_walked : Int32} {a_endA : Nat → Int32} {a_endB : Nat → Int32} {a_number : Nat → Int32} {a_walkPoint : Nat → Int32} {a_parent : Nat → Int32} {a_lowest : Nat → Int32} {a_nextLine : Nat → Int32} {a_stack : Nat → Int32} {a_pointRoot : Nat → Int32} {a_lineRoot : Nat → Int32} {a_between : Nat → Int32} {a_melted : Nat → Int32} {a_pull : Nat → Int32} {a_left : Nat → Int32} {a_cameFrom : Nat → Int32} {a_queue : Nat → Int32} {a_matrix : Nat → Int64} {a_dist : Nat → Int32}
theorem xv_57 (hX : xg_ n P A B f_present a_endA a_endB) {x1 x2 : Int32} {a r : Nat} (hT : ∀ v, bt x2 v = true ↔ tr_ n P A B v) {post : SX → Prop} {J : Int32 → (Nat → Int32) → (Nat → Int32) → (Nat → Int32) → (Nat → Int32) → (Nat → Int32) → (Nat → Int32) → (Nat → Int32) → (Nat → Int32) → (Nat → Int32) → (Nat → Int32) → (Nat → Int32) → (Nat → Int32) → (Nat → Int32) → (Nat → Int32) → (Nat → Int32) → (Nat → Int32) → (Nat → Int32) → (Nat → Int32) → (Nat → Int64) → (Nat → Int32) → Prop}
    (h : ∀ M a_parentLine a_marked, cm_ n P A B a M a_parentLine a_marked → (cw_c n P A B M ∨ r + 2 ≤ ct_n M n) → J (nI (r + 1)) a_endA a_endB a_number a_walkPoint a_parent a_parentLine a_lowest a_nextLine a_stack a_marked a_pointRoot a_lineRoot a_between a_melted a_pull a_left a_cameFrom a_queue a_matrix a_dist) :
    ∀ d k M a_parentLine a_marked, k + d = 16 → cm_ n P A B a M a_parentLine a_marked → (cw_c n P A B M ∨ r + 2 ≤ ct_n M n ∨ (r + 1 ≤ ct_n M n ∧ ∀ j, j < k → tr_ n P A B j → (M (A j) ↔ M (B j)))) → wX_coverWay_57 post J x1 x2 (nI r) (nI n) f_present f_groupCount f_bridgeSet f_hingeSet f_walked (d + 1) (nI k) a_endA a_endB a_number a_walkPoint a_parent a_parentLine a_lowest a_nextLine a_stack a_marked a_pointRoot a_lineRoot a_between a_melted a_pull a_left a_cameFrom a_queue a_matrix a_dist
  | 0, k, M, a_parentLine, a_marked, hk, I, c => by
    have e : k = 16 := by omega
    subst e
    refine br_t (show (16 : Int32) ≤ nI 16 from by decide) (nm_r (nI_1 r) (h M _ _ I ?_))
    rcases c with c | c | c
    · exact Or.inl c
    · exact Or.inr c
    · exact Or.inl fun t tt => c.2 t (hX.1.2 t tt.1).1 tt
  | d + 1, k, M, a_parentLine, a_marked, hk, I, c => by
    have n8 := hX.1.1.2
    have hk16 : k < 16 := by omega
    have go : (tr_ n P A B k → (M (A k) ↔ M (B k))) → wX_coverWay_57 post J x1 x2 (nI r) (nI n) f_present f_groupCount f_bridgeSet f_hingeSet f_walked (d + 1) (nI (k + 1)) a_endA a_endB a_number a_walkPoint a_parent a_parentLine a_lowest a_nextLine a_stack a_marked a_pointRoot a_lineRoot a_between a_melted a_pull a_left a_cameFrom a_queue a_matrix a_dist := by
      intro q
      refine xv_57 hX hT h d (k + 1) M _ _ (by omega) I ?_
      rcases c with c | c | c
      · exact Or.inl c
      · exact Or.inr (Or.inl c)
      · refine Or.inr (Or.inr ⟨c.1, fun j hj tj => ?_⟩)
        rcases Nat.lt_or_ge j k with w | w
        · exact c.2 j w tj
        · have e : j = k := by omega
          subst e; exact q tj
    refine br_f (nI_ge (b := 16) hk16 (by decide)) (bb_br0 rfl (by omega) (fun t => nm_r (nI_1 k) (go fun q => absurd ((hT k).mpr q) t)) (fun t => ?_))
    have tk := (hT k).mp t
    have g := hX.1.2 k tk.1
    have EA := yg_a hX.2.2 hk16
    have EB := yg_b hX.2.2 hk16
    have CA : (nI (A k)).toNatClampNeg = A k := nI_clamp (by omega)
    have CB : (nI (B k)).toNatClampNeg = B k := nI_clamp (by omega)
    have i16 : vp_in (nI k) 16 := vp_in_nI hk16 (by decide)
    have iA : vp_in (nI (A k)) 8 := vp_in_nI (by omega) (by decide)
    have iB : vp_in (nI (B k)) 8 := vp_in_nI (by omega) (by decide)
    obtain ⟨pl, o, m, hw, hm, Hm, Hp⟩ := I
    rw [EA, EB, CA, CB]
    refine ⟨i16, iA, i16, iB, ?_⟩
    -- a new point is marked
    have put : ∀ x y, jn_ A B k x y → M x → ¬ M y → y < n → wX_coverWay_132 post J (wX_coverWay_57 post J x1 x2 (nI r) (nI n) f_present f_groupCount f_bridgeSet f_hingeSet f_walked (d + 1)) x1 x2 (nI r) (nI k) (nI y) (nI n) f_present f_groupCount f_bridgeSet f_hingeSet f_walked a_endA a_endB a_number a_walkPoint a_parent a_parentLine a_lowest a_nextLine a_stack a_marked a_pointRoot a_lineRoot a_between a_melted a_pull a_left a_cameFrom a_queue a_matrix a_dist := by
      intro x y j mx ny yn
      have iy : vp_in (nI y) 8 := vp_in_nI (by omega) (by decide)
      refine And.intro iy (nm_e ⟨iy, nm_e (nm_r (nI_1 k) ?_)⟩)
      rw [nI_clamp (show y < 2 ^ 31 by omega), by_b1, by_c (show k < 128 by omega)]
      obtain ⟨hw', hm'⟩ := cw_put hX.1 hw tk j mx ny yn hm
      refine xv_57 hX hT h d (k + 1) (fun z => M z ∨ z = y) _ _ (by omega) ⟨fu_ pl y k, fu_ o y m, m + 1, hw', hm', mr_put Hm (fun x hx => Iff.rfl), fun z mz nz => ?_⟩ ?_
      · rcases Classical.em (z = y) with e | e
        · subst e; rw [fu_s, pk_us]
        · rw [fu_n e, pk_un e]; exact Hp z (mz.resolve_right e) nz
      · have cc := ct_add (P := M) ny yn
        rcases c with c | c | c
        · exfalso
          have := c k tk
          rcases j with ⟨rfl, rfl⟩ | ⟨rfl, rfl⟩
          · exact ny (this.mp mx)
          · exact ny (this.mpr mx)
        · exact Or.inr (Or.inl (by omega))
        · exact Or.inr (Or.inl (by omega))
    rcases Hm _ g.2.1 with ⟨ma, ea⟩ | ⟨ma, ea⟩
    · rcases Hm _ g.2.2.1 with ⟨mb, eb⟩ | ⟨mb, eb⟩
      · exact br_t (by rw [ea, eb]) (nm_r (nI_1 k) (go fun _ => ⟨fun _ => mb, fun _ => ma⟩))
      · exact br_f (by rw [ea, eb]; decide) ⟨i16, iA, br_f (by rw [ea]; decide) ⟨i16, put _ _ (Or.inl ⟨rfl, rfl⟩) ma mb g.2.2.1⟩⟩
    · rcases Hm _ g.2.2.1 with ⟨mb, eb⟩ | ⟨mb, eb⟩
      · exact br_f (by rw [ea, eb]; decide) ⟨i16, iA, br_t ea ⟨i16, put _ _ (Or.inr ⟨rfl, rfl⟩) mb ma g.2.1⟩⟩
      · exact br_t (by rw [ea, eb]) (nm_r (nI_1 k) (go fun _ => ⟨fun q => absurd q ma, fun q => absurd q mb⟩))
end
end
section
section
variable {n : Nat} {P : Nat → Prop} {A B : Nat → Nat}
variable {f_present : Int32} {f_groupCount : Int32} {f_hingeSet : Int32} {f_walked : Int32} {a_endA : Nat → Int32} {a_endB : Nat → Int32} {a_number : Nat → Int32} {a_walkPoint : Nat → Int32} {a_parent : Nat → Int32} {a_lowest : Nat → Int32} {a_nextLine : Nat → Int32} {a_stack : Nat → Int32} {a_pointRoot : Nat → Int32} {a_between : Nat → Int32} {a_melted : Nat → Int32} {a_pull : Nat → Int32} {a_left : Nat → Int32} {a_cameFrom : Nat → Int32} {a_queue : Nat → Int32} {a_matrix : Nat → Int64} {a_dist : Nat → Int32}
theorem xv_46 (hX : xg_ n P A B f_present a_endA a_endB) {k : Nat} {x2 : Int32} (pk : P k) (ntk : ¬ tr_ n P A B k) (hT : ∀ v, bt x2 v = true ↔ tr_ n P A B v) {Br : Nat → Prop} {E : Nat → Nat → Prop} {f r : Nat → Nat} {f_bridgeSet : Int32} {a_lineRoot : Nat → Int32} (Hb : ∀ v, v < 32 → (bt f_bridgeSet v = true ↔ Br v)) (Hr : rp_n 16 f a_lineRoot) (Hu : uf_ 16 f r) (Hq : uq_ 16 r E) {post : SX → Prop}
    (h : ∀ f r f_bridgeSet a_parentLine a_lineRoot a_marked, (∀ v, v < 32 → (bt f_bridgeSet v = true ↔ Br v ∧ ¬ fc_ n P A B k v)) → rp_n 16 f a_lineRoot → uf_ 16 f r → uq_ 16 r (fun x y => E x y ∨ (x = k ∧ fc_ n P A B k y)) → post (nI n, f_present, f_groupCount, f_bridgeSet, f_hingeSet, f_walked, a_endA, a_endB, a_number, a_walkPoint, a_parent, a_parentLine, a_lowest, a_nextLine, a_stack, a_marked, a_pointRoot, a_lineRoot, a_between, a_melted, a_pull, a_left, a_cameFrom, a_queue, a_matrix, a_dist)) :
    ∀ d i M a_parentLine a_marked, i + d = n → cm_ n P A B (A k) M a_parentLine a_marked → (cw_c n P A B M ∨ i + 1 ≤ ct_n M n) → wX_coverWay_46 post (nI k) x2 (nI n) f_present f_groupCount f_bridgeSet f_hingeSet f_walked (d + 1) (nI i) a_endA a_endB a_number a_walkPoint a_parent a_parentLine a_lowest a_nextLine a_stack a_marked a_pointRoot a_lineRoot a_between a_melted a_pull a_left a_cameFrom a_queue a_matrix a_dist
  | 0, i, M, a_parentLine, a_marked, hi, I, c => by
    have e : i = n := by omega
    subst e
    have n8 := hX.1.1.2
    have g := hX.1.2 k pk
    have cl : cw_c i P A B M := c.resolve_right (by have := ct_le M i; omega)
    obtain ⟨pl, o, m, hw, hm, Hm, Hp⟩ := I
    have mb : M (B k) := (gc_sep ((tr_all hX.1 _ _).mp (gc_l pk g.2.1 g.2.2.1)) M (fun t tt _ _ => cl t tt)).mp hw.2.1
    refine br_t (nI_le (Nat.le_refl _) (by omega)) ⟨vp_in_nI g.1 (by decide), nm_r (yg_b hX.2.2 g.1) ⟨o (B k) + 1, xv_171 hX pk ntk hw Hp (Br := Br) (E := E) (fun f r f_bridgeSet a_lineRoot H1 H2 H3 H4 => h f r _ _ _ _ H1 H2 H3 H4) _ (B k) (fun _ => False) f r _ _ (Nat.lt_succ_self _) mb (fun t q => q.elim) (gc_r _) (fun t q => q.elim) (fun v hv => ?_) Hr Hu (uq_e Hq fun x y => ⟨Or.inl, fun z => z.elim id (fun w => w.2.elim)⟩)⟩⟩
    rw [Hb v hv]; exact ⟨fun z => ⟨z, id⟩, fun z => z.1⟩
  | d + 1, i, M, a_parentLine, a_marked, hi, I, c => by
    have n8 := hX.1.1.2
    refine br_f (nI_ge (b := n) (by omega) (by omega)) ⟨17, xv_57 hX hT (fun M a_parentLine a_marked I c => xv_46 hX pk ntk hT Hb Hr Hu Hq h d (i + 1) M _ _ (by omega) I (c.elim Or.inl (fun q => Or.inr (by omega)))) 16 0 M _ _ rfl I ?_⟩
    rcases c with c | c
    · exact Or.inl c
    · exact Or.inr (Or.inr ⟨c, fun j hj => absurd hj (by omega)⟩)
theorem xv_2 (hX : xg_ n P A B f_present a_endA a_endB) {k : Nat} {x2 : Int32} (pk : P k) (ntk : ¬ tr_ n P A B k) (hT : ∀ v, bt x2 v = true ↔ tr_ n P A B v) {Br : Nat → Prop} {E : Nat → Nat → Prop} {f r : Nat → Nat} {f_bridgeSet : Int32} {a_lineRoot : Nat → Int32} (Hb : ∀ v, v < 32 → (bt f_bridgeSet v = true ↔ Br v)) (Hr : rp_n 16 f a_lineRoot) (Hu : uf_ 16 f r) (Hq : uq_ 16 r E) {post : SX → Prop}
    (h : ∀ f r f_bridgeSet a_parentLine a_lineRoot a_marked, (∀ v, v < 32 → (bt f_bridgeSet v = true ↔ Br v ∧ ¬ fc_ n P A B k v)) → rp_n 16 f a_lineRoot → uf_ 16 f r → uq_ 16 r (fun x y => E x y ∨ (x = k ∧ fc_ n P A B k y)) → post (nI n, f_present, f_groupCount, f_bridgeSet, f_hingeSet, f_walked, a_endA, a_endB, a_number, a_walkPoint, a_parent, a_parentLine, a_lowest, a_nextLine, a_stack, a_marked, a_pointRoot, a_lineRoot, a_between, a_melted, a_pull, a_left, a_cameFrom, a_queue, a_matrix, a_dist)) :
    ∀ d i a_parentLine a_marked, i + d = n → mr_ i (fun x => x = A k) a_marked → wX_coverWay_2 post (nI k) x2 (nI n) f_present f_groupCount f_bridgeSet f_hingeSet f_walked (d + 1) (nI i) a_endA a_endB a_number a_walkPoint a_parent a_parentLine a_lowest a_nextLine a_stack a_marked a_pointRoot a_lineRoot a_between a_melted a_pull a_left a_cameFrom a_queue a_matrix a_dist
  | 0, i, a_parentLine, a_marked, hi, I => by
    have e : i = n := by omega
    subst e
    have n8 := hX.1.1.2
    have g := hX.1.2 k pk
    refine br_t (nI_le (Nat.le_refl _) (by omega)) ⟨i + 1, xv_46 hX pk ntk hT Hb Hr Hu Hq h i 0 (fun x => x = A k) _ _ (by omega) ⟨fun _ => 0, fun _ => 0, 1, ⟨fun x e => e ▸ g.2.1, rfl, fun x e ne => absurd e ne⟩, fun z _ => Nat.lt_succ_self 0, I, fun x e ne => absurd e ne⟩ (Or.inr (ct_pos (P := fun x => x = A k) rfl g.2.1))⟩
  | d + 1, i, a_parentLine, a_marked, hi, I => by
    have n8 := hX.1.1.2
    have g := hX.1.2 k pk
    have hin : i < n := by omega
    have C : (nI i).toNatClampNeg = i := nI_clamp (by omega)
    have i8 : vp_in (nI i) 8 := vp_in_nI (by omega) (by decide)
    refine br_f (nI_ge hin (by omega)) ⟨i8, nm_e ⟨vp_in_nI g.1 (by decide), ?_⟩⟩
    rw [C, by_b1, by_b0]
    refine pk_eq i (A k) (fun e => ⟨i8, nm_e (nm_r (nI_1 i) (xv_2 hX pk ntk hT Hb Hr Hu Hq h d (i + 1) _ _ (by omega) fun x hx => ?_))⟩) (fun e => ⟨i8, nm_e (nm_r (nI_1 i) (xv_2 hX pk ntk hT Hb Hr Hu Hq h d (i + 1) _ _ (by omega) fun x hx => ?_))⟩) rfl (yg_a hX.2.2 g.1)
    · rcases Classical.em (x = i) with z | z
      · subst z; rw [pk_us]; exact Or.inl ⟨e, rfl⟩
      · rw [pk_un z]; exact I x (by omega)
    · rcases Classical.em (x = i) with z | z
      · subst z; rw [pk_us]; exact Or.inr ⟨e, rfl⟩
      · rw [pk_un z]; exact I x (by omega)
end
section
variable {n : Nat} {P : Nat → Prop} {A B : Nat → Nat}
variable {f_present : Int32} {f_groupCount : Int32} {f_bridgeSet : Int32} {f_hingeSet : Int32} {f_walked : Int32} {a_endA : Nat → Int32} {a_endB : Nat → Int32} {a_number : Nat → Int32} {a_walkPoint : Nat → Int32} {a_parent : Nat → Int32} {a_parentLine : Nat → Int32} {a_lowest : Nat → Int32} {a_nextLine : Nat → Int32} {a_stack : Nat → Int32} {a_marked : Nat → Int32} {a_pointRoot : Nat → Int32} {a_lineRoot : Nat → Int32} {a_between : Nat → Int32} {a_melted : Nat → Int32} {a_pull : Nat → Int32} {a_left : Nat → Int32} {a_cameFrom : Nat → Int32} {a_queue : Nat → Int32} {a_matrix : Nat → Int64} {a_dist : Nat → Int32}
theorem xv_cover (hX : xg_ n P A B f_present a_endA a_endB) {k : Nat} {x2 : Int32} (pk : P k) (ntk : ¬ tr_ n P A B k) (hT : ∀ v, bt x2 v = true ↔ tr_ n P A B v) {Br : Nat → Prop} {E : Nat → Nat → Prop} {f r : Nat → Nat} (Hb : ∀ v, v < 32 → (bt f_bridgeSet v = true ↔ Br v)) (Hr : rp_n 16 f a_lineRoot) (Hu : uf_ 16 f r) (Hq : uq_ 16 r E) {post : SX → Prop}
    (h : ∀ f r f_bridgeSet a_parentLine a_lineRoot a_marked, (∀ v, v < 32 → (bt f_bridgeSet v = true ↔ Br v ∧ ¬ fc_ n P A B k v)) → rp_n 16 f a_lineRoot → uf_ 16 f r → uq_ 16 r (fun x y => E x y ∨ (x = k ∧ fc_ n P A B k y)) → post (nI n, f_present, f_groupCount, f_bridgeSet, f_hingeSet, f_walked, a_endA, a_endB, a_number, a_walkPoint, a_parent, a_parentLine, a_lowest, a_nextLine, a_stack, a_marked, a_pointRoot, a_lineRoot, a_between, a_melted, a_pull, a_left, a_cameFrom, a_queue, a_matrix, a_dist)) : wpX_coverWay post (nI n, f_present, f_groupCount, f_bridgeSet, f_hingeSet, f_walked, a_endA, a_endB, a_number, a_walkPoint, a_parent, a_parentLine, a_lowest, a_nextLine, a_stack, a_marked, a_pointRoot, a_lineRoot, a_between, a_melted, a_pull, a_left, a_cameFrom, a_queue, a_matrix, a_dist) (nI k) x2 :=
  ⟨n + 1, xv_2 hX pk ntk hT Hb Hr Hu Hq h n 0 _ _ (by omega) (fun x hx => absurd hx (by omega))⟩
/-- how many kinds of lines a point has -/
theorem xk_loop (hX : xg_ n P A B f_present a_endA a_endB) {f r : Nat → Nat} (Hr : rp_n 16 f a_lineRoot) (Hu : uf_ 16 f r) {p : Nat} (hp : p < 2 ^ 31) {post : Int32 → Prop} (h : post (nI (ct_n (fun v => ∃ j, tc_ A B P j p ∧ r j = v) 16))) :
    ∀ d k x2, k + d = 16 → (∀ v, v < 32 → (bt x2 v = true ↔ ∃ j, j < k ∧ tc_ A B P j p ∧ r j = v)) → wX_blocksAt_7 post (nI p) (nI n) f_present f_groupCount f_bridgeSet f_hingeSet f_walked a_endA a_endB a_number a_walkPoint a_parent a_parentLine a_lowest a_nextLine a_stack a_marked a_pointRoot a_lineRoot a_between a_melted a_pull a_left a_cameFrom a_queue a_matrix a_dist (d + 1) x2 (nI (ct_n (fun v => ∃ j, j < k ∧ tc_ A B P j p ∧ r j = v) 16)) (nI k)
  | 0, k, x2, hk, I => by
    have e : k = 16 := by omega
    subst e
    refine br_t (show (16 : Int32) ≤ nI 16 from by decide) ?_
    rw [ct_eq (Q := fun v => ∃ j, tc_ A B P j p ∧ r j = v) (fun v _ => ⟨fun ⟨j, _, a, b⟩ => ⟨j, a, b⟩, fun ⟨j, a, b⟩ => ⟨j, (hX.1.2 j a.1).1, a, b⟩⟩)]
    exact h
  | d + 1, k, x2, hk, I => by
    have hk16 : k < 16 := by omega
    refine br_f (nI_ge (b := 16) hk16 (by decide)) (xt_ hX hk16 hp (fun t => br_f bb_10 (xr_line Hr Hu hk16 ?_)) (fun t => br_t rfl (nm_r (nI_1 k) ?_)))
    · have rk := (uf_rr Hu hk16).1
      have add : ∀ v, (∃ j, j < k + 1 ∧ tc_ A B P j p ∧ r j = v) ↔ (∃ j, j < k ∧ tc_ A B P j p ∧ r j = v) ∨ v = r k := by
        intro v
        constructor
        · rintro ⟨j, a, b, c⟩
          rcases Nat.lt_or_ge j k with w | w
          · exact Or.inl ⟨j, w, b, c⟩
          · have e : j = k := by omega
            subst e; exact Or.inr c.symm
        · rintro (⟨j, a, b⟩ | rfl)
          · exact ⟨j, by omega, b⟩
          · exact ⟨k, by omega, t, rfl⟩
      have I' : ∀ v, v < 32 → (bt (x2 ||| ((1 : Int32) <<< (nI (r k) &&& 31))) v = true ↔ ∃ j, j < k + 1 ∧ tc_ A B P j p ∧ r j = v) := by
        intro v hv
        rw [bb_or1 rfl (by omega) hv, I v hv, add v]
      have go := xk_loop hX Hr Hu hp h d (k + 1) _ (by omega) I'
      refine bb_br0 rfl (by omega) (fun q => nm_r ((nI_1 _).trans (congrArg nI ?_)) (nm_e (nm_r (nI_1 k) go))) (fun q => nm_r ((Int32.add_zero _).trans (congrArg nI ?_)) (nm_e (nm_r (nI_1 k) go)))
      · have nq : ¬ ∃ j, j < k ∧ tc_ A B P j p ∧ r j = r k := fun w => q ((I (r k) (by omega)).mpr w)
        rw [← ct_add (P := fun v => ∃ j, j < k ∧ tc_ A B P j p ∧ r j = v) nq rk]
        exact ct_eq fun v _ => (add v).symm
      · have yq := (I (r k) (by omega)).mp q
        exact ct_eq fun v _ => ⟨fun w => (add v).mpr (Or.inl w), fun w => ((add v).mp w).elim id (fun e => e ▸ yq)⟩
    · have same : ∀ v, (∃ j, j < k + 1 ∧ tc_ A B P j p ∧ r j = v) ↔ (∃ j, j < k ∧ tc_ A B P j p ∧ r j = v) := by
        intro v
        constructor
        · rintro ⟨j, a, b, c⟩
          rcases Nat.lt_or_ge j k with w | w
          · exact ⟨j, w, b, c⟩
          · have e : j = k := by omega
            subst e; exact absurd b t
        · rintro ⟨j, a, b⟩
          exact ⟨j, by omega, b⟩
      rw [ct_eq (fun v _ => (same v).symm)]
      exact xk_loop hX Hr Hu hp h d (k + 1) _ (by omega) (fun v hv => by rw [I v hv, same v])
theorem xk_ (hX : xg_ n P A B f_present a_endA a_endB) {f r : Nat → Nat} (Hr : rp_n 16 f a_lineRoot) (Hu : uf_ 16 f r) {p : Nat} (hp : p < 2 ^ 31) {post : Int32 → Prop} (h : post (nI (ct_n (fun v => ∃ j, tc_ A B P j p ∧ r j = v) 16))) : wpX_blocksAt post (nI n, f_present, f_groupCount, f_bridgeSet, f_hingeSet, f_walked, a_endA, a_endB, a_number, a_walkPoint, a_parent, a_parentLine, a_lowest, a_nextLine, a_stack, a_marked, a_pointRoot, a_lineRoot, a_between, a_melted, a_pull, a_left, a_cameFrom, a_queue, a_matrix, a_dist) (nI p) := by
  have K : wX_blocksAt_7 post (nI p) (nI n) f_present f_groupCount f_bridgeSet f_hingeSet f_walked a_endA a_endB a_number a_walkPoint a_parent a_parentLine a_lowest a_nextLine a_stack a_marked a_pointRoot a_lineRoot a_between a_melted a_pull a_left a_cameFrom a_queue a_matrix a_dist 17 0 (nI (ct_n (fun v => ∃ j, j < 0 ∧ tc_ A B P j p ∧ r j = v) 16)) (nI 0) := xk_loop hX Hr Hu hp h 16 0 0 rfl (fun v hv => ⟨fun z => absurd z (bb_0 v), fun ⟨j, a, _⟩ => by omega⟩)
  rw [ct_zero (fun v _ => by rintro ⟨j, a, _⟩; omega)] at K
  exact ⟨17, K⟩
end
section
variable {n : Nat} {P : Nat → Prop} {A B : Nat → Nat}
variable {f_present : Int32} {f_groupCount : Int32} {f_bridgeSet : Int32} {f_walked : Int32} {a_endA : Nat → Int32} {a_endB : Nat → Int32} {a_number : Nat → Int32} {a_walkPoint : Nat → Int32} {a_parent : Nat → Int32} {a_parentLine : Nat → Int32} {a_lowest : Nat → Int32} {a_nextLine : Nat → Int32} {a_stack : Nat → Int32} {a_marked : Nat → Int32} {a_pointRoot : Nat → Int32} {a_lineRoot : Nat → Int32} {a_between : Nat → Int32} {a_melted : Nat → Int32} {a_pull : Nat → Int32} {a_left : Nat → Int32} {a_cameFrom : Nat → Int32} {a_queue : Nat → Int32} {a_matrix : Nat → Int64} {a_dist : Nat → Int32}
theorem xs_166 (hX : xg_ n P A B f_present a_endA a_endB) {f r : Nat → Nat} (Hr : rp_n 16 f a_lineRoot) (Hu : uf_ 16 f r) (Hq : uq_ 16 r (ef_ n P A B)) {post : SX → Prop} (h : ∀ f_hingeSet, (∀ v, bt f_hingeSet v = true ↔ sp_hi A B P (fun x => x < n) v) → post (nI n, f_present, f_groupCount, f_bridgeSet, f_hingeSet, f_walked, a_endA, a_endB, a_number, a_walkPoint, a_parent, a_parentLine, a_lowest, a_nextLine, a_stack, a_marked, a_pointRoot, a_lineRoot, a_between, a_melted, a_pull, a_left, a_cameFrom, a_queue, a_matrix, a_dist)) :
    ∀ d k f_hingeSet, k + d = n → (∀ v, v < 32 → (bt f_hingeSet v = true ↔ v < k ∧ sp_hi A B P (fun x => x < n) v)) → wX_solveByCovers_166 post (nI n) f_present f_groupCount f_bridgeSet f_walked a_endA a_endB a_number a_walkPoint a_parent a_parentLine a_lowest a_nextLine a_stack a_marked a_pointRoot a_lineRoot a_between a_melted a_pull a_left a_cameFrom a_queue a_matrix a_dist (d + 1) (nI k) f_hingeSet
  | 0, k, f_hingeSet, hk, I => by
    have e : k = n := by omega
    subst e
    have n8 := hX.1.1.2
    refine br_t (nI_le (Nat.le_refl _) (by omega)) (h _ fun v => ?_)
    rcases Nat.lt_or_ge v 32 with z | z
    · rw [I v z]; exact ⟨fun q => q.2, fun q => ⟨q.1, q⟩⟩
    · exact ⟨fun q => absurd (bb_lt q) (by omega), fun q => absurd q.1 (by omega)⟩
  | d + 1, k, f_hingeSet, hk, I => by
    have n8 := hX.1.1.2
    have hkn : k < n := by omega
    refine br_f (nI_ge hkn (by omega)) (xk_ hX Hr Hu (by omega) ?_)
    have key : 2 ≤ ct_n (fun v => ∃ j, tc_ A B P j k ∧ r j = v) 16 ↔ sp_hi A B P (fun x => x < n) k := by
      rw [← cv_hi hX.1 k]
      constructor
      · intro z
        obtain ⟨i, j, hij, hj, ⟨a, ta, ra⟩, ⟨b, tb, rb⟩⟩ := ct_two z
        refine ⟨a, b, ta, tb, fun q => ?_⟩
        have := (Hq a b (hX.1.2 a ta.1).1 (hX.1.2 b tb.1).1).mpr q
        omega
      · rintro ⟨a, b, ta, tb, q⟩
        have ha := (hX.1.2 a ta.1).1
        have hb := (hX.1.2 b tb.1).1
        exact ct_two' (fun e => q ((Hq a b ha hb).mp e)) (uf_rr Hu ha).1 (uf_rr Hu hb).1 ⟨a, ta, rfl⟩ ⟨b, tb, rfl⟩
    have cl : ct_n (fun v => ∃ j, tc_ A B P j k ∧ r j = v) 16 < 2 ^ 31 := Nat.lt_of_le_of_lt (ct_le _ _) (by decide)
    refine pk_le _ 1 (fun y => nm_r (bb_or0 _) (nm_r (nI_1 k) (xs_166 hX Hr Hu Hq h d (k + 1) _ (by omega) fun v hv => ?_))) (fun y => nm_e (nm_r (nI_1 k) (xs_166 hX Hr Hu Hq h d (k + 1) _ (by omega) fun v hv => ?_))) rfl rfl cl
    · rw [I v hv]
      refine ⟨fun z => ⟨by omega, z.2⟩, fun z => ⟨?_, z.2⟩⟩
      rcases Nat.lt_or_ge v k with w | w
      · exact w
      · have e : v = k := by omega
        subst e
        have := key.mpr z.2
        omega
    · rw [bb_or1 rfl (by omega) hv, I v hv]
      constructor
      · rintro (q | rfl)
        · exact ⟨by omega, q.2⟩
        · exact ⟨by omega, key.mp (by omega)⟩
      · rintro ⟨q, w⟩
        rcases Nat.lt_or_ge v k with z | z
        · exact Or.inl ⟨z, w⟩
        · exact Or.inr (by omega)
end
section
variable {n : Nat} {P : Nat → Prop} {A B : Nat → Nat}
variable {f_present : Int32} {f_groupCount : Int32} {f_walked : Int32} {a_endA : Nat → Int32} {a_endB : Nat → Int32} {a_number : Nat → Int32} {a_walkPoint : Nat → Int32} {a_parent : Nat → Int32} {a_lowest : Nat → Int32} {a_nextLine : Nat → Int32} {a_stack : Nat → Int32} {a_pointRoot : Nat → Int32} {a_between : Nat → Int32} {a_melted : Nat → Int32} {a_pull : Nat → Int32} {a_left : Nat → Int32} {a_cameFrom : Nat → Int32} {a_queue : Nat → Int32} {a_matrix : Nat → Int64} {a_dist : Nat → Int32}
theorem xs_125 (hX : xg_ n P A B f_present a_endA a_endB) {x1 : Int32} (hT : ∀ v, bt x1 v = true ↔ tr_ n P A B v) {post : SX → Prop}
    (h : ∀ f r f_bridgeSet f_hingeSet a_parentLine a_lineRoot a_marked, rp_n 16 f a_lineRoot → uf_ 16 f r → uq_ 16 r (ef_ n P A B) → (∀ v, bt f_bridgeSet v = true ↔ sp_br A B P (fun x => x < n) v) → (∀ v, bt f_hingeSet v = true ↔ sp_hi A B P (fun x => x < n) v) → post (nI n, f_present, f_groupCount, f_bridgeSet, f_hingeSet, f_walked, a_endA, a_endB, a_number, a_walkPoint, a_parent, a_parentLine, a_lowest, a_nextLine, a_stack, a_marked, a_pointRoot, a_lineRoot, a_between, a_melted, a_pull, a_left, a_cameFrom, a_queue, a_matrix, a_dist)) :
    ∀ d k f r f_bridgeSet f_hingeSet a_parentLine a_lineRoot a_marked, k + d = 16 → rp_n 16 f a_lineRoot → uf_ 16 f r → uq_ 16 r (fun x y => x < k ∧ ef_ n P A B x y) → (∀ v, v < 32 → (bt f_bridgeSet v = true ↔ tr_ n P A B v ∧ ¬ ∃ j, j < k ∧ ef_ n P A B j v)) → wX_solveByCovers_125 post x1 (d + 1) (nI k) (nI n) f_present f_groupCount f_bridgeSet f_hingeSet f_walked a_endA a_endB a_number a_walkPoint a_parent a_parentLine a_lowest a_nextLine a_stack a_marked a_pointRoot a_lineRoot a_between a_melted a_pull a_left a_cameFrom a_queue a_matrix a_dist
  | 0, k, f, r, f_bridgeSet, f_hingeSet, a_parentLine, a_lineRoot, a_marked, hk, Hr, Hu, Hq, Hb => by
    have e : k = 16 := by omega
    subst e
    have all : ∀ x y, (x < 16 ∧ ef_ n P A B x y) ↔ ef_ n P A B x y := fun x y => ⟨fun z => z.2, fun z => ⟨(hX.1.2 x z.1.1).1, z⟩⟩
    have Hq' := uq_e Hq all
    refine br_t (show (16 : Int32) ≤ nI 16 from by decide) ⟨n + 1, xs_166 hX Hr Hu Hq' (fun f_hingeSet H => h f r _ _ _ _ _ Hr Hu Hq' (fun v => ?_) H) n 0 0 (by omega) (fun v hv => ⟨fun z => absurd z (bb_0 v), fun z => absurd z.1 (by omega)⟩)⟩
    rw [← cv_br hX.1 v]
    rcases Nat.lt_or_ge v 32 with z | z
    · rw [Hb v z]
      exact ⟨fun q => ⟨q.1, fun ⟨j, w⟩ => q.2 ⟨j, (all j v).mpr w⟩⟩, fun q => ⟨q.1, fun ⟨j, w⟩ => q.2 ⟨j, w.2⟩⟩⟩
    · exact ⟨fun q => absurd (bb_lt q) (by omega), fun q => by have := (hX.1.2 v q.1.1).1; omega⟩
  | d + 1, k, f, r, f_bridgeSet, f_hingeSet, a_parentLine, a_lineRoot, a_marked, hk, Hr, Hu, Hq, Hb => by
    have hk16 : k < 16 := by omega
    have no : (¬ (P k ∧ ¬ tr_ n P A B k)) → wX_solveByCovers_125 post x1 (d + 1) (nI (k + 1)) (nI n) f_present f_groupCount f_bridgeSet f_hingeSet f_walked a_endA a_endB a_number a_walkPoint a_parent a_parentLine a_lowest a_nextLine a_stack a_marked a_pointRoot a_lineRoot a_between a_melted a_pull a_left a_cameFrom a_queue a_matrix a_dist := by
      intro z
      have same : ∀ x y, (x < k ∧ ef_ n P A B x y) ↔ (x < k + 1 ∧ ef_ n P A B x y) := fun x y => ⟨fun w => ⟨by omega, w.2⟩, fun w => ⟨by
        rcases Nat.lt_or_ge x k with q | q
        · exact q
        · have e : x = k := by omega
          subst e; exact absurd w.2.1 z, w.2⟩⟩
      refine xs_125 hX hT h d (k + 1) f r _ _ _ _ _ (by omega) Hr Hu (uq_e Hq same) (fun v hv => ?_)
      rw [Hb v hv]
      exact ⟨fun q => ⟨q.1, fun ⟨j, w⟩ => q.2 ⟨j, (same j v).mpr w⟩⟩, fun q => ⟨q.1, fun ⟨j, w⟩ => q.2 ⟨j, (same j v).mp w⟩⟩⟩
    refine br_f (nI_ge (b := 16) hk16 (by decide)) (xh_ hX hk16 (fun pk => br_f bb_10 (bb_br0 rfl (by omega) (fun q => ?_) (fun q => nm_r (nI_1 k) (no fun z => z.2 ((hT k).mp q))))) (fun pk => br_t rfl (nm_r (nI_1 k) (no fun z => pk z.1))))
    have ntk : ¬ tr_ n P A B k := fun z => q ((hT k).mpr z)
    refine xv_cover hX pk ntk hT Hb Hr Hu Hq fun f r f_bridgeSet a_parentLine a_lineRoot a_marked H1 H2 H3 H4 => nm_r (nI_1 k) (xs_125 hX hT h d (k + 1) f r _ _ _ _ _ (by omega) H2 H3 (uq_e H4 fun x y => ?_) (fun v hv => ?_))
    · constructor
      · rintro (w | ⟨rfl, w⟩)
        · exact ⟨by omega, w.2⟩
        · exact ⟨by omega, ⟨pk, ntk⟩, w⟩
      · rintro ⟨w1, w2⟩
        rcases Nat.lt_or_ge x k with z | z
        · exact Or.inl ⟨z, w2⟩
        · have e : x = k := by omega
          subst e; exact Or.inr ⟨rfl, w2.2⟩
    · rw [H1 v hv]
      constructor
      · rintro ⟨⟨w1, w2⟩, w3⟩
        refine ⟨w1, fun ⟨j, z1, z2⟩ => ?_⟩
        rcases Nat.lt_or_ge j k with z | z
        · exact w2 ⟨j, z, z2⟩
        · have e : j = k := by omega
          subst e; exact w3 z2.2
      · rintro ⟨w1, w2⟩
        exact ⟨⟨w1, fun ⟨j, z1, z2⟩ => w2 ⟨j, by omega, z2⟩⟩, fun z => w2 ⟨k, by omega, ⟨pk, ntk⟩, z⟩⟩
end
end
section
section
variable {n : Nat} {P : Nat → Prop} {A B : Nat → Nat}
variable {f_present : Int32} {f_walked : Int32} {a_endA : Nat → Int32} {a_endB : Nat → Int32} {a_number : Nat → Int32} {a_walkPoint : Nat → Int32} {a_parent : Nat → Int32} {a_lowest : Nat → Int32} {a_nextLine : Nat → Int32} {a_stack : Nat → Int32} {a_between : Nat → Int32} {a_melted : Nat → Int32} {a_pull : Nat → Int32} {a_left : Nat → Int32} {a_cameFrom : Nat → Int32} {a_queue : Nat → Int32} {a_matrix : Nat → Int64} {a_dist : Nat → Int32}
theorem xs_36 (hX : xg_ n P A B f_present a_endA a_endB) {f_bridgeSet : Int32} {f_hingeSet : Int32} {a_parentLine : Nat → Int32} {a_marked : Nat → Int32} {post : SX → Prop}
    (h : ∀ f r f_bridgeSet f_hingeSet a_parentLine a_pointRoot a_lineRoot a_marked, rp_n 16 f a_lineRoot → uf_ 16 f r → uq_ 16 r (ef_ n P A B) → (∀ v, bt f_bridgeSet v = true ↔ sp_br A B P (fun x => x < n) v) → (∀ v, bt f_hingeSet v = true ↔ sp_hi A B P (fun x => x < n) v) → post (nI n, f_present, nI (gc_c A B P (fun x => x < n)), f_bridgeSet, f_hingeSet, f_walked, a_endA, a_endB, a_number, a_walkPoint, a_parent, a_parentLine, a_lowest, a_nextLine, a_stack, a_marked, a_pointRoot, a_lineRoot, a_between, a_melted, a_pull, a_left, a_cameFrom, a_queue, a_matrix, a_dist)) :
    ∀ d k f r x1 a_pointRoot a_lineRoot, k + d = 16 → (∀ v, v < 32 → (bt x1 v = true ↔ v < k ∧ tr_ n P A B v)) → rp_n n f a_pointRoot → uf_ n f r → uq_ n r (gc_E A B (fun i => P i ∧ i < k) (fun x => x < n)) → (∀ x, x < k → a_lineRoot x = nI x) →
    wX_solveByCovers_36 post (nI n) f_present f_bridgeSet f_hingeSet f_walked (d + 1) x1 (nI k) (nI (gc_c A B (fun i => P i ∧ i < k) (fun x => x < n))) a_endA a_endB a_number a_walkPoint a_parent a_parentLine a_lowest a_nextLine a_stack a_marked a_pointRoot a_lineRoot a_between a_melted a_pull a_left a_cameFrom a_queue a_matrix a_dist
  | 0, k, f, r, x1, a_pointRoot, a_lineRoot, hk, I1, Hr, Hu, Hq, Hl => by
    have e : k = 16 := by omega
    subst e
    have hT : ∀ v, bt x1 v = true ↔ tr_ n P A B v := by
      intro v
      rcases Nat.lt_or_ge v 32 with z | z
      · rw [I1 v z]; exact ⟨fun q => q.2, fun q => ⟨(hX.1.2 v q.1).1, q⟩⟩
      · exact ⟨fun q => absurd (bb_lt q) (by omega), fun q => by have := (hX.1.2 v q.1).1; omega⟩
    rw [gc_ceq (L' := P) (S' := fun x => x < n) (fun k => ⟨fun z => z.1, fun z => ⟨z, (hX.1.2 k z).1⟩⟩) (fun x => Iff.rfl)]
    refine br_t (show (16 : Int32) ≤ nI 16 from by decide) ⟨17, xs_125 hX hT (fun f r f_bridgeSet f_hingeSet a_parentLine a_lineRoot a_marked H1 H2 H3 H4 H5 => h f r _ _ _ _ _ _ H1 H2 H3 H4 H5) 16 0 (fun x => x) (fun x => x) _ _ _ _ _ rfl Hl (uf_id 16) (fun x y hx hy => ?_) (fun v hv => ?_)⟩
    · refine ⟨fun (e : x = y) => e ▸ cl_r _ _, fun q => ?_⟩
      exact ((q (fun z => z = x) (fun a b w => by omega)).mp rfl).symm
    · rw [hT v]
      exact ⟨fun z => ⟨z, fun ⟨j, w, _⟩ => by omega⟩, fun z => z.1⟩
  | d + 1, k, f, r, x1, a_pointRoot, a_lineRoot, hk, I1, Hr, Hu, Hq, Hl => by
    have n8 := hX.1.1.2
    have hk16 : k < 16 := by omega
    have Hl' : ∀ x, x < k + 1 → upd a_lineRoot k (nI k) x = nI x := by
      intro x hx
      rcases Classical.em (x = k) with z | z
      · subst z; rw [pk_us]
      · rw [pk_un z]; exact Hl x (by omega)
    have keep : ¬ tr_ n P A B k → ∀ v, v < 32 → (bt x1 v = true ↔ v < k + 1 ∧ tr_ n P A B v) := by
      intro nt v hv
      rw [I1 v hv]
      refine ⟨fun z => ⟨by omega, z.2⟩, fun z => ⟨?_, z.2⟩⟩
      rcases Nat.lt_or_ge v k with w | w
      · exact w
      · have e : v = k := by omega
        subst e; exact absurd z.2 nt
    refine br_f (nI_ge (b := 16) hk16 (by decide)) ⟨vp_in_nI hk16 (by decide), nm_r (e' := upd a_lineRoot k (nI k)) (by rw [nI_clamp (by omega), by_c (by omega)]) (xh_ hX hk16 (fun pk => br_f bb_10 ⟨vp_in_nI hk16 (by decide), ?_⟩) (fun pk => br_t rfl (nm_r (nI_1 k) ?_)))⟩
    · have g := hX.1.2 k pk
      rw [yg_a hX.2.2 hk16, yg_b hX.2.2 hk16]
      have ra := (uf_rr Hu g.2.1).1
      have rb := (uf_rr Hu g.2.2.1).1
      have eE : ∀ x y, gc_E A B (fun i => P i ∧ i < k + 1) (fun x => x < n) x y ↔ gc_E A B (fun i => P i ∧ i < k) (fun x => x < n) x y ∨ (x = A k ∧ y = B k) := by
        intro x y
        constructor
        · rintro ⟨j, hj, aj, bj, rfl, rfl⟩
          rcases Nat.lt_or_ge j k with w | w
          · exact Or.inl ⟨j, ⟨hj.1, w⟩, aj, bj, rfl, rfl⟩
          · have e : j = k := by omega
            subst e; exact Or.inr ⟨rfl, rfl⟩
        · rintro (⟨j, hj, q⟩ | ⟨rfl, rfl⟩)
          · exact ⟨j, ⟨hj.1, by omega⟩, q⟩
          · exact ⟨k, ⟨pk, by omega⟩, g.2.1, g.2.2.1, rfl, rfl⟩
      have same := Hq _ _ g.2.1 g.2.2.1
      refine xr_point n8 Hr Hu g.2.1 ⟨vp_in_nI hk16 (by decide), xr_point n8 Hr Hu g.2.2.1 (pk_eq (r (A k)) (r (B k)) (fun e => nm_r (nI_1 k) ?_) (fun e => ⟨vp_in_nI (by omega) (by decide), nm_r (e' := upd a_pointRoot (r (A k)) (nI (r (B k)))) (by rw [nI_clamp (by omega), by_c (by omega)]) (nm_e ?_)⟩))⟩
      · have gk : gc A B (fun i => P i ∧ i < k) (fun x => x < n) (A k) (B k) := same.mp e
        have ce : gc_c A B (fun i => P i ∧ i < k) (fun x => x < n) = gc_c A B (fun i => P i ∧ i < k + 1) (fun x => x < n) := nc_eqv (fun _ => Iff.rfl) fun u v _ _ => by
          rw [tr_pl pk g.2.1 g.2.2.1 u v]
          refine ⟨Or.inl, fun z => ?_⟩
          rcases z with z | ⟨z1, z2⟩ | ⟨z1, z2⟩
          · exact z
          · exact gc_t z1 (gc_t gk z2)
          · exact gc_t z1 (gc_t (gc_s gk) z2)
        rw [ce]
        exact xs_36 hX h d (k + 1) f r x1 _ _ (by omega) (keep fun t => t.2 gk) Hr Hu (uq_same Hq g.2.1 g.2.2.1 e eE) Hl'
      · have tk : tr_ n P A B k := ⟨pk, fun z => e (same.mpr z)⟩
        have ce := nc_join (R := gc A B (fun i => P i ∧ i < k) (fun x => x < n)) (R' := gc A B (fun i => P i ∧ i < k + 1) (fun x => x < n)) (S := fun x => x < n) (N := 8) (a := A k) (b := B k) gc_r (fun _ _ => gc_s) (fun _ _ _ => gc_t) (fun x hx => Nat.lt_of_lt_of_le hx n8) g.2.1 g.2.2.1 tk.2 (fun u v => tr_pl pk g.2.1 g.2.2.1 u v)
        refine nm_r (e' := nI (gc_c A B (fun i => P i ∧ i < k + 1) (fun x => x < n))) ?_ (nm_r (nI_1 k) (xs_36 hX h d (k + 1) _ _ _ _ _ (by omega) (fun v hv => ?_) (rp_nu Hr) (uf_join Hu g.2.1 g.2.2.1 e) (uq_join Hq g.2.1 g.2.2.1 eE) Hl'))
        · rw [show gc_c A B (fun i => P i ∧ i < k) (fun x => x < n) = gc_c A B (fun i => P i ∧ i < k + 1) (fun x => x < n) + 1 from ce.symm]
          exact nI_pred _
        · rw [bb_or1 rfl (by omega) hv, I1 v hv]
          constructor
          · rintro (z | rfl)
            · exact ⟨by omega, z.2⟩
            · exact ⟨by omega, tk⟩
          · rintro ⟨z, y⟩
            rcases Nat.lt_or_ge v k with w | w
            · exact Or.inl ⟨w, y⟩
            · exact Or.inr (by omega)
    · have el : ∀ i, (P i ∧ i < k) ↔ (P i ∧ i < k + 1) := fun i => ⟨fun z => ⟨z.1, by omega⟩, fun z => ⟨z.1, by
        rcases Nat.lt_or_ge i k with w | w
        · exact w
        · have e : i = k := by omega
          subst e; exact absurd z.1 pk⟩⟩
      rw [gc_ceq el (fun x => Iff.rfl)]
      refine xs_36 hX h d (k + 1) f r x1 _ _ (by omega) (keep fun t => pk t.1) Hr Hu (uq_e Hq fun x y => ?_) Hl'
      exact ⟨fun ⟨j, a, q⟩ => ⟨j, (el j).mp a, q⟩, fun ⟨j, a, q⟩ => ⟨j, (el j).mpr a, q⟩⟩
theorem xs_12 (hX : xg_ n P A B f_present a_endA a_endB) {f_bridgeSet : Int32} {f_hingeSet : Int32} {a_parentLine : Nat → Int32} {a_lineRoot : Nat → Int32} {a_marked : Nat → Int32} {post : SX → Prop}
    (h : ∀ f r f_bridgeSet f_hingeSet a_parentLine a_pointRoot a_lineRoot a_marked, rp_n 16 f a_lineRoot → uf_ 16 f r → uq_ 16 r (ef_ n P A B) → (∀ v, bt f_bridgeSet v = true ↔ sp_br A B P (fun x => x < n) v) → (∀ v, bt f_hingeSet v = true ↔ sp_hi A B P (fun x => x < n) v) → post (nI n, f_present, nI (gc_c A B P (fun x => x < n)), f_bridgeSet, f_hingeSet, f_walked, a_endA, a_endB, a_number, a_walkPoint, a_parent, a_parentLine, a_lowest, a_nextLine, a_stack, a_marked, a_pointRoot, a_lineRoot, a_between, a_melted, a_pull, a_left, a_cameFrom, a_queue, a_matrix, a_dist)) :
    ∀ d p a_pointRoot, p + d = n → (∀ x, x < p → a_pointRoot x = nI x) → wX_solveByCovers_12 post 0 (nI n) f_present (nI n) f_bridgeSet f_hingeSet f_walked (d + 1) (nI p) a_endA a_endB a_number a_walkPoint a_parent a_parentLine a_lowest a_nextLine a_stack a_marked a_pointRoot a_lineRoot a_between a_melted a_pull a_left a_cameFrom a_queue a_matrix a_dist
  | 0, p, a_pointRoot, hp, I => by
    have e : p = n := by omega
    subst e
    have n8 := hX.1.1.2
    have none : ∀ i, ¬ (P i ∧ i < 0) := fun i z => by omega
    have eq0 : ∀ u v, gc A B (fun i => P i ∧ i < 0) (fun x => x < p) u v → u = v := fun u v z => ((gc_sep z (fun x => x = u) (fun k q _ _ => absurd q (none k))).mp rfl).symm
    have ce : gc_c A B (fun i => P i ∧ i < 0) (fun x => x < p) = p := by
      show ct_n _ 8 = p
      rw [ct_ext n8 (fun k _ z => z.1)]
      refine Nat.le_antisymm (ct_le _ _) ?_
      have : ∀ N, N ≤ p → N ≤ ct_n (nc_rep (gc A B (fun i => P i ∧ i < 0) (fun x => x < p)) (fun x => x < p)) N := by
        intro N
        induction N with
        | zero => intro _; omega
        | succ N ih =>
          intro hN
          simp only [ct_n]
          rw [ct_bt ⟨by omega, fun q hq _ z => by have := eq0 q N z; omega⟩]
          have := ih (by omega)
          omega
      exact this p (Nat.le_refl _)
    have K := fun f_bridgeSet f_hingeSet a_parentLine a_lineRoot a_marked => xs_36 (f_bridgeSet := f_bridgeSet) (f_hingeSet := f_hingeSet) (a_parentLine := a_parentLine) (a_marked := a_marked) hX h 16 0 (fun x => x) (fun x => x) 0 a_pointRoot a_lineRoot rfl (fun v hv => ⟨fun z => absurd z (bb_0 v), fun z => absurd z.1 (by omega)⟩) I (uf_id p) (fun x y hx hy => ⟨fun (e : x = y) => e ▸ cl_r _ _, fun q => eq0 x y q⟩) (fun x hx => absurd hx (by omega))
    rw [ce] at K
    exact br_t (nI_le (Nat.le_refl _) (by omega)) ⟨17, K _ _ _ _ _⟩
  | d + 1, p, a_pointRoot, hp, I => by
    have n8 := hX.1.1.2
    have hpn : p < n := by omega
    refine br_f (nI_ge hpn (by omega)) ⟨vp_in_nI (by omega) (by decide), nm_e (nm_r (nI_1 p) (xs_12 hX h d (p + 1) _ (by omega) fun x hx => ?_))⟩
    rw [nI_clamp (by omega), by_c (by omega)]
    rcases Classical.em (x = p) with z | z
    · subst z; rw [pk_us]
    · rw [pk_un z]; exact I x (by omega)
end
section
variable {n : Nat} {P : Nat → Prop} {A B : Nat → Nat}
variable {f_present : Int32} {f_groupCount : Int32} {f_bridgeSet : Int32} {f_hingeSet : Int32} {f_walked : Int32} {a_endA : Nat → Int32} {a_endB : Nat → Int32} {a_number : Nat → Int32} {a_walkPoint : Nat → Int32} {a_parent : Nat → Int32} {a_parentLine : Nat → Int32} {a_lowest : Nat → Int32} {a_nextLine : Nat → Int32} {a_stack : Nat → Int32} {a_marked : Nat → Int32} {a_pointRoot : Nat → Int32} {a_lineRoot : Nat → Int32} {a_between : Nat → Int32} {a_melted : Nat → Int32} {a_pull : Nat → Int32} {a_left : Nat → Int32} {a_cameFrom : Nat → Int32} {a_queue : Nat → Int32} {a_matrix : Nat → Int64} {a_dist : Nat → Int32}
theorem xs_solve (hX : xg_ n P A B f_present a_endA a_endB) {post : SX → Prop}
    (h : ∀ f r f_bridgeSet f_hingeSet a_parentLine a_pointRoot a_lineRoot a_marked, rp_n 16 f a_lineRoot → uf_ 16 f r → uq_ 16 r (ef_ n P A B) → (∀ v, bt f_bridgeSet v = true ↔ sp_br A B P (fun x => x < n) v) → (∀ v, bt f_hingeSet v = true ↔ sp_hi A B P (fun x => x < n) v) → post (nI n, f_present, nI (gc_c A B P (fun x => x < n)), f_bridgeSet, f_hingeSet, f_walked, a_endA, a_endB, a_number, a_walkPoint, a_parent, a_parentLine, a_lowest, a_nextLine, a_stack, a_marked, a_pointRoot, a_lineRoot, a_between, a_melted, a_pull, a_left, a_cameFrom, a_queue, a_matrix, a_dist)) : wpX_solveByCovers post (nI n, f_present, f_groupCount, f_bridgeSet, f_hingeSet, f_walked, a_endA, a_endB, a_number, a_walkPoint, a_parent, a_parentLine, a_lowest, a_nextLine, a_stack, a_marked, a_pointRoot, a_lineRoot, a_between, a_melted, a_pull, a_left, a_cameFrom, a_queue, a_matrix, a_dist) :=
  ⟨n + 1, xs_12 hX h n 0 _ (by omega) (fun x hx => absurd hx (by omega))⟩
end
end
section
/-! ===== solve, block, spread ===== -/
section
variable {n : Nat} {P : Nat → Prop} {A B : Nat → Nat}
variable {f_present : Int32} {f_groupCount : Int32} {f_bridgeSet : Int32} {f_hingeSet : Int32} {f_walked : Int32} {a_endA : Nat → Int32} {a_endB : Nat → Int32} {a_number : Nat → Int32} {a_walkPoint : Nat → Int32} {a_parent : Nat → Int32} {a_parentLine : Nat → Int32} {a_lowest : Nat → Int32} {a_nextLine : Nat → Int32} {a_stack : Nat → Int32} {a_marked : Nat → Int32} {a_pointRoot : Nat → Int32} {a_lineRoot : Nat → Int32} {a_between : Nat → Int32} {a_melted : Nat → Int32} {a_pull : Nat → Int32} {a_left : Nat → Int32} {a_cameFrom : Nat → Int32} {a_queue : Nat → Int32} {a_matrix : Nat → Int64} {a_dist : Nat → Int32}
theorem xq_solve (hX : xg_ n P A B f_present a_endA a_endB) {e : Int32} (he : 0 ≤ e ∧ e ≤ 2) {post : SX → Prop}
    (h : ∀ (f_bridgeSet : Int32) (f_hingeSet : Int32) (f_walked : Int32) (a_number : Nat → Int32) (a_walkPoint : Nat → Int32) (a_parent : Nat → Int32) (a_parentLine : Nat → Int32) (a_lowest : Nat → Int32) (a_nextLine : Nat → Int32) (a_stack : Nat → Int32) (a_marked : Nat → Int32) (a_pointRoot : Nat → Int32) (a_lineRoot : Nat → Int32), (∀ v, bt f_bridgeSet v = true ↔ sp_br A B P (fun x => x < n) v) → (∀ v, bt f_hingeSet v = true ↔ sp_hi A B P (fun x => x < n) v) → post (nI n, f_present, nI (gc_c A B P (fun x => x < n)), f_bridgeSet, f_hingeSet, f_walked, a_endA, a_endB, a_number, a_walkPoint, a_parent, a_parentLine, a_lowest, a_nextLine, a_stack, a_marked, a_pointRoot, a_lineRoot, a_between, a_melted, a_pull, a_left, a_cameFrom, a_queue, a_matrix, a_dist)) : wpX_solve post (nI n, f_present, f_groupCount, f_bridgeSet, f_hingeSet, f_walked, a_endA, a_endB, a_number, a_walkPoint, a_parent, a_parentLine, a_lowest, a_nextLine, a_stack, a_marked, a_pointRoot, a_lineRoot, a_between, a_melted, a_pull, a_left, a_cameFrom, a_queue, a_matrix, a_dist) e := by
  unfold wpX_solve
  dsimp only
  refine br_c (fun _ => xl_solve hX fun f_bridgeSet f_hingeSet f_walked a_number a_walkPoint a_parent a_parentLine a_lowest a_nextLine a_stack H1 H2 => h _ _ _ _ _ _ _ _ _ _ _ _ _ H1 H2) (fun _ => br_c (fun _ => xb_solve hX fun f_bridgeSet f_hingeSet f_walked a_number a_walkPoint a_parent a_parentLine a_lowest a_nextLine a_stack a_marked H1 H2 => h _ _ _ _ _ _ _ _ _ _ _ _ _ H1 H2) (fun _ => xs_solve hX fun f r f_bridgeSet f_hingeSet a_parentLine a_pointRoot a_lineRoot a_marked _ _ _ H1 H2 => h _ _ _ _ _ _ _ _ _ _ _ _ _ H1 H2))
theorem xq_solve2 (hX : xg_ n P A B f_present a_endA a_endB) {post : SX → Prop}
    (h : ∀ f r (f_bridgeSet : Int32) (f_hingeSet : Int32) (a_parentLine : Nat → Int32) (a_pointRoot : Nat → Int32) (a_lineRoot : Nat → Int32) (a_marked : Nat → Int32), rp_n 16 f a_lineRoot → uf_ 16 f r → uq_ 16 r (ef_ n P A B) → post (nI n, f_present, nI (gc_c A B P (fun x => x < n)), f_bridgeSet, f_hingeSet, f_walked, a_endA, a_endB, a_number, a_walkPoint, a_parent, a_parentLine, a_lowest, a_nextLine, a_stack, a_marked, a_pointRoot, a_lineRoot, a_between, a_melted, a_pull, a_left, a_cameFrom, a_queue, a_matrix, a_dist)) : wpX_solve post (nI n, f_present, f_groupCount, f_bridgeSet, f_hingeSet, f_walked, a_endA, a_endB, a_number, a_walkPoint, a_parent, a_parentLine, a_lowest, a_nextLine, a_stack, a_marked, a_pointRoot, a_lineRoot, a_between, a_melted, a_pull, a_left, a_cameFrom, a_queue, a_matrix, a_dist) 2 := by
  unfold wpX_solve
  dsimp only
  exact br_f (by decide) (br_f (by decide) (xs_solve hX fun f r f_bridgeSet f_hingeSet a_parentLine a_pointRoot a_lineRoot a_marked H1 H2 H3 _ _ => h f r _ _ _ _ _ _ H1 H2 H3))
theorem xq_blockL (hX : xg_ n P A B f_present a_endA a_endB) {f r : Nat → Nat} (Hr : rp_n 16 f a_lineRoot) (Hu : uf_ 16 f r) {k : Nat} (hk : k < 16) {post : Int32 → SX → Prop} (h : ∀ m, (∀ v, bt m v = true ↔ P v ∧ r v = r k) → post m (nI n, f_present, f_groupCount, f_bridgeSet, f_hingeSet, f_walked, a_endA, a_endB, a_number, a_walkPoint, a_parent, a_parentLine, a_lowest, a_nextLine, a_stack, a_marked, a_pointRoot, a_lineRoot, a_between, a_melted, a_pull, a_left, a_cameFrom, a_queue, a_matrix, a_dist)) :
    ∀ d j x3, j + d = 16 → (∀ v, v < 32 → (bt x3 v = true ↔ v < j ∧ P v ∧ r v = r k)) → wX_block_26 post (nI (r k)) (nI n) f_present f_groupCount f_bridgeSet f_hingeSet f_walked a_endA a_endB a_number a_walkPoint a_parent a_parentLine a_lowest a_nextLine a_stack a_marked a_pointRoot a_lineRoot a_between a_melted a_pull a_left a_cameFrom a_queue a_matrix a_dist (d + 1) x3 (nI j)
  | 0, j, x3, hj, I => by
    have e : j = 16 := by omega
    subst e
    refine br_t (show (16 : Int32) ≤ nI 16 from by decide) (h _ fun v => ?_)
    rcases Nat.lt_or_ge v 32 with z | z
    · rw [I v z]; exact ⟨fun q => q.2, fun q => ⟨(hX.1.2 v q.1).1, q⟩⟩
    · exact ⟨fun q => absurd (bb_lt q) (by omega), fun q => by have := (hX.1.2 v q.1).1; omega⟩
  | d + 1, j, x3, hj, I => by
    have hj16 : j < 16 := by omega
    have no : (¬ (P j ∧ r j = r k)) → wX_block_26 post (nI (r k)) (nI n) f_present f_groupCount f_bridgeSet f_hingeSet f_walked a_endA a_endB a_number a_walkPoint a_parent a_parentLine a_lowest a_nextLine a_stack a_marked a_pointRoot a_lineRoot a_between a_melted a_pull a_left a_cameFrom a_queue a_matrix a_dist (d + 1) x3 (nI (j + 1)) := by
      intro z
      refine xq_blockL hX Hr Hu hk h d (j + 1) _ (by omega) fun v hv => ?_
      rw [I v hv]
      refine ⟨fun y => ⟨by omega, y.2⟩, fun y => ⟨?_, y.2⟩⟩
      rcases Nat.lt_or_ge v j with w | w
      · exact w
      · have e : v = j := by omega
        subst e; exact absurd y.2 z
    have rj := (uf_rr Hu hj16).1
    have rk := (uf_rr Hu hk).1
    refine br_f (nI_ge (b := 16) hj16 (by decide)) (xh_ hX hj16 (fun pj => br_f bb_10 (xr_line Hr Hu hj16 (pk_eq (r j) (r k) (fun e => nm_e (nm_r (nI_1 j) (xq_blockL hX Hr Hu hk h d (j + 1) _ (by omega) fun v hv => ?_))) (fun e => nm_r (bb_or0 _) (nm_r (nI_1 j) (no fun z => e z.2)))))) (fun pj => br_t rfl (nm_r (bb_or0 _) (nm_r (nI_1 j) (no fun z => pj z.1)))))
    rw [bb_or1 rfl (by omega) hv, I v hv]
    constructor
    · rintro (z | rfl)
      · exact ⟨by omega, z.2⟩
      · exact ⟨by omega, pj, e⟩
    · rintro ⟨z, y⟩
      rcases Nat.lt_or_ge v j with w | w
      · exact Or.inl ⟨w, y⟩
      · exact Or.inr (by omega)
theorem xq_block (hX : xg_ n P A B f_present a_endA a_endB) {k : Int32} {post : Int32 → SX → Prop}
    (h : ∀ j m (f_bridgeSet : Int32) (f_hingeSet : Int32) (a_parentLine : Nat → Int32) (a_pointRoot : Nat → Int32) (a_lineRoot : Nat → Int32) (a_marked : Nat → Int32), k = nI j → P j → (∀ v, bt m v = true ↔ v = j ∨ (P v ∧ v ≠ j ∧ sp_tg A B P (fun x => x < n) j v)) → post m (nI n, f_present, nI (gc_c A B P (fun x => x < n)), f_bridgeSet, f_hingeSet, f_walked, a_endA, a_endB, a_number, a_walkPoint, a_parent, a_parentLine, a_lowest, a_nextLine, a_stack, a_marked, a_pointRoot, a_lineRoot, a_between, a_melted, a_pull, a_left, a_cameFrom, a_queue, a_matrix, a_dist)) (h0 : (∀ j, j < 16 → k = nI j → ¬ P j) → post (-1) (nI n, f_present, f_groupCount, f_bridgeSet, f_hingeSet, f_walked, a_endA, a_endB, a_number, a_walkPoint, a_parent, a_parentLine, a_lowest, a_nextLine, a_stack, a_marked, a_pointRoot, a_lineRoot, a_between, a_melted, a_pull, a_left, a_cameFrom, a_queue, a_matrix, a_dist)) : wpX_block post (nI n, f_present, f_groupCount, f_bridgeSet, f_hingeSet, f_walked, a_endA, a_endB, a_number, a_walkPoint, a_parent, a_parentLine, a_lowest, a_nextLine, a_stack, a_marked, a_pointRoot, a_lineRoot, a_between, a_melted, a_pull, a_left, a_cameFrom, a_queue, a_matrix, a_dist) k := by
  unfold wpX_block
  dsimp only
  refine xh_i hX (fun j hj e pj => br_f bb_10 (xq_solve2 hX fun f r f_bridgeSet f_hingeSet a_parentLine a_pointRoot a_lineRoot a_marked H1 H2 H3 => ?_)) (fun z => br_t rfl (h0 z))
  subst e
  refine xr_line H1 H2 hj ⟨17, xq_blockL hX H1 H2 hj (fun m hm => h j m _ _ _ _ _ _ rfl pj fun v => ?_) 16 0 0 rfl (fun v hv => ⟨fun z => absurd z (bb_0 v), fun z => absurd z.1 (by omega)⟩)⟩
  rw [hm v]
  constructor
  · rintro ⟨pv, e⟩
    rcases Classical.em (v = j) with z | z
    · exact Or.inl z
    · exact Or.inr ⟨pv, z, fe_tg hX.1 ((H3 j v hj (hX.1.2 v pv).1).mp e.symm) pj⟩
  · rintro (rfl | ⟨pv, _, t⟩)
    · exact ⟨pj, rfl⟩
    · exact ⟨pv, ((H3 j v hj (hX.1.2 v pv).1).mpr (e4_ hX.1 pj pv t)).symm⟩
/-! spread -/
theorem xd_19 (hX : xg_ n P A B f_present a_endA a_endB) {x2 : Int32} {L : Nat → Prop} {p i : Nat} (hL : ∀ v, v < 16 → (bt x2 v = true ↔ L v)) (hP : ∀ v, L v → P v) {post : Int32 → Prop} {J : Int32 → Int32 → Prop}
    (h : ∀ x3, (∀ v, bt x3 v = true → gc A B L (fun x => x < n) p v) → bt x3 p = true → ((∀ j, L j → (bt x3 (A j) = true ↔ bt x3 (B j) = true)) ∨ i + 2 ≤ ct_n (fun v => bt x3 v = true) n) → J x3 (nI (i + 1))) :
    ∀ d k x3, k + d = 16 → (∀ v, bt x3 v = true → gc A B L (fun x => x < n) p v) → bt x3 p = true → ((∀ j, L j → (bt x3 (A j) = true ↔ bt x3 (B j) = true)) ∨ i + 2 ≤ ct_n (fun v => bt x3 v = true) n ∨ (i + 1 ≤ ct_n (fun v => bt x3 v = true) n ∧ ∀ j, j < k → L j → (bt x3 (A j) = true ↔ bt x3 (B j) = true))) → wX_spread_19 post J x2 (nI i) (nI n) f_present f_groupCount f_bridgeSet f_hingeSet f_walked a_endA a_endB a_number a_walkPoint a_parent a_parentLine a_lowest a_nextLine a_stack a_marked a_pointRoot a_lineRoot a_between a_melted a_pull a_left a_cameFrom a_queue a_matrix a_dist (d + 1) x3 (nI k)
  | 0, k, x3, hk, I, Ip, c => by
    have e : k = 16 := by omega
    subst e
    refine br_t (show (16 : Int32) ≤ nI 16 from by decide) (nm_r (nI_1 i) (h _ I Ip ?_))
    rcases c with c | c | c
    · exact Or.inl c
    · exact Or.inr c
    · exact Or.inl fun j lj => c.2 j (hX.1.2 j (hP j lj)).1 lj
  | d + 1, k, x3, hk, I, Ip, c => by
    have n8 := hX.1.1.2
    have hk16 : k < 16 := by omega
    have ha := yg_al hX.2.2 hk16
    have hb := yg_bl hX.2.2 hk16
    have i16 : vp_in (nI k) 16 := vp_in_nI hk16 (by decide)
    have go : (L k → (bt x3 (A k) = true ↔ bt x3 (B k) = true)) → wX_spread_19 post J x2 (nI i) (nI n) f_present f_groupCount f_bridgeSet f_hingeSet f_walked a_endA a_endB a_number a_walkPoint a_parent a_parentLine a_lowest a_nextLine a_stack a_marked a_pointRoot a_lineRoot a_between a_melted a_pull a_left a_cameFrom a_queue a_matrix a_dist (d + 1) x3 (nI (k + 1)) := by
      intro q
      refine xd_19 hX hL hP h d (k + 1) _ (by omega) I Ip ?_
      rcases c with c | c | c
      · exact Or.inl c
      · exact Or.inr (Or.inl c)
      · refine Or.inr (Or.inr ⟨c.1, fun j hj lj => ?_⟩)
        rcases Nat.lt_or_ge j k with w | w
        · exact c.2 j w lj
        · have e : j = k := by omega
          subst e; exact q lj
    have eb : ∀ v, v < 32 → (bt (((1 : Int32) <<< ((a_endA (nI k).toNatClampNeg) &&& 31)) ||| ((1 : Int32) <<< ((a_endB (nI k).toNatClampNeg) &&& 31))) v = true ↔ v = A k ∨ v = B k) := by
      intro v hv
      rw [bb_or, bb_shl (yg_a hX.2.2 hk16) (by omega) hv, bb_shl (yg_b hX.2.2 hk16) (by omega) hv]
    refine br_f (nI_ge (b := 16) hk16 (by decide)) ⟨i16, i16, ?_⟩
    intro ends hends
    have eb : ∀ v, v < 32 → (bt ends v = true ↔ v = A k ∨ v = B k) := fun v hv => by rw [hends]; exact eb v hv
    have meet : x3 &&& ends = 0 ↔ ¬ (bt x3 (A k) = true ∨ bt x3 (B k) = true) := by
      rw [bb_eq0]
      constructor
      · intro z q
        rcases q with q | q
        · exact z (A k) (by omega) (bb_and.mpr ⟨q, (eb _ (by omega)).mpr (Or.inl rfl)⟩)
        · exact z (B k) (by omega) (bb_and.mpr ⟨q, (eb _ (by omega)).mpr (Or.inr rfl)⟩)
      · intro z v hv q
        obtain ⟨q1, q2⟩ := bb_and.mp q
        rcases (eb v hv).mp q2 with e | e
        · exact z (Or.inl (e ▸ q1))
        · exact z (Or.inr (e ▸ q1))
    refine bb_br0 rfl (by omega) (fun t => nm_r (bb_or0 _) (nm_r (nI_1 k) (go fun lk => absurd ((hL k hk16).mpr lk) t))) (fun t => br_c (fun z => nm_r (bb_or0 _) (nm_r (nI_1 k) (go fun _ => ⟨fun q => absurd (Or.inl q) (meet.mp z), fun q => absurd (Or.inr q) (meet.mp z)⟩))) (fun z => nm_e (nm_r (nI_1 k) ?_)))
    have lk := (hL k hk16).mp t
    have g := hX.1.2 k (hP k lk)
    have some : bt x3 (A k) = true ∨ bt x3 (B k) = true := Classical.byContradiction fun w => z (meet.mpr w)
    have nb : ∀ v, v < 32 → (bt (x3 ||| ends) v = true ↔ bt x3 v = true ∨ v = A k ∨ v = B k) := fun v hv => by rw [bb_or, eb v hv]
    have line : gc A B L (fun x => x < n) (A k) (B k) := gc_l lk g.2.1 g.2.2.1
    rcases Classical.em (bt x3 (A k) = true ↔ bt x3 (B k) = true) with both | nboth
    · have e : x3 ||| ends = x3 := bb_ext fun v hv => by
        rw [nb v hv]
        refine ⟨fun w => w.elim id (fun w => ?_), Or.inl⟩
        rcases w with e | e
        · exact e ▸ some.elim id both.mpr
        · exact e ▸ some.elim both.mp id
      rw [e]
      exact go fun _ => both
    · refine xd_19 hX hL hP h d (k + 1) _ (by omega) (fun v hv => ?_) (bb_or.mpr (Or.inl Ip)) (Or.inr (Or.inl ?_))
      · rcases (nb v (bb_lt hv)).mp hv with w | w | w
        · exact I v w
        · rw [w]
          rcases some with q | q
          · exact I _ q
          · exact gc_t (I _ q) (gc_s line)
        · rw [w]
          rcases some with q | q
          · exact gc_t (I _ q) line
          · exact I _ q
      · have : ∃ y, y < n ∧ ¬ bt x3 y = true ∧ bt (x3 ||| ends) y = true := by
          rcases Classical.em (bt x3 (A k) = true) with q | q
          · exact ⟨B k, g.2.2.1, fun w => nboth ⟨fun _ => w, fun _ => q⟩, (nb _ (by omega)).mpr (Or.inr (Or.inr rfl))⟩
          · exact ⟨A k, g.2.1, q, (nb _ (by omega)).mpr (Or.inr (Or.inl rfl))⟩
        obtain ⟨y, yn, ny, yy⟩ := this
        have lt := ct_lt (P := fun v => bt x3 v = true) (Q := fun v => bt (x3 ||| ends) v = true) ny yy (N := n) (fun v _ w => bb_or.mpr (Or.inl w)) yn
        rcases c with c | c | c
        · exact absurd (c k lk) nboth
        · omega
        · omega
theorem xd_7 (hX : xg_ n P A B f_present a_endA a_endB) {x2 : Int32} {L : Nat → Prop} {p : Nat} (hp : p < n) (hL : ∀ v, v < 16 → (bt x2 v = true ↔ L v)) (hP : ∀ v, L v → P v) {post : Int32 → Prop} (h : ∀ r, (∀ v, bt r v = true ↔ gc A B L (fun x => x < n) p v) → post r) :
    ∀ d i x3, i + d = n → (∀ v, bt x3 v = true → gc A B L (fun x => x < n) p v) → bt x3 p = true → ((∀ j, L j → (bt x3 (A j) = true ↔ bt x3 (B j) = true)) ∨ i + 1 ≤ ct_n (fun v => bt x3 v = true) n) → wX_spread_7 post x2 (nI n) f_present f_groupCount f_bridgeSet f_hingeSet f_walked a_endA a_endB a_number a_walkPoint a_parent a_parentLine a_lowest a_nextLine a_stack a_marked a_pointRoot a_lineRoot a_between a_melted a_pull a_left a_cameFrom a_queue a_matrix a_dist (d + 1) x3 (nI i)
  | 0, i, x3, hi, I, Ip, c => by
    have e : i = n := by omega
    subst e
    have n8 := hX.1.1.2
    have cl := c.resolve_right (by have := ct_le (fun v => bt x3 v = true) i; omega)
    refine br_t (nI_le (Nat.le_refl _) (by omega)) (h _ fun v => ⟨I v, fun z => ?_⟩)
    exact (gc_sep z (fun v => bt x3 v = true) fun k lk _ _ => cl k lk).mp Ip
  | d + 1, i, x3, hi, I, Ip, c => by
    have n8 := hX.1.1.2
    refine br_f (nI_ge (b := n) (by omega) (by omega)) ⟨17, xd_19 hX hL hP (fun x3 I Ip c => xd_7 hX hp hL hP h d (i + 1) _ (by omega) I Ip (c.elim Or.inl (fun q => Or.inr (by omega)))) 16 0 _ rfl I Ip ?_⟩
    rcases c with c | c
    · exact Or.inl c
    · exact Or.inr (Or.inr ⟨c, fun j hj => absurd hj (by omega)⟩)
theorem xd_ (hX : xg_ n P A B f_present a_endA a_endB) {x2 : Int32} {L : Nat → Prop} {p : Nat} (hp : p < n) (hL : ∀ v, v < 16 → (bt x2 v = true ↔ L v)) (hP : ∀ v, L v → P v) {post : Int32 → Prop} (h : ∀ r, (∀ v, bt r v = true ↔ gc A B L (fun x => x < n) p v) → post r) : wpX_spread post (nI n, f_present, f_groupCount, f_bridgeSet, f_hingeSet, f_walked, a_endA, a_endB, a_number, a_walkPoint, a_parent, a_parentLine, a_lowest, a_nextLine, a_stack, a_marked, a_pointRoot, a_lineRoot, a_between, a_melted, a_pull, a_left, a_cameFrom, a_queue, a_matrix, a_dist) (nI p) x2 := by
  have n8 := hX.1.1.2
  have b : ∀ v, v < 32 → (bt ((1 : Int32) <<< (nI p &&& 31)) v = true ↔ v = p) := fun v hv => bb_shl rfl (by omega) hv
  refine nm_e ⟨n + 1, xd_7 hX hp hL hP h n 0 _ (by omega) (fun v hv => ?_) ((b p (by omega)).mpr rfl) (Or.inr (ct_pos (P := fun v => bt ((1 : Int32) <<< (nI p &&& 31)) v = true) ((b p (by omega)).mpr rfl) hp))⟩
  rw [(b v (bb_lt hv)).mp hv]; exact gc_r _
theorem xd_island (hX : xg_ n P A B f_present a_endA a_endB) {p : Int32} {post : Int32 → SX → Prop}
    (h : ∀ j r (f_bridgeSet : Int32) (f_hingeSet : Int32) (f_walked : Int32) (a_number : Nat → Int32) (a_walkPoint : Nat → Int32) (a_parent : Nat → Int32) (a_parentLine : Nat → Int32) (a_lowest : Nat → Int32) (a_nextLine : Nat → Int32) (a_stack : Nat → Int32) (a_marked : Nat → Int32) (a_pointRoot : Nat → Int32) (a_lineRoot : Nat → Int32), p = nI j → j < n → (∀ v, bt r v = true ↔ gc A B (fun k => P k ∧ ¬ sp_br A B P (fun x => x < n) k) (fun x => x < n) j v) → post r (nI n, f_present, nI (gc_c A B P (fun x => x < n)), f_bridgeSet, f_hingeSet, f_walked, a_endA, a_endB, a_number, a_walkPoint, a_parent, a_parentLine, a_lowest, a_nextLine, a_stack, a_marked, a_pointRoot, a_lineRoot, a_between, a_melted, a_pull, a_left, a_cameFrom, a_queue, a_matrix, a_dist)) (h0 : (∀ j, j < n → p = nI j → False) → post (-1) (nI n, f_present, f_groupCount, f_bridgeSet, f_hingeSet, f_walked, a_endA, a_endB, a_number, a_walkPoint, a_parent, a_parentLine, a_lowest, a_nextLine, a_stack, a_marked, a_pointRoot, a_lineRoot, a_between, a_melted, a_pull, a_left, a_cameFrom, a_queue, a_matrix, a_dist)) : wpX_island post (nI n, f_present, f_groupCount, f_bridgeSet, f_hingeSet, f_walked, a_endA, a_endB, a_number, a_walkPoint, a_parent, a_parentLine, a_lowest, a_nextLine, a_stack, a_marked, a_pointRoot, a_lineRoot, a_between, a_melted, a_pull, a_left, a_cameFrom, a_queue, a_matrix, a_dist) p := by
  unfold wpX_island
  dsimp only
  refine xp_i hX.1.1.2 (fun j hj e => br_f bb_10 (xq_solve hX (by decide) fun f_bridgeSet f_hingeSet f_walked a_number a_walkPoint a_parent a_parentLine a_lowest a_nextLine a_stack a_marked a_pointRoot a_lineRoot H1 H2 => ?_)) (fun z => br_t rfl (h0 z))
  subst e
  refine xd_ hX (L := fun k => P k ∧ ¬ sp_br A B P (fun x => x < n) k) hj (fun v hv => ?_) (fun v z => z.1) (fun r hr => h j r _ _ _ _ _ _ _ _ _ _ _ _ _ rfl hj hr)
  rw [bb_and, bb_not (by omega), hX.2.1 v, H1 v]
end
end
section
/-! ===== distances ===== -/
/-- sets that grow, not empty at first: after N - 1 steps nothing is new -/
theorem ct_fix1 {X : Nat → Nat → Prop} {N : Nat} (hm : ∀ i v, X i v → X (i + 1) v) (hN : ∀ i v, X i v → v < N) (hf : ∀ i, (∀ v, X (i + 1) v → X i v) → ∀ v, X (i + 2) v → X (i + 1) v) {a : Nat} (ha : X 0 a) : ∀ v, X N v → X (N - 1) v := by
  have one : ∀ i, (¬ ∀ v, X (i + 1) v → X i v) → ct_n (X i) N < ct_n (X (i + 1)) N := by
    intro i h
    have : ∃ v, X (i + 1) v ∧ ¬ X i v := Classical.byContradiction fun z => h fun v a => Classical.byContradiction fun b => z ⟨v, a, b⟩
    obtain ⟨v, a, b⟩ := this
    exact ct_lt b a (fun k _ => hm i k) (hN _ _ a)
  have grow : ∀ i, (¬ ∀ v, X (i + 1) v → X i v) → i + 2 ≤ ct_n (X (i + 1)) N := by
    intro i
    induction i with
    | zero => intro h; have := one 0 h; have := ct_pos ha (hN _ _ ha); omega
    | succ i ih =>
      intro h
      have a := ih (fun z => h (hf i z))
      have b := one (i + 1) h
      omega
  have n0 : 0 < N := Nat.lt_of_le_of_lt (Nat.zero_le _) (hN _ _ ha)
  obtain ⟨m, rfl⟩ : ∃ m, N = m + 1 := ⟨N - 1, by omega⟩
  intro v a
  apply Classical.byContradiction
  intro b
  have n1 : ¬ ∀ v, X (m + 1) v → X m v := fun z => b (z v a)
  have c := grow m n1
  have d := ct_le (X (m + 1)) (m + 1)
  omega
/-- the points within r lines of s -/
def bl_ (A B : Nat → Nat) (L V : Nat → Prop) (s r v : Nat) : Prop := st_n A B L V (fun x => x = s) r v
/-- least distances, 1000 for none -/
def dm_ (n : Nat) (A B : Nat → Nat) (L : Nat → Prop) (s i : Nat) (d : Nat → Nat) : Prop := (∀ x, x < n → d x ≤ 1000) ∧ (∀ x, x < n → d x < 1000 → bl_ A B L (fun x => x < n) s (d x) x) ∧ ∀ r x, r ≤ i → bl_ A B L (fun x => x < n) s r x → d x ≤ r
section
variable {n : Nat} {L : Nat → Prop} {A B d : Nat → Nat} {s : Nat}
theorem bl_S (hs : s < n) : ∀ v, v = s → v < n := fun v e => e ▸ hs
theorem bl_n (hs : s < n) {r v : Nat} (h : bl_ A B L (fun x => x < n) s r v) : bl_ A B L (fun x => x < n) s (n - 1) v := by
  have hX := bl_S hs
  have hn : ∀ v, st_n A B L (fun x => x < n) (fun x => x = s) n v → st_n A B L (fun x => x < n) (fun x => x = s) (n - 1) v :=
    ct_fix1 (X := st_n A B L (fun x => x < n) (fun x => x = s)) (fun i v => st_up hX i v) (fun i v h => st_S hX i v h) (fun i h v a => (st_ext (fun v => ⟨h v, st_up hX i v⟩) v).mp a) (a := s) rfl
  obtain ⟨u, e, g⟩ := st_snd hX r v h
  exact hn v ((st_all hX (fun v z => z) v).mpr ⟨u, e, g⟩)
theorem bl_gc (hs : s < n) (v : Nat) : (∃ r, bl_ A B L (fun x => x < n) s r v) ↔ gc A B L (fun x => x < n) s v := by
  have hX := bl_S hs
  constructor
  · rintro ⟨r, h⟩
    obtain ⟨u, e, g⟩ := st_snd hX r v h
    exact e ▸ g
  · intro g
    exact ⟨n, (st_all hX (fun v z => z) v).mpr ⟨s, rfl, g⟩⟩
/-- at the end: the least number -/
theorem dm_end (hs : s < n) (h : dm_ n A B L s n d) : (∀ x, x < n → d x ≤ 1000) ∧ (∀ x, x < n → d x < 1000 → bl_ A B L (fun x => x < n) s (d x) x ∧ d x < n) ∧ ∀ r x, bl_ A B L (fun x => x < n) s r x → d x ≤ r ∧ d x < n := by
  have lt : ∀ r x, bl_ A B L (fun x => x < n) s r x → d x < n := fun r x q => by have := h.2.2 (n - 1) x (by omega) (bl_n hs q); omega
  refine ⟨h.1, fun x hx q => ⟨h.2.1 x hx q, lt _ _ (h.2.1 x hx q)⟩, fun r x q => ⟨?_, lt r x q⟩⟩
  rcases Nat.lt_or_ge n r with z | z
  · have := lt r x q; omega
  · exact h.2.2 r x z q
end
section
variable {n : Nat} {P : Nat → Prop} {A B : Nat → Nat}
variable {f_present : Int32} {f_groupCount : Int32} {f_bridgeSet : Int32} {f_hingeSet : Int32} {f_walked : Int32} {a_endA : Nat → Int32} {a_endB : Nat → Int32} {a_number : Nat → Int32} {a_walkPoint : Nat → Int32} {a_parent : Nat → Int32} {a_parentLine : Nat → Int32} {a_lowest : Nat → Int32} {a_nextLine : Nat → Int32} {a_stack : Nat → Int32} {a_marked : Nat → Int32} {a_pointRoot : Nat → Int32} {a_lineRoot : Nat → Int32} {a_between : Nat → Int32} {a_melted : Nat → Int32} {a_pull : Nat → Int32} {a_left : Nat → Int32} {a_cameFrom : Nat → Int32} {a_queue : Nat → Int32} {a_matrix : Nat → Int64}
theorem xm_131 {post : SX → Prop} {J36 J47 : Int32 → (Nat → Int32) → (Nat → Int32) → (Nat → Int32) → (Nat → Int32) → (Nat → Int32) → (Nat → Int32) → (Nat → Int32) → (Nat → Int32) → (Nat → Int32) → (Nat → Int32) → (Nat → Int32) → (Nat → Int32) → (Nat → Int32) → (Nat → Int32) → (Nat → Int32) → (Nat → Int32) → (Nat → Int32) → (Nat → Int32) → (Nat → Int64) → (Nat → Int32) → Prop} {x2 x3 : Int32} {k a b c db : Nat} {a_dist : Nat → Int32} (ha : a < 8) (hb : b < 8) (ab : a ≠ b) (hc : c ≤ 1001) (hdb : db ≤ 1000) (eb : a_dist b = nI db)
    (h : ∀ e, e ≤ c + 1 → e ≤ db → (e = c + 1 ∨ e = db) → J47 (nI (k + 1)) a_endA a_endB a_number a_walkPoint a_parent a_parentLine a_lowest a_nextLine a_stack a_marked a_pointRoot a_lineRoot a_between a_melted a_pull a_left a_cameFrom a_queue a_matrix (upd (upd a_dist a (nI c)) b (nI e))) : wX_measure_131 post J36 J47 x2 x3 (nI k) (nI a) (nI b) (nI c) (nI a) (nI n) f_present f_groupCount f_bridgeSet f_hingeSet f_walked a_endA a_endB a_number a_walkPoint a_parent a_parentLine a_lowest a_nextLine a_stack a_marked a_pointRoot a_lineRoot a_between a_melted a_pull a_left a_cameFrom a_queue a_matrix a_dist := by
  have ia : vp_in (nI a) 8 := vp_in_nI ha (by decide)
  have ib : vp_in (nI b) 8 := vp_in_nI hb (by decide)
  refine And.intro ia (nm_e ⟨ia, ib, ?_⟩)
  rw [nI_clamp (show a < 2 ^ 31 by omega), nI_clamp (show b < 2 ^ 31 by omega), pk_us, pk_un (fun e => ab e.symm), eb, nI_1]
  refine pk_le db (c + 1) (fun z => ⟨ib, ib, nm_e (nm_r (nI_1 k) (h db z (Nat.le_refl _) (Or.inr rfl)))⟩) (fun z => ⟨ia, ib, nm_e (nm_r (nI_1 k) (h (c + 1) (Nat.le_refl _) (by omega) (Or.inl rfl)))⟩)
theorem xm_47 (hX : xg_ n P A B f_present a_endA a_endB) {W : Int32} {s i : Nat} (hs : s < n) {post : SX → Prop} {J : Int32 → (Nat → Int32) → (Nat → Int32) → (Nat → Int32) → (Nat → Int32) → (Nat → Int32) → (Nat → Int32) → (Nat → Int32) → (Nat → Int32) → (Nat → Int32) → (Nat → Int32) → (Nat → Int32) → (Nat → Int32) → (Nat → Int32) → (Nat → Int32) → (Nat → Int32) → (Nat → Int32) → (Nat → Int32) → (Nat → Int32) → (Nat → Int64) → (Nat → Int32) → Prop}
    (h : ∀ d a_dist, rp_n n d a_dist → dm_ n A B (fun k => P k ∧ nI k ≠ W) s (i + 1) d → J (nI (i + 1)) a_endA a_endB a_number a_walkPoint a_parent a_parentLine a_lowest a_nextLine a_stack a_marked a_pointRoot a_lineRoot a_between a_melted a_pull a_left a_cameFrom a_queue a_matrix a_dist) :
    ∀ q k d a_dist, k + q = 16 → rp_n n d a_dist → dm_ n A B (fun k => P k ∧ nI k ≠ W) s i d → (∀ j, j < k → (P j ∧ nI j ≠ W) → (bl_ A B (fun k => P k ∧ nI k ≠ W) (fun x => x < n) s i (A j) → d (B j) ≤ i + 1) ∧ (bl_ A B (fun k => P k ∧ nI k ≠ W) (fun x => x < n) s i (B j) → d (A j) ≤ i + 1)) → wX_measure_47 post J W (nI i) (nI n) f_present f_groupCount f_bridgeSet f_hingeSet f_walked (q + 1) (nI k) a_endA a_endB a_number a_walkPoint a_parent a_parentLine a_lowest a_nextLine a_stack a_marked a_pointRoot a_lineRoot a_between a_melted a_pull a_left a_cameFrom a_queue a_matrix a_dist
  | 0, k, d, a_dist, hk, Hr, Hd, Hl => by
    have e : k = 16 := by omega
    subst e
    refine br_t (show (16 : Int32) ≤ nI 16 from by decide) (nm_r (nI_1 i) (h d _ Hr ⟨Hd.1, Hd.2.1, fun r x hr q => ?_⟩))
    rcases Nat.lt_or_ge i r with z | z
    · have e : r = i + 1 := by omega
      subst e
      obtain ⟨xn, q | ⟨j, lj, ⟨q, rfl⟩ | ⟨q, rfl⟩⟩⟩ := q
      · have := Hd.2.2 i x (Nat.le_refl _) q; omega
      · exact (Hl j (hX.1.2 j lj.1).1 lj).1 q
      · exact (Hl j (hX.1.2 j lj.1).1 lj).2 q
    · exact Hd.2.2 r x z q
  | q + 1, k, d, a_dist, hk, Hr, Hd, Hl => by
    have n8 := hX.1.1.2
    have hk16 : k < 16 := by omega
    have no : (¬ (P k ∧ nI k ≠ W)) → wX_measure_47 post J W (nI i) (nI n) f_present f_groupCount f_bridgeSet f_hingeSet f_walked (q + 1) (nI (k + 1)) a_endA a_endB a_number a_walkPoint a_parent a_parentLine a_lowest a_nextLine a_stack a_marked a_pointRoot a_lineRoot a_between a_melted a_pull a_left a_cameFrom a_queue a_matrix a_dist := by
      intro z
      refine xm_47 hX hs h q (k + 1) d _ (by omega) Hr Hd fun j hj lj => ?_
      rcases Nat.lt_or_ge j k with w | w
      · exact Hl j w lj
      · have e : j = k := by omega
        subst e; exact absurd lj z
    refine br_f (nI_ge (b := 16) hk16 (by decide)) (xh_ hX hk16 (fun pk => br_f bb_10 (br_c (fun e => nm_r (nI_1 k) (no fun z => z.2 e)) (fun e => ⟨vp_in_nI hk16 (by decide), nm_r (yg_a hX.2.2 hk16) ⟨vp_in_nI hk16 (by decide), nm_r (yg_b hX.2.2 hk16) ?_⟩⟩))) (fun pk => br_t rfl (nm_r (nI_1 k) (no fun z => pk z.1))))
    have g := hX.1.2 k pk
    have lk : P k ∧ nI k ≠ W := ⟨pk, e⟩
    have ia : vp_in (nI (A k)) 8 := vp_in_nI (by omega) (by decide)
    have ib : vp_in (nI (B k)) 8 := vp_in_nI (by omega) (by decide)
    refine ⟨ib, ia, ?_⟩
    rw [nI_clamp (show A k < 2 ^ 31 by omega), nI_clamp (show B k < 2 ^ 31 by omega), Hr _ g.2.1, Hr _ g.2.2.1, nI_1]
    have da := Hd.1 _ g.2.1
    have db := Hd.1 _ g.2.2.1
    have go : ∀ c, c ≤ d (A k) → c ≤ d (B k) + 1 → (c = d (A k) ∨ c = d (B k) + 1) → wX_measure_131 post J (wX_measure_47 post J W (nI i) (nI n) f_present f_groupCount f_bridgeSet f_hingeSet f_walked (q + 1)) W (nI i) (nI k) (nI (A k)) (nI (B k)) (nI c) (nI (A k)) (nI n) f_present f_groupCount f_bridgeSet f_hingeSet f_walked a_endA a_endB a_number a_walkPoint a_parent a_parentLine a_lowest a_nextLine a_stack a_marked a_pointRoot a_lineRoot a_between a_melted a_pull a_left a_cameFrom a_queue a_matrix a_dist := by
      intro c c1 c2 c3
      refine xm_131 (by omega) (by omega) g.2.2.2 (by omega) db (Hr _ g.2.2.1) fun e e1 e2 e3 => ?_
      have va : fu_ (fu_ d (A k) c) (B k) e (A k) = c := by rw [fu_n g.2.2.2, fu_s]
      have vb : fu_ (fu_ d (A k) c) (B k) e (B k) = e := fu_s
      have vo : ∀ x, x ≠ A k → x ≠ B k → fu_ (fu_ d (A k) c) (B k) e x = d x := fun x h1 h2 => by rw [fu_n h2, fu_n h1]
      have le : ∀ x, fu_ (fu_ d (A k) c) (B k) e x ≤ d x := by
        intro x
        rcases Classical.em (x = B k) with z | z
        · rw [z, vb]; exact e2
        · rcases Classical.em (x = A k) with w | w
          · rw [w, va]; exact c1
          · rw [vo x w z]; exact Nat.le_refl _
      have sA : c < 1000 → bl_ A B (fun k => P k ∧ nI k ≠ W) (fun x => x < n) s c (A k) := by
        intro l
        rcases c3 with z | z
        · rw [z]; exact Hd.2.1 _ g.2.1 (by omega)
        · rw [z]; exact ⟨g.2.1, Or.inr ⟨k, lk, Or.inr ⟨Hd.2.1 _ g.2.2.1 (by omega), rfl⟩⟩⟩
      refine xm_47 hX hs h q (k + 1) _ _ (by omega) (rp_nu (rp_nu Hr)) ⟨fun x hx => Nat.le_trans (le x) (Hd.1 x hx), fun x hx l => ?_, fun r x hr w => Nat.le_trans (le x) (Hd.2.2 r x hr w)⟩ (fun j hj lj => ?_)
      · rcases Classical.em (x = B k) with z | z
        · rw [z, vb] at l ⊢
          rcases e3 with w | w
          · rw [w]; exact ⟨g.2.2.1, Or.inr ⟨k, lk, Or.inl ⟨sA (by omega), rfl⟩⟩⟩
          · rw [w]; exact Hd.2.1 _ g.2.2.1 (by omega)
        · rcases Classical.em (x = A k) with w | w
          · rw [w, va] at l ⊢; exact sA l
          · rw [vo x w z] at l ⊢; exact Hd.2.1 x hx l
      · rcases Nat.lt_or_ge j k with w | w
        · obtain ⟨w1, w2⟩ := Hl j w lj
          exact ⟨fun y => Nat.le_trans (le _) (w1 y), fun y => Nat.le_trans (le _) (w2 y)⟩
        · have ej : j = k := by omega
          subst ej
          rw [va, vb]
          refine ⟨fun y => ?_, fun y => ?_⟩
          · have := Hd.2.2 i _ (Nat.le_refl _) y; omega
          · have := Hd.2.2 i _ (Nat.le_refl _) y; omega
    refine pk_le (d (A k)) (d (B k) + 1) (fun z => ⟨ia, go _ (Nat.le_refl _) z (Or.inl rfl)⟩) (fun z => ⟨ib, go _ (by omega) (Nat.le_refl _) (Or.inr rfl)⟩)
theorem xm_36 (hX : xg_ n P A B f_present a_endA a_endB) {W : Int32} {s : Nat} (hs : s < n) {post : SX → Prop} (h : ∀ d a_dist, rp_n n d a_dist → dm_ n A B (fun k => P k ∧ nI k ≠ W) s n d → post (nI n, f_present, f_groupCount, f_bridgeSet, f_hingeSet, f_walked, a_endA, a_endB, a_number, a_walkPoint, a_parent, a_parentLine, a_lowest, a_nextLine, a_stack, a_marked, a_pointRoot, a_lineRoot, a_between, a_melted, a_pull, a_left, a_cameFrom, a_queue, a_matrix, a_dist)) :
    ∀ q i d a_dist, i + q = n → rp_n n d a_dist → dm_ n A B (fun k => P k ∧ nI k ≠ W) s i d → wX_measure_36 post W (nI n) f_present f_groupCount f_bridgeSet f_hingeSet f_walked (q + 1) (nI i) a_endA a_endB a_number a_walkPoint a_parent a_parentLine a_lowest a_nextLine a_stack a_marked a_pointRoot a_lineRoot a_between a_melted a_pull a_left a_cameFrom a_queue a_matrix a_dist
  | 0, i, d, a_dist, hi, Hr, Hd => by
    have e : i = n := by omega
    subst e
    have n8 := hX.1.1.2
    exact br_t (nI_le (Nat.le_refl _) (by omega)) (h d _ Hr Hd)
  | q + 1, i, d, a_dist, hi, Hr, Hd => by
    have n8 := hX.1.1.2
    exact br_f (nI_ge (b := n) (by omega) (by omega)) ⟨17, xm_47 hX hs (fun d a_dist Hr Hd => xm_36 hX hs h q (i + 1) d _ (by omega) Hr Hd) 16 0 d _ rfl Hr Hd (fun j hj => absurd hj (by omega))⟩
theorem xm_2 (hX : xg_ n P A B f_present a_endA a_endB) {W : Int32} {s : Nat} (hs : s < n) {post : SX → Prop} (h : ∀ d a_dist, rp_n n d a_dist → dm_ n A B (fun k => P k ∧ nI k ≠ W) s n d → post (nI n, f_present, f_groupCount, f_bridgeSet, f_hingeSet, f_walked, a_endA, a_endB, a_number, a_walkPoint, a_parent, a_parentLine, a_lowest, a_nextLine, a_stack, a_marked, a_pointRoot, a_lineRoot, a_between, a_melted, a_pull, a_left, a_cameFrom, a_queue, a_matrix, a_dist)) :
    ∀ q i a_dist, i + q = n → (∀ x, x < i → a_dist x = nI (if x = s then 0 else 1000)) → wX_measure_2 post (nI s) W (nI n) f_present f_groupCount f_bridgeSet f_hingeSet f_walked (q + 1) (nI i) a_endA a_endB a_number a_walkPoint a_parent a_parentLine a_lowest a_nextLine a_stack a_marked a_pointRoot a_lineRoot a_between a_melted a_pull a_left a_cameFrom a_queue a_matrix a_dist
  | 0, i, a_dist, hi, I => by
    have e : i = n := by omega
    subst e
    have n8 := hX.1.1.2
    refine br_t (nI_le (Nat.le_refl _) (by omega)) ⟨i + 1, xm_36 hX hs h i 0 (fun x => if x = s then 0 else 1000) _ (by omega) I ⟨fun x hx => ?_, fun x hx l => ?_, fun r x hr w => ?_⟩⟩
    · dsimp only
      by_cases z : x = s
      · rw [if_pos z]; omega
      · rw [if_neg z]; omega
    · dsimp only at l ⊢
      by_cases z : x = s
      · rw [if_pos z]; exact z
      · rw [if_neg z] at l; omega
    · have e : r = 0 := by omega
      subst e
      have z : x = s := w
      dsimp only
      rw [if_pos z]; omega
  | q + 1, i, a_dist, hi, I => by
    have n8 := hX.1.1.2
    have hin : i < n := by omega
    have C : (nI i).toNatClampNeg = i := nI_clamp (by omega)
    refine br_f (nI_ge hin (by omega)) (pk_eq i s (fun e => ⟨vp_in_nI (by omega) (by decide), nm_e (nm_r (nI_1 i) (xm_2 hX hs h q (i + 1) _ (by omega) fun x hx => ?_))⟩) (fun e => ⟨vp_in_nI (by omega) (by decide), nm_e (nm_r (nI_1 i) (xm_2 hX hs h q (i + 1) _ (by omega) fun x hx => ?_))⟩))
    · rw [C]
      rcases Classical.em (x = i) with z | z
      · subst z; rw [pk_us, if_pos e]; rfl
      · rw [pk_un z]; exact I x (by omega)
    · rw [C]
      rcases Classical.em (x = i) with z | z
      · subst z; rw [pk_us, if_neg e]; rfl
      · rw [pk_un z]; exact I x (by omega)
theorem xm_ (hX : xg_ n P A B f_present a_endA a_endB) {W : Int32} {s : Nat} (hs : s < n) {a_dist : Nat → Int32} {post : SX → Prop} (h : ∀ d a_dist, rp_n n d a_dist → dm_ n A B (fun k => P k ∧ nI k ≠ W) s n d → post (nI n, f_present, f_groupCount, f_bridgeSet, f_hingeSet, f_walked, a_endA, a_endB, a_number, a_walkPoint, a_parent, a_parentLine, a_lowest, a_nextLine, a_stack, a_marked, a_pointRoot, a_lineRoot, a_between, a_melted, a_pull, a_left, a_cameFrom, a_queue, a_matrix, a_dist)) : wpX_measure post (nI n, f_present, f_groupCount, f_bridgeSet, f_hingeSet, f_walked, a_endA, a_endB, a_number, a_walkPoint, a_parent, a_parentLine, a_lowest, a_nextLine, a_stack, a_marked, a_pointRoot, a_lineRoot, a_between, a_melted, a_pull, a_left, a_cameFrom, a_queue, a_matrix, a_dist) (nI s) W :=
  ⟨n + 1, xm_2 hX hs h n 0 _ (by omega) (fun x hx => absurd hx (by omega))⟩
end
end
section
/-! ===== around, shortest ===== -/
section
variable {a_there a_as a_bs : Nat → Int32} {A B : Nat → Nat} {n : Nat} {P : Nat → Prop} {M : Int32}
/-- one step over masks whose sets are known -/
theorem yz_step {f_size : Int32} (hE : yg_ends A B a_as a_bs) {x1 x2 x3 : Int32} {L S X : Nat → Prop} (hL : ∀ v, v < 16 → (bt x2 v = true ↔ L v)) (hS : ∀ v, bt x3 v = true ↔ S v) (h16 : ∀ v, L v → v < 16) (hX : ∀ v, bt x1 v = true ↔ X v) (h32 : ∀ v, S v → v < 32) {post : Int32 → Prop}
    (hp : ∀ r, (∀ v, bt r v = true ↔ st_ A B L S X v) → post r) : wpY_step post (f_size, a_there, a_as, a_bs) x1 x2 x3 := by
  refine ys_step hE fun r hr => hp r fun v => ?_
  have e1 : bs_ x2 16 = L := funext fun k => propext ⟨fun z => (hL k z.1).mp z.2, fun z => ⟨h16 k z, (hL k (h16 k z)).mpr z⟩⟩
  have e2 : (fun v => bt x3 v = true) = S := funext fun k => propext (hS k)
  have e3 : (fun v => bt x1 v = true) = X := funext fun k => propext (hX k)
  rw [e1, e2, e3] at hr
  rcases Nat.lt_or_ge v 32 with z | z
  · exact hr v z
  · exact ⟨fun q => absurd (bb_lt q) (by omega), fun q => absurd (h32 v q.1) (by omega)⟩
theorem yz_around (hg : gr_ n P A B) (hT : yg_th P a_there) (hE : yg_ends A B a_as a_bs) (hM : ∀ v, bt M v = true ↔ P v) {k : Nat} (pk : P k) {post : Int32 → Prop}
    (h1 : ∀ r, r < 8 → bl_ A B (fun j => P j ∧ j ≠ k) (fun x => x < n) (A k) r (B k) → (∀ s, s < r → ¬ bl_ A B (fun j => P j ∧ j ≠ k) (fun x => x < n) (A k) s (B k)) → post (nI (r + 1))) (h0 : (∀ s, s < 8 → ¬ bl_ A B (fun j => P j ∧ j ≠ k) (fun x => x < n) (A k) s (B k)) → post (-3)) :
    ∀ d i x2, i + d = 8 → (∀ v, bt x2 v = true ↔ bl_ A B (fun j => P j ∧ j ≠ k) (fun x => x < n) (A k) i v) → (∀ s, s < i → ¬ bl_ A B (fun j => P j ∧ j ≠ k) (fun x => x < n) (A k) s (B k)) → wY_around_21 post (nI k) (nI n) a_there a_as a_bs (d + 1) x2 (nI (i + 1))
  | 0, i, x2, hi, I, J => by
    have e : i = 8 := by omega
    subst e
    exact br_t (show (9 : Int32) ≤ nI 9 from by decide) (h0 J)
  | d + 1, i, x2, hi, I, J => by
    have n8 := hg.1.2
    have g := hg.2 k pk
    refine br_f (nI_ge (b := 9) (by omega) (by decide)) ⟨vp_in_nI g.1 (by decide), bb_br1 (yg_b hE g.1) (by omega) (fun t => h1 i (by omega) ((I _).mp t) J) (fun t => yl_ hT hM (fun k z => (hg.2 k z).1) ?_)⟩
    refine yz_step hE (L := fun j => P j ∧ j ≠ k) (S := fun x => x < n) (X := bl_ A B (fun j => P j ∧ j ≠ k) (fun x => x < n) (A k) i) (fun v hv => ?_) (fun v => al_b n8) (fun v z => (hg.2 v z.1).1) I (fun v z => by omega) (fun r hr => nm_r (nI_1 (i + 1)) (yz_around hg hT hE hM pk h1 h0 d (i + 1) r (by omega) hr fun s hs => ?_))
    · rw [bb_del rfl (by omega) (by omega), hM v]
    · rcases Nat.lt_or_ge s i with w | w
      · exact J s w
      · have e : s = i := by omega
        subst e; exact fun q => t ((I _).mpr q)
/-- the ring around a line: its length, or none -/
def ar_ (n : Nat) (P : Nat → Prop) (A B : Nat → Nat) (k : Nat) (r : Int32) : Prop := (∃ m, r = nI (m + 1) ∧ m < 8 ∧ bl_ A B (fun j => P j ∧ j ≠ k) (fun x => x < n) (A k) m (B k) ∧ ∀ s, s < m → ¬ bl_ A B (fun j => P j ∧ j ≠ k) (fun x => x < n) (A k) s (B k)) ∨ (r = -3 ∧ ∀ s, s < 8 → ¬ bl_ A B (fun j => P j ∧ j ≠ k) (fun x => x < n) (A k) s (B k))
theorem ar_uq {k : Nat} {r r' : Int32} (h : ar_ n P A B k r) (h' : ar_ n P A B k r') : r = r' := by
  rcases h with ⟨m, e, m8, b, c⟩ | ⟨e, c⟩
  · rcases h' with ⟨m', e', m8', b', c'⟩ | ⟨e', c'⟩
    · have : m = m' := by
        rcases Nat.lt_or_ge m m' with z | z
        · exact absurd b (c' m z)
        · rcases Nat.lt_or_ge m' m with w | w
          · exact absurd b' (c m' w)
          · omega
      rw [e, e', this]
    · exact absurd b (c' m m8)
  · rcases h' with ⟨m', e', m8', b', c'⟩ | ⟨e', c'⟩
    · exact absurd b' (c m' m8')
    · rw [e, e']
theorem yz_ (hg : gr_ n P A B) (hT : yg_th P a_there) (hE : yg_ends A B a_as a_bs) (hM : ∀ v, bt M v = true ↔ P v) {k : Int32} {post : Int32 → Prop}
    (h : ∀ j r, k = nI j → P j → ar_ n P A B j r → post r) (h0 : (∀ j, j < 16 → k = nI j → ¬ P j) → post (-1)) : wpY_around post (nI n, a_there, a_as, a_bs) k := by
  unfold wpY_around
  dsimp only
  refine yi_ hT (fun j hj e pj => br_f bb_10 ?_) (fun z => br_t rfl (h0 z))
  subst e
  have n8 := hg.1.2
  have g := hg.2 j pj
  refine ⟨vp_in_nI hj (by decide), nm_e ⟨9, yz_around hg hT hE hM pj (fun r r8 b c => h j _ rfl pj (Or.inl ⟨r, rfl, r8, b, c⟩)) (fun c => h j _ rfl pj (Or.inr ⟨rfl, c⟩)) 8 0 _ rfl (fun v => ?_) (fun s hs => absurd hs (by omega))⟩⟩
  show _ ↔ v = A j
  rcases Nat.lt_or_ge v 32 with z | z
  · exact bb_shl (yg_a hE hj) (by omega) z
  · exact ⟨fun q => absurd (bb_lt q) (by omega), fun q => by omega⟩
theorem yz_short (hg : gr_ n P A B) (hT : yg_th P a_there) (hE : yg_ends A B a_as a_bs) (hM : ∀ v, bt M v = true ↔ P v) {post : Int32 → Prop} {F : Nat → Int32 → Int32}
    (hF0 : ∀ k b, ¬ P k → F k b = b) (hF1 : ∀ k b, P k → ar_ n P A B k (-3) → F k b = b) (hF2 : ∀ k m, P k → ar_ n P A B k (nI (m + 1)) → m < 8 → F k (-3) = nI (m + 1) ∧ ∀ c, c < 8 → F k (nI (c + 1)) = if m < c then nI (m + 1) else nI (c + 1)) (R : Nat → Int32)
    (hR : ∀ k, k < 16 → R (k + 1) = F k (R k)) (hR2 : ∀ k, R k = -3 ∨ ∃ c, c < 8 ∧ R k = nI (c + 1)) (hp : post (R 16)) : ∀ d k, k + d = 16 → wY_shortest_5 post (nI n) a_there a_as a_bs (d + 1) (R k) (nI k)
  | 0, k, hk => by
    have e : k = 16 := by omega
    subst e
    exact br_t (show (16 : Int32) ≤ nI 16 from by decide) hp
  | d + 1, k, hk => by
    have hk16 : k < 16 := by omega
    have ih := yz_short hg hT hE hM hF0 hF1 hF2 R hR hR2 hp d (k + 1) (by omega)
    rw [hR k hk16] at ih
    refine br_f (nI_ge (b := 16) hk16 (by decide)) (yz_ hg hT hE hM (fun j r e pj a => ?_) (fun z => br_t (by decide) (nm_r (nI_1 k) ?_)))
    · have e := (nI_eq (by omega) (by have := (hg.2 j pj).1; omega)).mp e
      subst e
      rcases a with ⟨m, e, m8, b, c⟩ | ⟨e, c⟩
      · subst e
        have a : ar_ n P A B k (nI (m + 1)) := Or.inl ⟨m, rfl, m8, b, c⟩
        obtain ⟨f1, f2⟩ := hF2 k m pj a m8
        refine br_f (nI_nle (by omega) (by omega)) ?_
        rcases hR2 k with q | ⟨c, c8, q⟩
        · rw [q] at ih ⊢
          rw [f1] at ih
          exact br_t (by decide) (nm_r (nI_1 k) ih)
        · rw [q] at ih ⊢
          rw [f2 c c8] at ih
          refine br_f (nI_pos (by omega)) (pk_le (c + 1) (m + 1) (fun z => nm_r (nI_1 k) ?_) (fun z => nm_r (nI_1 k) ?_))
          · rw [if_neg (by omega)] at ih; exact ih
          · rw [if_pos (by omega)] at ih; exact ih
      · subst e
        rw [hF1 k _ pj (Or.inr ⟨rfl, c⟩)] at ih
        exact br_t (by decide) (nm_r (nI_1 k) ih)
    · rw [hF0 k _ (z k hk16 rfl)] at ih
      exact ih
end
section
variable {n : Nat} {P : Nat → Prop} {A B : Nat → Nat}
variable {f_present : Int32} {f_groupCount : Int32} {f_bridgeSet : Int32} {f_hingeSet : Int32} {f_walked : Int32} {a_endA : Nat → Int32} {a_endB : Nat → Int32} {a_number : Nat → Int32} {a_walkPoint : Nat → Int32} {a_parent : Nat → Int32} {a_parentLine : Nat → Int32} {a_lowest : Nat → Int32} {a_nextLine : Nat → Int32} {a_stack : Nat → Int32} {a_marked : Nat → Int32} {a_pointRoot : Nat → Int32} {a_lineRoot : Nat → Int32} {a_between : Nat → Int32} {a_melted : Nat → Int32} {a_pull : Nat → Int32} {a_left : Nat → Int32} {a_cameFrom : Nat → Int32} {a_queue : Nat → Int32} {a_matrix : Nat → Int64}
theorem xz_ (hX : xg_ n P A B f_present a_endA a_endB) {a_dist : Nat → Int32} {k : Int32} {post : Int32 → SX → Prop}
    (h : ∀ j r a_dist, k = nI j → P j → ar_ n P A B j r → post r (nI n, f_present, f_groupCount, f_bridgeSet, f_hingeSet, f_walked, a_endA, a_endB, a_number, a_walkPoint, a_parent, a_parentLine, a_lowest, a_nextLine, a_stack, a_marked, a_pointRoot, a_lineRoot, a_between, a_melted, a_pull, a_left, a_cameFrom, a_queue, a_matrix, a_dist)) (h0 : (∀ j, j < 16 → k = nI j → ¬ P j) → post (-1) (nI n, f_present, f_groupCount, f_bridgeSet, f_hingeSet, f_walked, a_endA, a_endB, a_number, a_walkPoint, a_parent, a_parentLine, a_lowest, a_nextLine, a_stack, a_marked, a_pointRoot, a_lineRoot, a_between, a_melted, a_pull, a_left, a_cameFrom, a_queue, a_matrix, a_dist)) : wpX_around post (nI n, f_present, f_groupCount, f_bridgeSet, f_hingeSet, f_walked, a_endA, a_endB, a_number, a_walkPoint, a_parent, a_parentLine, a_lowest, a_nextLine, a_stack, a_marked, a_pointRoot, a_lineRoot, a_between, a_melted, a_pull, a_left, a_cameFrom, a_queue, a_matrix, a_dist) k := by
  unfold wpX_around
  dsimp only
  refine xh_i hX (fun j hj e pj => br_f bb_10 ?_) (fun z => br_t rfl (h0 z))
  subst e
  have n8 := hX.1.1.2
  have g := hX.1.2 j pj
  rw [yg_a hX.2.2 hj]
  refine ⟨vp_in_nI hj (by decide), xm_ hX g.2.1 fun d a_dist Hr Hd => ?_⟩
  have eL : (fun k => P k ∧ nI k ≠ nI j) = (fun k => P k ∧ k ≠ j) := funext fun i => propext ⟨fun z => ⟨z.1, fun e => z.2 (by rw [e])⟩, fun z => ⟨z.1, fun e => z.2 ((nI_eq (by have := (hX.1.2 i z.1).1; omega) (by omega)).mp e)⟩⟩
  rw [eL] at Hd
  obtain ⟨D1, D2, D3⟩ := dm_end g.2.1 Hd
  dsimp only
  rw [yg_b hX.2.2 hj]
  refine ⟨vp_in_nI hj (by decide), vp_in_nI (by omega) (by decide), nm_r (e' := nI (d (B j))) (by rw [nI_clamp (show B j < 2 ^ 31 by omega)]; exact Hr _ g.2.2.1) ?_⟩
  have db := D1 _ g.2.2.1
  refine pk_lt (d (B j)) 1000 (fun z => ?_) (fun z => ?_)
  · obtain ⟨b, l⟩ := D2 _ g.2.2.1 z
    rw [nI_1]
    refine h j _ _ rfl pj (Or.inl ⟨_, rfl, by omega, b, fun s hs q => ?_⟩)
    have := (D3 s _ q).1; omega
  · refine h j _ _ rfl pj (Or.inr ⟨rfl, fun s hs q => ?_⟩)
    have := (D3 s _ q).1; omega
theorem xz_short (hX : xg_ n P A B f_present a_endA a_endB) {post : Int32 → SX → Prop} {F : Nat → Int32 → Int32}
    (hF0 : ∀ k b, ¬ P k → F k b = b) (hF1 : ∀ k b, P k → ar_ n P A B k (-3) → F k b = b) (hF2 : ∀ k m, P k → ar_ n P A B k (nI (m + 1)) → m < 8 → F k (-3) = nI (m + 1) ∧ ∀ c, c < 8 → F k (nI (c + 1)) = if m < c then nI (m + 1) else nI (c + 1)) (R : Nat → Int32)
    (hR : ∀ k, k < 16 → R (k + 1) = F k (R k)) (hR2 : ∀ k, R k = -3 ∨ ∃ c, c < 8 ∧ R k = nI (c + 1)) (hp : ∀ a_dist, post (R 16) (nI n, f_present, f_groupCount, f_bridgeSet, f_hingeSet, f_walked, a_endA, a_endB, a_number, a_walkPoint, a_parent, a_parentLine, a_lowest, a_nextLine, a_stack, a_marked, a_pointRoot, a_lineRoot, a_between, a_melted, a_pull, a_left, a_cameFrom, a_queue, a_matrix, a_dist)) : ∀ d k a_dist, k + d = 16 → wX_shortest_5 post (d + 1) (R k) (nI k) (nI n) f_present f_groupCount f_bridgeSet f_hingeSet f_walked a_endA a_endB a_number a_walkPoint a_parent a_parentLine a_lowest a_nextLine a_stack a_marked a_pointRoot a_lineRoot a_between a_melted a_pull a_left a_cameFrom a_queue a_matrix a_dist
  | 0, k, a_dist, hk => by
    have e : k = 16 := by omega
    subst e
    exact br_t (show (16 : Int32) ≤ nI 16 from by decide) (hp _)
  | d + 1, k, a_dist, hk => by
    have hk16 : k < 16 := by omega
    have ih := fun a_dist => xz_short hX hF0 hF1 hF2 R hR hR2 hp d (k + 1) a_dist (by omega)
    rw [hR k hk16] at ih
    refine br_f (nI_ge (b := 16) hk16 (by decide)) (xz_ hX (fun j r a_dist e pj a => ?_) (fun z => br_t (by decide) (nm_r (nI_1 k) ?_)))
    · have e := (nI_eq (by omega) (by have := (hX.1.2 j pj).1; omega)).mp e
      subst e
      rcases a with ⟨m, e, m8, b, c⟩ | ⟨e, c⟩
      · subst e
        have a : ar_ n P A B k (nI (m + 1)) := Or.inl ⟨m, rfl, m8, b, c⟩
        obtain ⟨f1, f2⟩ := hF2 k m pj a m8
        refine br_f (nI_nle (by omega) (by omega)) ?_
        rcases hR2 k with q | ⟨c, c8, q⟩
        · rw [q] at ih ⊢
          rw [f1] at ih
          exact br_t rfl (nm_r (nI_1 k) (ih _))
        · rw [q] at ih ⊢
          rw [f2 c c8] at ih
          refine br_f (fun z => ?_) (pk_le (c + 1) (m + 1) (fun z => nm_r (nI_1 k) ?_) (fun z => nm_r (nI_1 k) ?_))
          · have : (nI (c + 1)).toInt = (-3 : Int32).toInt := by rw [z]
            rw [nI_toInt (by omega), show (-3 : Int32).toInt = -3 from by decide] at this
            omega
          · rw [if_neg (by omega)] at ih; exact ih _
          · rw [if_pos (by omega)] at ih; exact ih _
      · subst e
        rw [hF1 k _ pj (Or.inr ⟨rfl, c⟩)] at ih
        exact br_t (by decide) (nm_r (nI_1 k) (ih _))
    · rw [hF0 k _ (z k hk16 rfl)] at ih
      exact ih _
end
/-- the least ring over the first k lines -/
noncomputable def sh_m (n : Nat) (P : Nat → Prop) (A B : Nat → Nat) (k : Nat) : Nat := Classical.epsilon (fun m => m < 8 ∧ ar_ n P A B k (nI (m + 1)))
noncomputable def sh_F (n : Nat) (P : Nat → Prop) (A B : Nat → Nat) (k : Nat) (b : Int32) : Int32 := @ite Int32 (P k ∧ ∃ m, m < 8 ∧ ar_ n P A B k (nI (m + 1))) (Classical.propDecidable _) (if b = -3 then nI (sh_m n P A B k + 1) else if nI (sh_m n P A B k + 1) < b then nI (sh_m n P A B k + 1) else b) b
noncomputable def sh_R (n : Nat) (P : Nat → Prop) (A B : Nat → Nat) : Nat → Int32
  | 0 => -3
  | k + 1 => sh_F n P A B k (sh_R n P A B k)
section
variable {n : Nat} {P : Nat → Prop} {A B : Nat → Nat}
theorem m3_nI {c : Nat} (h : c < 2 ^ 31) : ¬ nI c = -3 := by
  intro z
  have : (nI c).toInt = (-3 : Int32).toInt := by rw [z]
  rw [nI_toInt h, show (-3 : Int32).toInt = -3 from by decide] at this
  omega
theorem sh_mS {k : Nat} (h : ∃ m, m < 8 ∧ ar_ n P A B k (nI (m + 1))) : sh_m n P A B k < 8 ∧ ar_ n P A B k (nI (sh_m n P A B k + 1)) := Classical.epsilon_spec h
theorem sh_0 (k : Nat) (b : Int32) (h : ¬ P k) : sh_F n P A B k b = b := by
  unfold sh_F; rw [if_neg (fun z => h z.1)]
theorem sh_1 (k : Nat) (b : Int32) (_ : P k) (h : ar_ n P A B k (-3)) : sh_F n P A B k b = b := by
  unfold sh_F
  rw [if_neg]
  rintro ⟨_, m, m8, a⟩
  exact m3_nI (by omega) (ar_uq a h)
theorem sh_2 (k m : Nat) (pk : P k) (h : ar_ n P A B k (nI (m + 1))) (m8 : m < 8) : sh_F n P A B k (-3) = nI (m + 1) ∧ ∀ c, c < 8 → sh_F n P A B k (nI (c + 1)) = if m < c then nI (m + 1) else nI (c + 1) := by
  have ex : ∃ m, m < 8 ∧ ar_ n P A B k (nI (m + 1)) := ⟨m, m8, h⟩
  obtain ⟨s8, sa⟩ := sh_mS ex
  have e : sh_m n P A B k = m := by
    have := (nI_eq (by omega) (by omega)).mp (ar_uq sa h)
    omega
  unfold sh_F
  refine ⟨?_, fun c c8 => ?_⟩
  · rw [if_pos ⟨pk, ex⟩, if_pos rfl, e]
  · rw [if_pos ⟨pk, ex⟩, if_neg (m3_nI (by omega)), e]
    by_cases z : m < c
    · rw [if_pos z, if_pos (nI_lt (by omega) (by omega))]
    · rw [if_neg z, if_neg (nI_nlt (by omega) (by omega))]
theorem sh_R2 (k : Nat) : sh_R n P A B k = -3 ∨ ∃ c, c < 8 ∧ sh_R n P A B k = nI (c + 1) := by
  induction k with
  | zero => exact Or.inl rfl
  | succ k ih =>
    show sh_F n P A B k (sh_R n P A B k) = -3 ∨ ∃ c, c < 8 ∧ sh_F n P A B k (sh_R n P A B k) = nI (c + 1)
    rcases Classical.em (P k ∧ ∃ m, m < 8 ∧ ar_ n P A B k (nI (m + 1))) with ⟨pk, m, m8, a⟩ | z
    · obtain ⟨f1, f2⟩ := sh_2 k m pk a m8
      rcases ih with e | ⟨c, c8, e⟩
      · rw [e, f1]; exact Or.inr ⟨m, m8, rfl⟩
      · rw [e, f2 c c8]
        by_cases q : m < c
        · rw [if_pos q]; exact Or.inr ⟨m, m8, rfl⟩
        · rw [if_neg q]; exact Or.inr ⟨c, c8, rfl⟩
    · unfold sh_F
      rw [if_neg z]; exact ih
end
end
section
/-! ===== sides ===== -/
/-- the least number of lines from q is even -/
def ev_ (n : Nat) (P : Nat → Prop) (A B : Nat → Nat) (q v : Nat) : Prop := ∃ r, r % 2 = 0 ∧ bl_ A B P (fun x => x < n) q r v ∧ ∀ s, s < r → ¬ bl_ A B P (fun x => x < n) q s v
def sd_ (n : Nat) (P : Nat → Prop) (A B : Nat → Nat) (k v : Nat) : Prop := ∃ q, q < k ∧ nc_rep (gc A B P (fun x => x < n)) (fun x => x < n) q ∧ ev_ n P A B q v
theorem sd_s {n : Nat} {P : Nat → Prop} {A B : Nat → Nat} {k v : Nat} : sd_ n P A B (k + 1) v ↔ sd_ n P A B k v ∨ (nc_rep (gc A B P (fun x => x < n)) (fun x => x < n) k ∧ ev_ n P A B k v) := by
  constructor
  · rintro ⟨q, a, b, c⟩
    rcases Nat.lt_or_ge q k with w | w
    · exact Or.inl ⟨q, w, b, c⟩
    · have e : q = k := by omega
      subst e; exact Or.inr ⟨b, c⟩
  · rintro (⟨q, a, b⟩ | b)
    · exact ⟨q, by omega, b⟩
    · exact ⟨k, by omega, b⟩
theorem ev_n {n : Nat} {P : Nat → Prop} {A B : Nat → Nat} {q v : Nat} (hq : q < n) (h : ev_ n P A B q v) : v < n := by
  obtain ⟨r, _, b, _⟩ := h
  exact st_S (bl_S hq) r v b
section
variable {a_there a_as a_bs : Nat → Int32} {A B : Nat → Nat} {n : Nat} {P : Nat → Prop} {M : Int32}
theorem yv_even (hg : gr_ n P A B) (hT : yg_th P a_there) (hE : yg_ends A B a_as a_bs) (hM : ∀ v, bt M v = true ↔ P v) {p : Nat} (hp : p < n) {post : Int32 → Prop} (h : ∀ r, (∀ v, bt r v = true ↔ ev_ n P A B p v) → post r) :
    ∀ d m x2 x3, m + d = 7 → (∀ v, bt x2 v = true ↔ bl_ A B P (fun x => x < n) p m v) → (∀ v, v < 32 → (bt x3 v = true ↔ ∃ r, r ≤ m ∧ r % 2 = 0 ∧ bl_ A B P (fun x => x < n) p r v ∧ ∀ s, s < r → ¬ bl_ A B P (fun x => x < n) p s v)) → wY_even_9 post (nI n) a_there a_as a_bs (d + 1) x2 x3 (nI (m + 1))
  | 0, m, x2, x3, hm, I, J => by
    have e : m = 7 := by omega
    subst e
    have n8 := hg.1.2
    refine br_t (show (8 : Int32) ≤ nI 8 from by decide) (h _ fun v => ?_)
    rcases Nat.lt_or_ge v 32 with z | z
    · rw [J v z]
      refine ⟨fun ⟨r, _, q⟩ => ⟨r, q⟩, fun ⟨r, q⟩ => ⟨r, ?_, q⟩⟩
      have := bl_n hp q.2.1
      have : ¬ n - 1 < r := fun w => q.2.2 _ w this
      omega
    · exact ⟨fun q => absurd (bb_lt q) (by omega), fun q => by have := ev_n hp q; omega⟩
  | d + 1, m, x2, x3, hm, I, J => by
    have n8 := hg.1.2
    refine br_f (nI_ge (b := 8) (by omega) (by decide)) (yl_ hT hM (fun k z => (hg.2 k z).1) ?_)
    refine yz_step hE (L := P) (S := fun x => x < n) (X := bl_ A B P (fun x => x < n) p m) (fun v hv => hM v) (fun v => al_b n8) (fun v z => (hg.2 v z).1) I (fun v z => by omega) (fun r hr => ⟨by decide, pk_eq ((m + 1) % 2) 0 (fun z => nm_e (nm_r (nI_1 (m + 1)) (yv_even hg hT hE hM hp h d (m + 1) r _ (by omega) hr fun v hv => ?_))) (fun z => nm_r (nI_1 (m + 1)) (yv_even hg hT hE hM hp h d (m + 1) r _ (by omega) hr fun v hv => ?_)) (pk_rem (d := 2) (by omega) (by decide) (by decide)) rfl⟩)
    · rw [bb_or, bb_and, bb_not hv, J v hv, I v, hr v]
      constructor
      · rintro (⟨r, a, b⟩ | ⟨a, b⟩)
        · exact ⟨r, by omega, b⟩
        · exact ⟨m + 1, Nat.le_refl _, z, a, fun s hs q => b (st_le (bl_S hp) (by omega) q)⟩
      · rintro ⟨r, a, b⟩
        rcases Nat.lt_or_ge m r with w | w
        · have e : r = m + 1 := by omega
          subst e
          exact Or.inr ⟨b.2.1, b.2.2 m (by omega)⟩
        · exact Or.inl ⟨r, w, b⟩
    · rw [J v hv]
      refine ⟨fun ⟨r, a, b⟩ => ⟨r, by omega, b⟩, fun ⟨r, a, b⟩ => ⟨r, ?_, b⟩⟩
      rcases Nat.lt_or_ge m r with w | w
      · have e : r = m + 1 := by omega
        subst e
        exact absurd b.1 z
      · exact w
theorem yv_ (hg : gr_ n P A B) (hT : yg_th P a_there) (hE : yg_ends A B a_as a_bs) (hM : ∀ v, bt M v = true ↔ P v) {p : Nat} (hp : p < n) {post : Int32 → Prop} (h : ∀ r, (∀ v, bt r v = true ↔ ev_ n P A B p v) → post r) : wpY_even post (nI n, a_there, a_as, a_bs) (nI p) := by
  have n8 := hg.1.2
  have b : ∀ v, bt ((1 : Int32) <<< (nI p &&& 31)) v = true ↔ v = p := by
    intro v
    rcases Nat.lt_or_ge v 32 with z | z
    · exact bb_shl rfl (by omega) z
    · exact ⟨fun q => absurd (bb_lt q) (by omega), fun q => by omega⟩
  refine nm_e ⟨8, yv_even hg hT hE hM hp h 7 0 _ _ rfl b fun v hv => ?_⟩
  rw [b v]
  refine ⟨fun e => ⟨0, Nat.le_refl _, rfl, e, fun s hs => absurd hs (by omega)⟩, fun ⟨r, a, _, q, _⟩ => ?_⟩
  have e : r = 0 := by omega
  subst e; exact q
theorem yv_65 (hg : gr_ n P A B) (hT : yg_th P a_there) (hE : yg_ends A B a_as a_bs) {x2 : Int32} {post : Int32 → Prop} (h1 : (∀ k, P k → ¬ (bt x2 (A k) = true ↔ bt x2 (B k) = true)) → post x2) (h0 : (∃ k, P k ∧ (bt x2 (A k) = true ↔ bt x2 (B k) = true)) → post (-3)) :
    ∀ d k x3, k + d = 16 → x01_ x3 (∀ j, j < k → P j → ¬ (bt x2 (A j) = true ↔ bt x2 (B j) = true)) → wY_sides_65 post x2 (nI n) a_there a_as a_bs (d + 1) x3 (nI k)
  | 0, k, x3, hk, I => by
    have e : k = 16 := by omega
    subst e
    refine br_t (show (16 : Int32) ≤ nI 16 from by decide) ?_
    rcases I with ⟨rfl, q⟩ | ⟨rfl, q⟩
    · exact br_f bb_10 (h1 fun k pk => q k (hg.2 k pk).1 pk)
    · exact br_t rfl (h0 (Classical.byContradiction fun z => q fun j _ pj w => z ⟨j, pj, w⟩))
  | d + 1, k, x3, hk, I => by
    have hk16 : k < 16 := by omega
    have ha := yg_al hE hk16
    have hb := yg_bl hE hk16
    have i16 : vp_in (nI k) 16 := vp_in_nI hk16 (by decide)
    have nx : (∀ j, j < k → P j → ¬ (bt x2 (A j) = true ↔ bt x2 (B j) = true)) → (P k → ¬ (bt x2 (A k) = true ↔ bt x2 (B k) = true)) → ∀ j, j < k + 1 → P j → ¬ (bt x2 (A j) = true ↔ bt x2 (B j) = true) := by
      intro q w j hj pj
      rcases Nat.lt_or_ge j k with z | z
      · exact q j z pj
      · have e : j = k := by omega
        subst e; exact w pj
    refine br_f (nI_ge (b := 16) hk16 (by decide)) ?_
    rcases I with ⟨rfl, q⟩ | ⟨rfl, q⟩
    · refine br_f bb_10 ⟨i16, yg_br hT hk16 (fun t => nm_r (nI_1 k) (yv_65 hg hT hE h1 h0 d (k + 1) 1 (by omega) (Or.inl ⟨rfl, nx q fun z => absurd z t⟩))) (fun t => ⟨i16, i16, bb_brE (yg_a hE hk16) (by omega) (yg_b hE hk16) (by omega) (fun z => nm_r (nI_1 k) (yv_65 hg hT hE h1 h0 d (k + 1) 0 (by omega) (Or.inr ⟨rfl, fun w => w k (by omega) t z⟩))) (fun z => nm_r (nI_1 k) (yv_65 hg hT hE h1 h0 d (k + 1) 1 (by omega) (Or.inl ⟨rfl, nx q fun _ => z⟩)))⟩)⟩
    · exact br_t rfl (nm_r (nI_1 k) (yv_65 hg hT hE h1 h0 d (k + 1) 0 (by omega) (Or.inr ⟨rfl, fun w => q fun j hj => w j (by omega)⟩)))
theorem yv_9 (hg : gr_ n P A B) (hT : yg_th P a_there) (hE : yg_ends A B a_as a_bs) (hM : ∀ v, bt M v = true ↔ P v) {X : Int32} (hX : ∀ v, bt X v = true ↔ sd_ n P A B n v) {post : Int32 → Prop} (h1 : (∀ k, P k → ¬ (bt X (A k) = true ↔ bt X (B k) = true)) → post X) (h0 : (∃ k, P k ∧ (bt X (A k) = true ↔ bt X (B k) = true)) → post (-3)) :
    ∀ d p x1 x2, p + d = n → (∀ v, v < 32 → (bt x1 v = true ↔ v < n ∧ ∀ q, q < p → q < n → ¬ gc A B P (fun x => x < n) q v)) → (∀ v, v < 32 → (bt x2 v = true ↔ sd_ n P A B p v)) → wY_sides_9 post (nI n) a_there a_as a_bs (d + 1) x1 x2 (nI p)
  | 0, p, x1, x2, hp, I, J => by
    have e : p = n := by omega
    subst e
    have n8 := hg.1.2
    have e : x2 = X := bb_ext fun v hv => by rw [J v hv, hX v]
    subst e
    exact br_t (nI_le (Nat.le_refl _) (by omega)) ⟨17, yv_65 hg hT hE h1 h0 16 0 1 rfl (Or.inl ⟨rfl, fun j hj => absurd hj (by omega)⟩)⟩
  | d + 1, p, x1, x2, hp, I, J => by
    have n8 := hg.1.2
    have hpn : p < n := by omega
    refine br_f (nI_ge hpn (by omega)) (bb_br1 rfl (by omega) (fun t => yv_ hg hT hE hM hpn fun r hr => nm_e (yl_ hT hM (fun k z => (hg.2 k z).1) ?_)) (fun t => nm_r (nI_1 p) (yv_9 hg hT hE hM hX h1 h0 d (p + 1) _ _ (by omega) (fun v hv => ?_) (fun v hv => ?_))))
    · have rep : nc_rep (gc A B P (fun x => x < n)) (fun x => x < n) p := by
        obtain ⟨a, b⟩ := (I p (by omega)).mp t
        exact ⟨a, fun q hq sq => b q hq sq⟩
      refine yj_ hE (L := P) (S := fun x => x < n) (fun v _ => hM v) (fun v => al_b n8) (fun k z => (hg.2 k z).1) (fun v z => Nat.lt_of_lt_of_le z n8) (fun r' hr' => nm_e (nm_r (nI_1 p) (yv_9 hg hT hE hM hX h1 h0 d (p + 1) _ _ (by omega) (fun v hv => ?_) (fun v hv => ?_))))
      · rw [bb_and, bb_not hv, I v hv, hr' v]
        constructor
        · rintro ⟨⟨a, b⟩, c⟩
          refine ⟨a, fun q hq sq g => ?_⟩
          rcases Nat.lt_or_ge q p with w | w
          · exact b q w sq g
          · have e : q = p := by omega
            subst e
            exact c ⟨q, ⟨(bb_shl rfl (by omega) (by omega)).mpr rfl, sq⟩, g⟩
        · rintro ⟨a, b⟩
          refine ⟨⟨a, fun q hq => b q (by omega)⟩, ?_⟩
          rintro ⟨u, ⟨bu, su⟩, g⟩
          have e := (bb_shl (s := nI p) rfl (by omega) (bb_lt bu)).mp bu
          subst e
          exact b u (by omega) su g
      · rw [bb_or, J v hv, hr v, sd_s]
        exact ⟨fun z => z.elim Or.inl (fun w => Or.inr ⟨rep, w⟩), fun z => z.elim Or.inl (fun w => Or.inr w.2)⟩
    · rw [I v hv]
      have nrep : ¬ ∀ q, q < p → q < n → ¬ gc A B P (fun x => x < n) q p := fun z => t ((I p (by omega)).mpr ⟨hpn, z⟩)
      constructor
      · rintro ⟨a, b⟩
        refine ⟨a, fun q hq sq g => ?_⟩
        rcases Nat.lt_or_ge q p with w | w
        · exact b q w sq g
        · have e : q = p := by omega
          subst e
          exact nrep fun r hr sr g' => b r hr sr (gc_t g' g)
      · rintro ⟨a, b⟩
        exact ⟨a, fun q hq => b q (by omega)⟩
    · rw [J v hv, sd_s]
      refine ⟨Or.inl, fun z => z.elim id (fun w => ?_)⟩
      exact absurd ((I p (by omega)).mpr ⟨hpn, fun q hq sq => w.1.2 q hq sq⟩) t
theorem yv_sides (hg : gr_ n P A B) (hT : yg_th P a_there) (hE : yg_ends A B a_as a_bs) (hM : ∀ v, bt M v = true ↔ P v) {X : Int32} (hX : ∀ v, bt X v = true ↔ sd_ n P A B n v) {post : Int32 → Prop} (h1 : (∀ k, P k → ¬ (bt X (A k) = true ↔ bt X (B k) = true)) → post X) (h0 : (∃ k, P k ∧ (bt X (A k) = true ↔ bt X (B k) = true)) → post (-3)) : wpY_sides post (nI n, a_there, a_as, a_bs) := by
  refine ⟨n + 1, yv_9 hg hT hE hM hX h1 h0 n 0 _ 0 (by omega) (fun v hv => ?_) (fun v hv => ⟨fun z => absurd z (bb_0 v), fun ⟨q, a, _⟩ => by omega⟩)⟩
  exact ⟨fun z => ⟨(al_b hg.1.2).mp z, fun q hq => absurd hq (by omega)⟩, fun z => (al_b hg.1.2).mpr z.1⟩
end
section
variable {n : Nat} {P : Nat → Prop} {A B : Nat → Nat}
variable {f_present : Int32} {f_groupCount : Int32} {f_bridgeSet : Int32} {f_hingeSet : Int32} {f_walked : Int32} {a_endA : Nat → Int32} {a_endB : Nat → Int32} {a_number : Nat → Int32} {a_walkPoint : Nat → Int32} {a_parent : Nat → Int32} {a_parentLine : Nat → Int32} {a_lowest : Nat → Int32} {a_nextLine : Nat → Int32} {a_stack : Nat → Int32} {a_marked : Nat → Int32} {a_pointRoot : Nat → Int32} {a_lineRoot : Nat → Int32} {a_between : Nat → Int32} {a_melted : Nat → Int32} {a_pull : Nat → Int32} {a_left : Nat → Int32} {a_cameFrom : Nat → Int32} {a_queue : Nat → Int32} {a_matrix : Nat → Int64}
theorem xv_114 (hX : xg_ n P A B f_present a_endA a_endB) {a_dist : Nat → Int32} {x2 : Int32} {post : Int32 → SX → Prop} (h1 : (∀ k, P k → ¬ (bt x2 (A k) = true ↔ bt x2 (B k) = true)) → post x2 (nI n, f_present, f_groupCount, f_bridgeSet, f_hingeSet, f_walked, a_endA, a_endB, a_number, a_walkPoint, a_parent, a_parentLine, a_lowest, a_nextLine, a_stack, a_marked, a_pointRoot, a_lineRoot, a_between, a_melted, a_pull, a_left, a_cameFrom, a_queue, a_matrix, a_dist)) (h0 : (∃ k, P k ∧ (bt x2 (A k) = true ↔ bt x2 (B k) = true)) → post (-3) (nI n, f_present, f_groupCount, f_bridgeSet, f_hingeSet, f_walked, a_endA, a_endB, a_number, a_walkPoint, a_parent, a_parentLine, a_lowest, a_nextLine, a_stack, a_marked, a_pointRoot, a_lineRoot, a_between, a_melted, a_pull, a_left, a_cameFrom, a_queue, a_matrix, a_dist)) :
    ∀ d k, k + d = 16 → (∀ j, j < k → P j → ¬ (bt x2 (A j) = true ↔ bt x2 (B j) = true)) → wX_sides_114 post x2 (nI n) f_present f_groupCount f_bridgeSet f_hingeSet f_walked a_endA a_endB a_number a_walkPoint a_parent a_parentLine a_lowest a_nextLine a_stack a_marked a_pointRoot a_lineRoot a_between a_melted a_pull a_left a_cameFrom a_queue a_matrix a_dist (d + 1) (nI k)
  | 0, k, hk, I => by
    have e : k = 16 := by omega
    subst e
    exact br_t (show (16 : Int32) ≤ nI 16 from by decide) (h1 fun k pk => I k (hX.1.2 k pk).1 pk)
  | d + 1, k, hk, I => by
    have hk16 : k < 16 := by omega
    have ha := yg_al hX.2.2 hk16
    have hb := yg_bl hX.2.2 hk16
    have i16 : vp_in (nI k) 16 := vp_in_nI hk16 (by decide)
    have nx : (P k → ¬ (bt x2 (A k) = true ↔ bt x2 (B k) = true)) → wX_sides_114 post x2 (nI n) f_present f_groupCount f_bridgeSet f_hingeSet f_walked a_endA a_endB a_number a_walkPoint a_parent a_parentLine a_lowest a_nextLine a_stack a_marked a_pointRoot a_lineRoot a_between a_melted a_pull a_left a_cameFrom a_queue a_matrix a_dist (d + 1) (nI (k + 1)) := by
      intro w
      refine xv_114 hX h1 h0 d (k + 1) (by omega) fun j hj pj => ?_
      rcases Nat.lt_or_ge j k with z | z
      · exact I j z pj
      · have e : j = k := by omega
        subst e; exact w pj
    exact br_f (nI_ge (b := 16) hk16 (by decide)) (xh_ hX hk16 (fun pk => br_f bb_10 ⟨i16, i16, bb_brE (yg_a hX.2.2 hk16) (by omega) (yg_b hX.2.2 hk16) (by omega) (fun z => h0 ⟨k, pk, z⟩) (fun z => nm_r (nI_1 k) (nx fun _ => z))⟩) (fun pk => br_t rfl (nm_r (nI_1 k) (nx fun z => absurd z pk))))
theorem xv_31 (hX : xg_ n P A B f_present a_endA a_endB) {a_dist : Nat → Int32} {d : Nat → Nat} (Hr : rp_n n d a_dist) (Hd : ∀ x, x < n → d x ≤ 1000) {p : Nat} {post : Int32 → SX → Prop} {J : Int32 → Int32 → Int32 → Int32 → Int32 → Int32 → Int32 → Int32 → Int32 → (Nat → Int32) → (Nat → Int32) → (Nat → Int32) → (Nat → Int32) → (Nat → Int32) → (Nat → Int32) → (Nat → Int32) → (Nat → Int32) → (Nat → Int32) → (Nat → Int32) → (Nat → Int32) → (Nat → Int32) → (Nat → Int32) → (Nat → Int32) → (Nat → Int32) → (Nat → Int32) → (Nat → Int32) → (Nat → Int32) → (Nat → Int64) → (Nat → Int32) → Prop} {S1 S2 : Nat → Prop}
    (h : ∀ x1 x2, (∀ v, v < 32 → (bt x1 v = true ↔ S1 v ∨ (v < n ∧ d v < 1000))) → (∀ v, v < 32 → (bt x2 v = true ↔ S2 v ∨ (v < n ∧ d v < 1000 ∧ d v % 2 = 0))) → J x1 x2 (nI (p + 1)) (nI n) f_present f_groupCount f_bridgeSet f_hingeSet f_walked a_endA a_endB a_number a_walkPoint a_parent a_parentLine a_lowest a_nextLine a_stack a_marked a_pointRoot a_lineRoot a_between a_melted a_pull a_left a_cameFrom a_queue a_matrix a_dist) :
    ∀ q k x1 x2, k + q = n → (∀ v, v < 32 → (bt x1 v = true ↔ S1 v ∨ (v < k ∧ d v < 1000))) → (∀ v, v < 32 → (bt x2 v = true ↔ S2 v ∨ (v < k ∧ d v < 1000 ∧ d v % 2 = 0))) → wX_sides_31 post J (nI p) (nI n) f_present f_groupCount f_bridgeSet f_hingeSet f_walked a_endA a_endB a_number a_walkPoint a_parent a_parentLine a_lowest a_nextLine a_stack a_marked a_pointRoot a_lineRoot a_between a_melted a_pull a_left a_cameFrom a_queue a_matrix a_dist (q + 1) x1 x2 (nI k)
  | 0, k, x1, x2, hk, I, K => by
    have e : k = n := by omega
    subst e
    have n8 := hX.1.1.2
    exact br_t (nI_le (Nat.le_refl _) (by omega)) (nm_r (nI_1 p) (h _ _ I K))
  | q + 1, k, x1, x2, hk, I, K => by
    have n8 := hX.1.1.2
    have hkn : k < n := by omega
    have C : (nI k).toNatClampNeg = k := nI_clamp (by omega)
    have ik : vp_in (nI k) 8 := vp_in_nI (by omega) (by decide)
    have dk := Hd k hkn
    have up : ∀ {Q R : Prop} {v : Nat}, (Q ∨ (v < k + 1 ∧ R)) ↔ ((Q ∨ (v < k ∧ R)) ∨ (v = k ∧ R)) := by
      intro Q R v
      constructor
      · rintro (z | ⟨z, w⟩)
        · exact Or.inl (Or.inl z)
        · rcases Nat.lt_or_ge v k with y | y
          · exact Or.inl (Or.inr ⟨y, w⟩)
          · exact Or.inr ⟨by omega, w⟩
      · rintro ((z | ⟨z, w⟩) | ⟨z, w⟩)
        · exact Or.inl z
        · exact Or.inr ⟨by omega, w⟩
        · exact Or.inr ⟨by omega, w⟩
    have go : ∀ z0, (∀ v, v < 32 → (bt z0 v = true ↔ v = k ∧ d v < 1000)) → wX_sides_62 post J (wX_sides_31 post J (nI p) (nI n) f_present f_groupCount f_bridgeSet f_hingeSet f_walked a_endA a_endB a_number a_walkPoint a_parent a_parentLine a_lowest a_nextLine a_stack a_marked a_pointRoot a_lineRoot a_between a_melted a_pull a_left a_cameFrom a_queue a_matrix a_dist (q + 1)) x2 (nI p) (nI k) z0 x1 (nI n) f_present f_groupCount f_bridgeSet f_hingeSet f_walked a_endA a_endB a_number a_walkPoint a_parent a_parentLine a_lowest a_nextLine a_stack a_marked a_pointRoot a_lineRoot a_between a_melted a_pull a_left a_cameFrom a_queue a_matrix a_dist := by
      intro z0 hz
      have I' : ∀ v, v < 32 → (bt (x1 ||| z0) v = true ↔ S1 v ∨ (v < k + 1 ∧ d v < 1000)) := by
        intro v hv
        rw [bb_or, I v hv, hz v hv]; exact up.symm
      have fin : ∀ x2', (∀ v, v < 32 → (bt x2' v = true ↔ bt x2 v = true ∨ (v = k ∧ d v < 1000 ∧ d v % 2 = 0))) → wX_sides_31 post J (nI p) (nI n) f_present f_groupCount f_bridgeSet f_hingeSet f_walked a_endA a_endB a_number a_walkPoint a_parent a_parentLine a_lowest a_nextLine a_stack a_marked a_pointRoot a_lineRoot a_between a_melted a_pull a_left a_cameFrom a_queue a_matrix a_dist (q + 1) (x1 ||| z0) x2' (nI (k + 1)) := by
        intro x2' hx
        refine xv_31 hX Hr Hd h q (k + 1) _ _ (by omega) I' fun v hv => ?_
        rw [hx v hv, K v hv]; exact up.symm
      refine nm_e (And.intro ik ?_)
      rw [C, Hr k hkn]
      refine pk_le 1000 (d k) (fun z => nm_r (bb_or0 _) (nm_r (nI_1 k) (fin _ fun v hv => ⟨Or.inl, fun w => w.elim id (fun w => ?_)⟩))) (fun z => ⟨ik, by decide, pk_eq (d k % 2) 0 (fun w => nm_e (nm_r (nI_1 k) (fin _ fun v hv => ?_))) (fun w => nm_r (bb_or0 _) (nm_r (nI_1 k) (fin _ fun v hv => ⟨Or.inl, fun y => y.elim id (fun y => ?_)⟩))) (pk_rem (d := 2) (by omega) (by decide) (by decide)) rfl⟩)
      · rw [w.1] at w; omega
      · rw [bb_or1 rfl (by omega) hv]
        exact ⟨fun y => y.elim Or.inl (fun y => Or.inr ⟨y, y ▸ ⟨z, w⟩⟩), fun y => y.elim Or.inl (fun y => Or.inr y.1)⟩
      · rw [y.1] at y; exact absurd y.2.2 w
    refine br_f (nI_ge hkn (by omega)) ⟨ik, ?_⟩
    rw [C, Hr k hkn]
    refine pk_le 1000 (d k) (fun z => go 0 fun v hv => ⟨fun w => absurd w (bb_0 v), fun w => by rw [w.1] at w; omega⟩) (fun z => go _ fun v hv => ?_)
    rw [bb_shl rfl (by omega) hv]
    exact ⟨fun w => ⟨w, w ▸ z⟩, fun w => w.1⟩
theorem xv_6 (hX : xg_ n P A B f_present a_endA a_endB) {X : Int32} (hS : ∀ v, bt X v = true ↔ sd_ n P A B n v) {post : Int32 → SX → Prop} (h1 : ∀ a_dist, (∀ k, P k → ¬ (bt X (A k) = true ↔ bt X (B k) = true)) → post X (nI n, f_present, f_groupCount, f_bridgeSet, f_hingeSet, f_walked, a_endA, a_endB, a_number, a_walkPoint, a_parent, a_parentLine, a_lowest, a_nextLine, a_stack, a_marked, a_pointRoot, a_lineRoot, a_between, a_melted, a_pull, a_left, a_cameFrom, a_queue, a_matrix, a_dist)) (h0 : ∀ a_dist, (∃ k, P k ∧ (bt X (A k) = true ↔ bt X (B k) = true)) → post (-3) (nI n, f_present, f_groupCount, f_bridgeSet, f_hingeSet, f_walked, a_endA, a_endB, a_number, a_walkPoint, a_parent, a_parentLine, a_lowest, a_nextLine, a_stack, a_marked, a_pointRoot, a_lineRoot, a_between, a_melted, a_pull, a_left, a_cameFrom, a_queue, a_matrix, a_dist)) :
    ∀ d p x1 x2 a_dist, p + d = n → (∀ v, v < 32 → (bt x1 v = true ↔ v < n ∧ ∃ q, (q < p ∧ q < n) ∧ gc A B P (fun x => x < n) q v)) → (∀ v, v < 32 → (bt x2 v = true ↔ sd_ n P A B p v)) → wX_sides_6 post (d + 1) x1 x2 (nI p) (nI n) f_present f_groupCount f_bridgeSet f_hingeSet f_walked a_endA a_endB a_number a_walkPoint a_parent a_parentLine a_lowest a_nextLine a_stack a_marked a_pointRoot a_lineRoot a_between a_melted a_pull a_left a_cameFrom a_queue a_matrix a_dist
  | 0, p, x1, x2, a_dist, hp, I, J => by
    have e : p = n := by omega
    subst e
    have n8 := hX.1.1.2
    have e : x2 = X := bb_ext fun v hv => by rw [J v hv, hS v]
    subst e
    exact br_t (nI_le (Nat.le_refl _) (by omega)) ⟨17, xv_114 hX (h1 _) (h0 _) 16 0 rfl (fun j hj => absurd hj (by omega))⟩
  | d + 1, p, x1, x2, a_dist, hp, I, J => by
    have n8 := hX.1.1.2
    have hpn : p < n := by omega
    refine br_f (nI_ge hpn (by omega)) (bb_br0 rfl (by omega) (fun t => xm_ hX hpn fun dd a_dist Hr Hd => ⟨n + 1, ?_⟩) (fun t => nm_r (nI_1 p) (xv_6 hX hS h1 h0 d (p + 1) _ _ _ (by omega) (fun v hv => ?_) (fun v hv => ?_))))
    · have eL : (fun k => P k ∧ nI k ≠ -1) = P := funext fun i => propext ⟨fun z => z.1, fun z => ⟨z, fun e => m1_nI (c := i) (by have := (hX.1.2 i z).1; omega) e.symm⟩⟩
      rw [eL] at Hd
      obtain ⟨D1, D2, D3⟩ := dm_end hpn Hd
      have rep : nc_rep (gc A B P (fun x => x < n)) (fun x => x < n) p := ⟨hpn, fun q hq sq g => t ((I p (by omega)).mpr ⟨hpn, q, ⟨hq, sq⟩, g⟩)⟩
      refine xv_31 hX Hr D1 (S1 := fun v => v < n ∧ ∃ q, (q < p ∧ q < n) ∧ gc A B P (fun x => x < n) q v) (S2 := sd_ n P A B p) (fun x1 x2 K1 K2 => xv_6 hX hS h1 h0 d (p + 1) _ _ _ (by omega) (fun v hv => ?_) (fun v hv => ?_)) n 0 _ _ (by omega) (fun v hv => ?_) (fun v hv => ?_)
      · rw [K1 v hv]
        constructor
        · rintro (⟨a, q, b, c⟩ | ⟨a, b⟩)
          · exact ⟨a, q, ⟨by omega, b.2⟩, c⟩
          · exact ⟨a, p, ⟨by omega, hpn⟩, (bl_gc hpn v).mp ⟨_, (D2 v a b).1⟩⟩
        · rintro ⟨a, q, b, c⟩
          rcases Nat.lt_or_ge q p with w | w
          · exact Or.inl ⟨a, q, ⟨w, b.2⟩, c⟩
          · have e : q = p := by omega
            subst e
            obtain ⟨r, hr⟩ := (bl_gc hpn v).mpr c
            have := (D3 r v hr).2
            exact Or.inr ⟨a, by omega⟩
      · rw [K2 v hv, sd_s]
        constructor
        · rintro (z | ⟨a, b, c⟩)
          · exact Or.inl z
          · exact Or.inr ⟨rep, dd v, c, (D2 v a b).1, fun s hs q => by have := (D3 s v q).1; omega⟩
        · rintro (z | ⟨_, r, a, b, c⟩)
          · exact Or.inl z
          · have vn := st_S (bl_S hpn) r v b
            obtain ⟨l1, l2⟩ := D3 r v b
            have b2 := (D2 v vn (by omega)).1
            have e : dd v = r := by
              rcases Nat.lt_or_ge (dd v) r with w | w
              · exact absurd b2 (c _ w)
              · omega
            exact Or.inr ⟨vn, by omega, by omega⟩
      · rw [I v hv]; exact ⟨Or.inl, fun z => z.elim id (fun w => by omega)⟩
      · rw [J v hv]; exact ⟨Or.inl, fun z => z.elim id (fun w => by omega)⟩
    · have z := (I p (by omega)).mp t
      rw [I v hv]
      constructor
      · rintro ⟨a, q, b, c⟩
        exact ⟨a, q, ⟨by omega, b.2⟩, c⟩
      · rintro ⟨a, q, b, c⟩
        rcases Nat.lt_or_ge q p with w | w
        · exact ⟨a, q, ⟨w, b.2⟩, c⟩
        · have e : q = p := by omega
          subst e
          obtain ⟨_, r, hr, g⟩ := z
          exact ⟨a, r, hr, gc_t g c⟩
    · have z := (I p (by omega)).mp t
      rw [J v hv, sd_s]
      refine ⟨Or.inl, fun w => w.elim id (fun w => ?_)⟩
      obtain ⟨_, q, hq, g⟩ := z
      exact absurd g (w.1.2 q hq.1 hq.2)
theorem xv_sides (hX : xg_ n P A B f_present a_endA a_endB) {a_dist : Nat → Int32} {X : Int32} (hS : ∀ v, bt X v = true ↔ sd_ n P A B n v) {post : Int32 → SX → Prop} (h1 : ∀ a_dist, (∀ k, P k → ¬ (bt X (A k) = true ↔ bt X (B k) = true)) → post X (nI n, f_present, f_groupCount, f_bridgeSet, f_hingeSet, f_walked, a_endA, a_endB, a_number, a_walkPoint, a_parent, a_parentLine, a_lowest, a_nextLine, a_stack, a_marked, a_pointRoot, a_lineRoot, a_between, a_melted, a_pull, a_left, a_cameFrom, a_queue, a_matrix, a_dist)) (h0 : ∀ a_dist, (∃ k, P k ∧ (bt X (A k) = true ↔ bt X (B k) = true)) → post (-3) (nI n, f_present, f_groupCount, f_bridgeSet, f_hingeSet, f_walked, a_endA, a_endB, a_number, a_walkPoint, a_parent, a_parentLine, a_lowest, a_nextLine, a_stack, a_marked, a_pointRoot, a_lineRoot, a_between, a_melted, a_pull, a_left, a_cameFrom, a_queue, a_matrix, a_dist)) : wpX_sides post (nI n, f_present, f_groupCount, f_bridgeSet, f_hingeSet, f_walked, a_endA, a_endB, a_number, a_walkPoint, a_parent, a_parentLine, a_lowest, a_nextLine, a_stack, a_marked, a_pointRoot, a_lineRoot, a_between, a_melted, a_pull, a_left, a_cameFrom, a_queue, a_matrix, a_dist) :=
  ⟨n + 1, xv_6 hX hS h1 h0 n 0 0 0 _ (by omega) (fun v hv => ⟨fun z => absurd z (bb_0 v), fun ⟨_, q, a, _⟩ => by omega⟩) (fun v hv => ⟨fun z => absurd z (bb_0 v), fun ⟨q, a, _⟩ => by omega⟩)⟩
end
end
section
/-! ===== lines between points ===== -/
theorem ix_8 (a b : Nat) : nI a * 8 + nI b = nI (a * 8 + b) := by rw [show (8 : Int32) = nI 8 from rfl, pk_mul, nI_add]
theorem ix_7 (a b : Nat) : nI a * 7 + nI b = nI (a * 7 + b) := by rw [show (7 : Int32) = nI 7 from rfl, pk_mul, nI_add]
theorem ix_16 (a b : Nat) : nI a * 16 + nI b = nI (a * 16 + b) := by rw [show (16 : Int32) = nI 16 from rfl, pk_mul, nI_add]
theorem ix_p8 (a : Nat) : nI a + 8 = nI (a + 8) := by rw [show (8 : Int32) = nI 8 from rfl, nI_add]
/-- how many lines join two points, by the index of the pair -/
noncomputable def bw_ (P : Nat → Prop) (A B : Nat → Nat) (k i : Nat) : Nat := ct_n (fun j => P j ∧ jn_ A B j (i / 8) (i % 8)) k
section
variable {n : Nat} {P : Nat → Prop} {A B : Nat → Nat}
variable {f_present : Int32} {f_groupCount : Int32} {f_bridgeSet : Int32} {f_hingeSet : Int32} {f_walked : Int32} {a_endA : Nat → Int32} {a_endB : Nat → Int32} {a_number : Nat → Int32} {a_walkPoint : Nat → Int32} {a_parent : Nat → Int32} {a_parentLine : Nat → Int32} {a_lowest : Nat → Int32} {a_nextLine : Nat → Int32} {a_stack : Nat → Int32} {a_marked : Nat → Int32} {a_pointRoot : Nat → Int32} {a_lineRoot : Nat → Int32} {a_melted : Nat → Int32} {a_pull : Nat → Int32} {a_left : Nat → Int32} {a_cameFrom : Nat → Int32} {a_queue : Nat → Int32} {a_matrix : Nat → Int64} {a_dist : Nat → Int32}
theorem xf_23 (hX : xg_ n P A B f_present a_endA a_endB) {post : SX → Prop} (h : ∀ a_between, rp_n 64 (bw_ P A B 16) a_between → post (nI n, f_present, f_groupCount, f_bridgeSet, f_hingeSet, f_walked, a_endA, a_endB, a_number, a_walkPoint, a_parent, a_parentLine, a_lowest, a_nextLine, a_stack, a_marked, a_pointRoot, a_lineRoot, a_between, a_melted, a_pull, a_left, a_cameFrom, a_queue, a_matrix, a_dist)) :
    ∀ d k a_between, k + d = 16 → rp_n 64 (bw_ P A B k) a_between → wX_fillBetween_23 post (nI n) f_present f_groupCount f_bridgeSet f_hingeSet f_walked (d + 1) (nI k) a_endA a_endB a_number a_walkPoint a_parent a_parentLine a_lowest a_nextLine a_stack a_marked a_pointRoot a_lineRoot a_between a_melted a_pull a_left a_cameFrom a_queue a_matrix a_dist
  | 0, k, a_between, hk, I => by
    have e : k = 16 := by omega
    subst e
    exact br_t (show (16 : Int32) ≤ nI 16 from by decide) (h _ I)
  | d + 1, k, a_between, hk, I => by
    have n8 := hX.1.1.2
    have hk16 : k < 16 := by omega
    have lt : ∀ i, bw_ P A B k i ≤ 16 := fun i => Nat.le_trans (ct_le _ _) (by omega)
    refine br_f (nI_ge (b := 16) hk16 (by decide)) (xh_ hX hk16 (fun pk => br_f bb_10 ?_) (fun pk => br_t rfl (nm_r (nI_1 k) (xf_23 hX h d (k + 1) _ (by omega) fun i hi => ?_))))
    · have g := hX.1.2 k pk
      have i16 : vp_in (nI k) 16 := vp_in_nI hk16 (by decide)
      rw [yg_a hX.2.2 hk16, yg_b hX.2.2 hk16, ix_8, ix_8]
      have iab : vp_in (nI (A k * 8 + B k)) 64 := vp_in_nI (by omega) (by decide)
      have iba : vp_in (nI (B k * 8 + A k)) 64 := vp_in_nI (by omega) (by decide)
      rw [nI_clamp (show A k * 8 + B k < 2 ^ 31 by omega), nI_clamp (show B k * 8 + A k < 2 ^ 31 by omega)]
      refine ⟨i16, i16, iab, iab, nm_e ⟨i16, i16, iba, iba, nm_e (nm_r (nI_1 k) (xf_23 hX h d (k + 1) _ (by omega) fun i hi => ?_))⟩⟩
      have ne : B k * 8 + A k ≠ A k * 8 + B k := by have := g.2.2.2; omega
      rw [pk_un ne, I _ (by omega), I _ (by omega), nI_1, nI_1, by_c (by have := lt (A k * 8 + B k); omega), by_c (by have := lt (B k * 8 + A k); omega)]
      have s : ∀ i, bw_ P A B (k + 1) i = bw_ P A B k i + ct_b (P k ∧ jn_ A B k (i / 8) (i % 8)) := fun i => rfl
      rw [s i]
      rcases Classical.em (i = B k * 8 + A k) with z | z
      · rw [z, pk_us, ct_bt ⟨pk, Or.inr ⟨by omega, by omega⟩⟩]
      · rw [pk_un z]
        rcases Classical.em (i = A k * 8 + B k) with w | w
        · rw [w, pk_us, ct_bt ⟨pk, Or.inl ⟨by omega, by omega⟩⟩]
        · rw [pk_un w, ct_bf, Nat.add_zero]
          · exact I i hi
          · rintro ⟨_, ⟨e1, e2⟩ | ⟨e1, e2⟩⟩ <;> omega
    · rw [I i hi]
      show _ = nI (_ + ct_b _)
      rw [ct_bf (fun z => pk z.1)]; rfl
theorem xf_2 (hX : xg_ n P A B f_present a_endA a_endB) {post : SX → Prop} (h : ∀ a_between, rp_n 64 (bw_ P A B 16) a_between → post (nI n, f_present, f_groupCount, f_bridgeSet, f_hingeSet, f_walked, a_endA, a_endB, a_number, a_walkPoint, a_parent, a_parentLine, a_lowest, a_nextLine, a_stack, a_marked, a_pointRoot, a_lineRoot, a_between, a_melted, a_pull, a_left, a_cameFrom, a_queue, a_matrix, a_dist)) :
    ∀ d i a_between, i + d = 64 → (∀ x, x < i → a_between x = 0) → wX_fillBetween_2 post (nI n) f_present f_groupCount f_bridgeSet f_hingeSet f_walked (d + 1) (nI i) a_endA a_endB a_number a_walkPoint a_parent a_parentLine a_lowest a_nextLine a_stack a_marked a_pointRoot a_lineRoot a_between a_melted a_pull a_left a_cameFrom a_queue a_matrix a_dist
  | 0, i, a_between, hi, I => by
    have e : i = 64 := by omega
    subst e
    exact br_t (show (64 : Int32) ≤ nI 64 from by decide) ⟨17, xf_23 hX h 16 0 _ rfl I⟩
  | d + 1, i, a_between, hi, I => by
    have hi64 : i < 64 := by omega
    refine br_f (nI_ge (b := 64) hi64 (by decide)) ⟨vp_in_nI hi64 (by decide), nm_e (nm_r (nI_1 i) (xf_2 hX h d (i + 1) _ (by omega) fun x hx => ?_))⟩
    rw [nI_clamp (by omega), by_0]
    rcases Classical.em (x = i) with z | z
    · subst z; rw [pk_us]
    · rw [pk_un z]; exact I x (by omega)
theorem xf_ (hX : xg_ n P A B f_present a_endA a_endB) {a_between : Nat → Int32} {post : SX → Prop} (h : ∀ a_between, rp_n 64 (bw_ P A B 16) a_between → post (nI n, f_present, f_groupCount, f_bridgeSet, f_hingeSet, f_walked, a_endA, a_endB, a_number, a_walkPoint, a_parent, a_parentLine, a_lowest, a_nextLine, a_stack, a_marked, a_pointRoot, a_lineRoot, a_between, a_melted, a_pull, a_left, a_cameFrom, a_queue, a_matrix, a_dist)) : wpX_fillBetween post (nI n, f_present, f_groupCount, f_bridgeSet, f_hingeSet, f_walked, a_endA, a_endB, a_number, a_walkPoint, a_parent, a_parentLine, a_lowest, a_nextLine, a_stack, a_marked, a_pointRoot, a_lineRoot, a_between, a_melted, a_pull, a_left, a_cameFrom, a_queue, a_matrix, a_dist) :=
  ⟨65, xf_2 hX h 64 0 _ rfl (fun x hx => absurd hx (by omega))⟩
end
end
section
/-! ===== the least cut, by melting points two by two ===== -/
/-- lines that are cut by D -/
noncomputable def cu_ (P : Nat → Prop) (A B : Nat → Nat) (D : Nat → Prop) : Nat := ct_n (fun k => P k ∧ ¬ (D (A k) ↔ D (B k))) 16
def nt_ (n : Nat) (D : Nat → Prop) : Prop := (∃ u, u < n ∧ D u) ∧ ∃ v, v < n ∧ ¬ D v
/-- the least cut -/
def mc_ (n : Nat) (P : Nat → Prop) (A B : Nat → Nat) (b : Nat) : Prop := (∃ D, nt_ n D ∧ cu_ P A B D = b) ∧ ∀ D, nt_ n D → b ≤ cu_ P A B D
theorem mc_uq {n : Nat} {P : Nat → Prop} {A B : Nat → Nat} {b b' : Nat} (h : mc_ n P A B b) (h' : mc_ n P A B b') : b = b' := by
  obtain ⟨⟨D, d, e⟩, l⟩ := h
  obtain ⟨⟨D', d', e'⟩, l'⟩ := h'
  have := l D' d'
  have := l' D d
  omega
/-- line k joins z with one of S -/
def lk_ (A B : Nat → Nat) (S : Nat → Prop) (z k : Nat) : Prop := (A k = z ∧ S (B k)) ∨ (B k = z ∧ S (A k))
/-- how many lines z has to S; those of them cut by C; those within S cut by C -/
noncomputable def pw_ (P : Nat → Prop) (A B : Nat → Nat) (S : Nat → Prop) (z : Nat) : Nat := ct_n (fun k => P k ∧ lk_ A B S z k) 16
noncomputable def xw_ (P : Nat → Prop) (A B : Nat → Nat) (S C : Nat → Prop) (z : Nat) : Nat := ct_n (fun k => P k ∧ lk_ A B S z k ∧ ¬ (C (A k) ↔ C (B k))) 16
noncomputable def cw_2 (P : Nat → Prop) (A B : Nat → Nat) (S C : Nat → Prop) : Nat := ct_n (fun k => P k ∧ (S (A k) ∧ S (B k)) ∧ ¬ (C (A k) ↔ C (B k))) 16
noncomputable def ew_ (P : Nat → Prop) (A B : Nat → Nat) (x y : Nat) : Nat := ct_n (fun k => P k ∧ jn_ A B k x y) 16
section
variable {P S C : Nat → Prop} {A B : Nat → Nat} {v z : Nat}
theorem pw_add (nv : ¬ S v) : pw_ P A B (fun x => S x ∨ x = v) z = pw_ P A B S z + ew_ P A B v z := by
  unfold pw_ ew_
  rw [← ct_or]
  · refine ct_eq fun k _ => ⟨?_, ?_⟩
    · rintro ⟨p, ⟨e, s | s⟩ | ⟨e, s | s⟩⟩
      · exact Or.inl ⟨p, Or.inl ⟨e, s⟩⟩
      · exact Or.inr ⟨p, Or.inr ⟨e, s⟩⟩
      · exact Or.inl ⟨p, Or.inr ⟨e, s⟩⟩
      · exact Or.inr ⟨p, Or.inl ⟨s, e⟩⟩
    · rintro (⟨p, ⟨e, s⟩ | ⟨e, s⟩⟩ | ⟨p, ⟨e, s⟩ | ⟨e, s⟩⟩)
      · exact ⟨p, Or.inl ⟨e, Or.inl s⟩⟩
      · exact ⟨p, Or.inr ⟨e, Or.inl s⟩⟩
      · exact ⟨p, Or.inr ⟨s, Or.inr e⟩⟩
      · exact ⟨p, Or.inl ⟨e, Or.inr s⟩⟩
  · rintro k _ ⟨_, ⟨e, s⟩ | ⟨e, s⟩⟩ ⟨_, ⟨f, t⟩ | ⟨f, t⟩⟩
    · exact nv (by rw [← f, e, ← t]; exact s)
    · exact nv (t ▸ s)
    · exact nv (f ▸ s)
    · exact nv (by rw [← t, e, ← f]; exact s)
theorem cw_add (nv : ¬ S v) : cw_2 P A B (fun x => S x ∨ x = v) C = cw_2 P A B S C + xw_ P A B S C v := by
  unfold cw_2 xw_
  rw [← ct_or]
  · refine ct_eq fun k _ => ⟨?_, ?_⟩
    · rintro ⟨p, ⟨a | a, b | b⟩, c⟩
      · exact Or.inl ⟨p, ⟨a, b⟩, c⟩
      · exact Or.inr ⟨p, Or.inr ⟨b, a⟩, c⟩
      · exact Or.inr ⟨p, Or.inl ⟨a, b⟩, c⟩
      · exact absurd (by rw [a, b]) c
    · rintro (⟨p, ⟨a, b⟩, c⟩ | ⟨p, ⟨e, s⟩ | ⟨e, s⟩, c⟩)
      · exact ⟨p, ⟨Or.inl a, Or.inl b⟩, c⟩
      · exact ⟨p, ⟨Or.inr e, Or.inl s⟩, c⟩
      · exact ⟨p, ⟨Or.inl s, Or.inr e⟩, c⟩
  · rintro k _ ⟨_, ⟨a, b⟩, _⟩ ⟨_, ⟨e, s⟩ | ⟨e, s⟩, _⟩
    · exact nv (e ▸ a)
    · exact nv (e ▸ b)
theorem xw_up (d : ¬ (C z ↔ C v)) (nv : ¬ S v) : xw_ P A B S C z + ew_ P A B v z ≤ xw_ P A B (fun x => S x ∨ x = v) C z := by
  unfold xw_ ew_
  rw [← ct_or]
  · refine ct_mono fun k _ => ?_
    rintro (⟨p, ⟨e, s⟩ | ⟨e, s⟩, c⟩ | ⟨p, ⟨e, s⟩ | ⟨e, s⟩⟩)
    · exact ⟨p, Or.inl ⟨e, Or.inl s⟩, c⟩
    · exact ⟨p, Or.inr ⟨e, Or.inl s⟩, c⟩
    · exact ⟨p, Or.inr ⟨s, Or.inr e⟩, by rw [e, s]; exact fun w => d w.symm⟩
    · exact ⟨p, Or.inl ⟨e, Or.inr s⟩, by rw [e, s]; exact d⟩
  · rintro k _ ⟨_, ⟨e, s⟩ | ⟨e, s⟩, _⟩ ⟨_, ⟨f, t⟩ | ⟨f, t⟩⟩
    · exact nv (by rw [← f, e, ← t]; exact s)
    · exact nv (t ▸ s)
    · exact nv (f ▸ s)
    · exact nv (by rw [← t, e, ← f]; exact s)
theorem xw_mono : xw_ P A B S C z ≤ xw_ P A B (fun x => S x ∨ x = v) C z :=
  ct_mono fun k _ ⟨p, l, c⟩ => ⟨p, l.elim (fun q => Or.inl ⟨q.1, Or.inl q.2⟩) (fun q => Or.inr ⟨q.1, Or.inl q.2⟩), c⟩
/-- what a phase holds: l was taken in last -/
def ph_ (P : Nat → Prop) (A B : Nat → Nat) (act S : Nat → Prop) (l : Nat) : Prop := ∀ C z, act z → ¬ S z → ¬ (C z ↔ C l) → pw_ P A B S z ≤ cw_2 P A B S C + xw_ P A B S C z
theorem ph_one {act : Nat → Prop} (l : Nat) : ph_ P A B act (fun x => x = l) l := by
  intro C z _ nz d
  refine Nat.le_trans ?_ (Nat.le_add_left _ _)
  refine ct_mono fun k _ => ?_
  rintro ⟨p, q⟩
  refine ⟨p, q, ?_⟩
  rcases q with ⟨e, s⟩ | ⟨e, s⟩
  · rw [e, s]; exact d
  · rw [e, s]; exact fun w => d w.symm
theorem ph_step {act : Nat → Prop} {l : Nat} (h : ph_ P A B act S l) (av : act v) (nv : ¬ S v) (mx : ∀ z, act z → ¬ S z → pw_ P A B S z ≤ pw_ P A B S v) : ph_ P A B act (fun x => S x ∨ x = v) v := by
  intro C z az nz d
  have nz' : ¬ S z := fun q => nz (Or.inl q)
  rw [pw_add nv, cw_add nv]
  have u := xw_up (P := P) (A := A) (B := B) (S := S) d nv
  rcases Classical.em (C l ↔ C v) with e | e
  · have := h C z az nz' (fun w => d (w.trans e))
    omega
  · have := h C v av nv (fun w => e w.symm)
    have := mx z az nz'
    omega
/-- the last one's lines are a least cut between it and the one before -/
theorem ph_cut {act : Nat → Prop} {l : Nat} (h : ph_ P A B act S l) (av : act v) (nv : ¬ S v) (C : Nat → Prop) (d : ¬ (C v ↔ C l)) : pw_ P A B S v ≤ cw_2 P A B (fun x => S x ∨ x = v) C := by
  rw [cw_add nv]; exact h C v av nv d
end
/-! points that were melted: r x stands for x -/
def ml_ (n : Nat) (act : Nat → Prop) (r : Nat → Nat) : Prop := (∀ x, x < n → r x < n ∧ act (r x)) ∧ ∀ x, act x → x < n ∧ r x = x
/-- between two phases -/
def mg_ (n : Nat) (P : Nat → Prop) (A B r : Nat → Nat) (b : Nat) : Prop := (∀ D, nt_ n D → b ≤ cu_ P A B D ∨ ∀ x, x < n → (D x ↔ D (r x))) ∧ (b = 1000 ∨ ∃ D, nt_ n D ∧ cu_ P A B D = b)
section
variable {n : Nat} {P act : Nat → Prop} {A B r : Nat → Nat} {l b c best : Nat}
theorem mg_step (hg : gr_ n P A B) (hm : ml_ n act r) (h : mg_ n P A B r best) (al : act l) (ab : act b) (ne : b ≠ l) (hc : c = pw_ P (fun k => r (A k)) (fun k => r (B k)) (fun x => act x ∧ x ≠ l) l) (hl : ∀ C : Nat → Prop, ¬ (C l ↔ C b) → c ≤ cw_2 P (fun k => r (A k)) (fun k => r (B k)) act C) {best' : Nat} (e : best' ≤ best ∧ best' ≤ c ∧ (best' = best ∨ best' = c)) : mg_ n P A B (fun x => if r x = l then b else r x) best' := by
  obtain ⟨h1, h2⟩ := h
  refine ⟨fun D nt => ?_, ?_⟩
  · rcases h1 D nt with q | q
    · exact Or.inl (by omega)
    · rcases Classical.em (D l ↔ D b) with w | w
      · refine Or.inr fun x hx => ?_
        dsimp only
        by_cases z : r x = l
        · rw [if_pos z, q x hx, z]; exact w
        · rw [if_neg z]; exact q x hx
      · refine Or.inl ?_
        have := hl D w
        have e2 : cw_2 P (fun k => r (A k)) (fun k => r (B k)) act D = cu_ P A B D := ct_eq fun k _ => by
          constructor
          · rintro ⟨p, _, d⟩
            have g := hg.2 k p
            exact ⟨p, fun w => d ((q _ g.2.1).symm.trans (w.trans (q _ g.2.2.1)))⟩
          · rintro ⟨p, d⟩
            have g := hg.2 k p
            exact ⟨p, ⟨(hm.1 _ g.2.1).2, (hm.1 _ g.2.2.1).2⟩, fun w => d ((q _ g.2.1).trans (w.trans (q _ g.2.2.1).symm))⟩
        omega
  · rcases e.2.2 with q | q
    · rw [q]; exact h2
    · refine Or.inr ⟨fun x => r x = l, ⟨⟨l, (hm.2 l al).1, (hm.2 l al).2⟩, b, (hm.2 b ab).1, fun w => ne ((hm.2 b ab).2.symm.trans w)⟩, ?_⟩
      rw [q, hc]
      refine ct_eq fun k _ => ?_
      constructor
      · rintro ⟨p, d⟩
        have g := hg.2 k p
        refine ⟨p, ?_⟩
        rcases Classical.em (r (A k) = l) with w | w
        · exact Or.inl ⟨w, (hm.1 _ g.2.2.1).2, fun y => d ⟨fun _ => y, fun _ => w⟩⟩
        · rcases Classical.em (r (B k) = l) with y | y
          · exact Or.inr ⟨y, (hm.1 _ g.2.1).2, w⟩
          · exact absurd ⟨fun z => absurd z w, fun z => absurd z y⟩ d
      · rintro ⟨p, ⟨w, s⟩ | ⟨w, s⟩⟩
        · exact ⟨p, fun d => s.2 (d.mp w)⟩
        · exact ⟨p, fun d => s.2 (d.mpr w)⟩
theorem ml_step (hm : ml_ n act r) (al : act l) (ab : act b) (ne : b ≠ l) : ml_ n (fun x => act x ∧ x ≠ l) (fun x => if r x = l then b else r x) := by
  refine ⟨fun x hx => ?_, fun x q => ?_⟩
  · dsimp only
    by_cases z : r x = l
    · rw [if_pos z]; exact ⟨(hm.2 b ab).1, ab, ne⟩
    · rw [if_neg z]; exact ⟨(hm.1 x hx).1, (hm.1 x hx).2, z⟩
  · obtain ⟨a, e⟩ := hm.2 x q.1
    dsimp only
    rw [if_neg (by rw [e]; exact q.2)]
    exact ⟨a, e⟩
/-- melted together: their lines add up -/
theorem ew_melt (hg : gr_ n P A B) (hm : ml_ n act r) (al : act l) (ab : act b) (ne : b ≠ l) {x y : Nat} (ax : act x) (ay : act y) (nx : x ≠ l) (ny : y ≠ l) (xy : x ≠ y) : ew_ P (fun k => if r (A k) = l then b else r (A k)) (fun k => if r (B k) = l then b else r (B k)) x y = ew_ P (fun k => r (A k)) (fun k => r (B k)) x y + ((if x = b then ew_ P (fun k => r (A k)) (fun k => r (B k)) l y else 0) + (if y = b then ew_ P (fun k => r (A k)) (fun k => r (B k)) x l else 0)) := by
  have key : ∀ z, z ≠ l → ∀ s, ((if s = l then b else s) = z ↔ s = z ∨ (z = b ∧ s = l)) := by
    intro z nz s
    by_cases w : s = l
    · rw [if_pos w]
      exact ⟨fun e => Or.inr ⟨e.symm, w⟩, fun q => q.elim (fun e => absurd (e.symm.trans w) nz) (fun q => q.1.symm)⟩
    · rw [if_neg w]
      exact ⟨Or.inl, fun q => q.elim id (fun q => absurd q.2 w)⟩
  by_cases e : x = b
  · have yb : y ≠ b := fun w => xy (e.trans w.symm)
    rw [if_pos e, if_neg yb, Nat.add_zero]
    unfold ew_
    rw [← ct_or]
    · refine ct_eq fun k _ => ?_
      dsimp only [jn_]
      rw [key x nx, key y ny, key x nx, key y ny]
      constructor
      · rintro ⟨p, ⟨a1, a2⟩ | ⟨a1, a2⟩⟩
        · have a2 := a2.resolve_right (fun q => yb q.1)
          rcases a1 with a1 | a1
          · exact Or.inl ⟨p, Or.inl ⟨a1, a2⟩⟩
          · exact Or.inr ⟨p, Or.inl ⟨a1.2, a2⟩⟩
        · have a1 := a1.resolve_right (fun q => yb q.1)
          rcases a2 with a2 | a2
          · exact Or.inl ⟨p, Or.inr ⟨a1, a2⟩⟩
          · exact Or.inr ⟨p, Or.inr ⟨a1, a2.2⟩⟩
      · rintro (⟨p, ⟨a1, a2⟩ | ⟨a1, a2⟩⟩ | ⟨p, ⟨a1, a2⟩ | ⟨a1, a2⟩⟩)
        · exact ⟨p, Or.inl ⟨Or.inl a1, Or.inl a2⟩⟩
        · exact ⟨p, Or.inr ⟨Or.inl a1, Or.inl a2⟩⟩
        · exact ⟨p, Or.inl ⟨Or.inr ⟨e, a1⟩, Or.inl a2⟩⟩
        · exact ⟨p, Or.inr ⟨Or.inl a1, Or.inr ⟨e, a2⟩⟩⟩
    · rintro k _ ⟨_, ⟨a1, a2⟩ | ⟨a1, a2⟩⟩ ⟨_, ⟨c1, c2⟩ | ⟨c1, c2⟩⟩
      · exact nx (a1.symm.trans c1)
      · exact xy (a1.symm.trans c1)
      · exact ny (a1.symm.trans c1)
      · exact nx (a2.symm.trans c2)
  · by_cases f : y = b
    · rw [if_neg e, if_pos f, Nat.zero_add]
      unfold ew_
      rw [← ct_or]
      · refine ct_eq fun k _ => ?_
        dsimp only [jn_]
        rw [key x nx, key y ny, key x nx, key y ny]
        constructor
        · rintro ⟨p, ⟨a1, a2⟩ | ⟨a1, a2⟩⟩
          · have a1 := a1.resolve_right (fun q => e q.1)
            rcases a2 with a2 | a2
            · exact Or.inl ⟨p, Or.inl ⟨a1, a2⟩⟩
            · exact Or.inr ⟨p, Or.inl ⟨a1, a2.2⟩⟩
          · have a2 := a2.resolve_right (fun q => e q.1)
            rcases a1 with a1 | a1
            · exact Or.inl ⟨p, Or.inr ⟨a1, a2⟩⟩
            · exact Or.inr ⟨p, Or.inr ⟨a1.2, a2⟩⟩
        · rintro (⟨p, ⟨a1, a2⟩ | ⟨a1, a2⟩⟩ | ⟨p, ⟨a1, a2⟩ | ⟨a1, a2⟩⟩)
          · exact ⟨p, Or.inl ⟨Or.inl a1, Or.inl a2⟩⟩
          · exact ⟨p, Or.inr ⟨Or.inl a1, Or.inl a2⟩⟩
          · exact ⟨p, Or.inl ⟨Or.inl a1, Or.inr ⟨f, a2⟩⟩⟩
          · exact ⟨p, Or.inr ⟨Or.inr ⟨f, a1⟩, Or.inl a2⟩⟩
      · rintro k _ ⟨_, ⟨a1, a2⟩ | ⟨a1, a2⟩⟩ ⟨_, ⟨c1, c2⟩ | ⟨c1, c2⟩⟩
        · exact ny (a2.symm.trans c2)
        · exact nx (a1.symm.trans c1)
        · exact xy (c1.symm.trans a1)
        · exact ny (a1.symm.trans c1)
    · rw [if_neg e, if_neg f, Nat.add_zero]
      refine ct_eq fun k _ => ?_
      dsimp only [jn_]
      rw [key x nx, key y ny, key x nx, key y ny]
      constructor
      · rintro ⟨p, q⟩
        refine ⟨p, ?_⟩
        rcases q with ⟨a1, a2⟩ | ⟨a1, a2⟩
        · exact Or.inl ⟨a1.resolve_right (fun q => e q.1), a2.resolve_right (fun q => f q.1)⟩
        · exact Or.inr ⟨a1.resolve_right (fun q => f q.1), a2.resolve_right (fun q => e q.1)⟩
      · rintro ⟨p, q⟩
        exact ⟨p, q.elim (fun q => Or.inl ⟨Or.inl q.1, Or.inl q.2⟩) (fun q => Or.inr ⟨Or.inl q.1, Or.inl q.2⟩)⟩
theorem mg_end (hg : gr_ n P A B) (n2 : 2 ≤ n) (hm : ml_ n act r) (h : mg_ n P A B r best) {a : Nat} (one : ∀ x, act x → x = a) : mc_ n P A B best := by
  have all : ∀ D, nt_ n D → best ≤ cu_ P A B D := by
    intro D nt
    rcases h.1 D nt with q | q
    · exact q
    · obtain ⟨⟨u, hu, du⟩, v, hv, dv⟩ := nt
      have eu := one _ (hm.1 u hu).2
      have ev := one _ (hm.1 v hv).2
      have := q u hu
      rw [eu] at this
      have w := q v hv
      rw [ev] at w
      exact absurd (w.mpr (this.mp du)) dv
  refine ⟨?_, all⟩
  rcases h.2 with e | e
  · exfalso
    have := all (fun x => x = 0) ⟨⟨0, by omega, rfl⟩, 1, by omega, by omega⟩
    have : cu_ P A B (fun x => x = 0) ≤ 16 := ct_le _ _
    omega
  · exact e
theorem mg_start : mg_ n P A B (fun x => x) 1000 := ⟨fun D _ => Or.inr fun x _ => Iff.rfl, Or.inl rfl⟩
end
end
section
/-! ===== the component's melting ===== -/
def mw_ (P : Nat → Prop) (A B : Nat → Nat) (act : Nat → Prop) (a : Nat → Int32) : Prop := ∀ x y, act x → act y → x ≠ y → a (x * 8 + y) = nI (ew_ P A B x y)
def mp_ (n : Nat) (P : Nat → Prop) (A B : Nat → Nat) (act S : Nat → Prop) (a : Nat → Int32) : Prop := ∀ p, p < n → (act p ∧ ¬ S p ∧ a p = nI (pw_ P A B S p)) ∨ (¬ (act p ∧ ¬ S p) ∧ a p = -1)
theorem ew_le (P : Nat → Prop) (A B : Nat → Nat) (x y : Nat) : ew_ P A B x y ≤ 16 := ct_le _ _
theorem pw_le (P : Nat → Prop) (A B : Nat → Nat) (S : Nat → Prop) (x : Nat) : pw_ P A B S x ≤ 16 := ct_le _ _
section
variable {n : Nat} {P : Nat → Prop} {A B : Nat → Nat}
variable {f_present : Int32} {f_groupCount : Int32} {f_bridgeSet : Int32} {f_hingeSet : Int32} {f_walked : Int32} {a_endA : Nat → Int32} {a_endB : Nat → Int32} {a_number : Nat → Int32} {a_walkPoint : Nat → Int32} {a_parent : Nat → Int32} {a_parentLine : Nat → Int32} {a_lowest : Nat → Int32} {a_nextLine : Nat → Int32} {a_stack : Nat → Int32} {a_marked : Nat → Int32} {a_pointRoot : Nat → Int32} {a_lineRoot : Nat → Int32} {a_between : Nat → Int32} {a_melted : Nat → Int32} {a_pull : Nat → Int32} {a_left : Nat → Int32} {a_cameFrom : Nat → Int32} {a_queue : Nat → Int32} {a_matrix : Nat → Int64} {a_dist : Nat → Int32}
theorem xg_strong (n8 : n ≤ 8) {act S : Nat → Prop} (hp : mp_ n P A B act S a_pull) (ex : ∃ p, p < n ∧ act p ∧ ¬ S p) {post : Int32 → Prop} (h : ∀ v, v < n → act v → ¬ S v → (∀ z, z < n → act z → ¬ S z → pw_ P A B S z ≤ pw_ P A B S v) → post (nI v)) :
    ∀ d q x1, q + d = n → ((x1 = -1 ∧ ∀ p, p < q → ¬ (act p ∧ ¬ S p)) ∨ ∃ v, x1 = nI v ∧ v < q ∧ act v ∧ ¬ S v ∧ ∀ z, z < q → act z → ¬ S z → pw_ P A B S z ≤ pw_ P A B S v) → wX_strongest_4 post (nI n) f_present f_groupCount f_bridgeSet f_hingeSet f_walked a_endA a_endB a_number a_walkPoint a_parent a_parentLine a_lowest a_nextLine a_stack a_marked a_pointRoot a_lineRoot a_between a_melted a_pull a_left a_cameFrom a_queue a_matrix a_dist (d + 1) x1 (nI q)
  | 0, q, x1, hq, I => by
    have e : q = n := by omega
    subst e
    refine br_t (nI_le (Nat.le_refl _) (by omega)) ?_
    rcases I with ⟨_, I⟩ | ⟨v, rfl, a, b, c, d⟩
    · obtain ⟨p, a, b⟩ := ex
      exact absurd b (I p a)
    · exact h v a b c d
  | d + 1, q, x1, hq, I => by
    have hqn : q < n := by omega
    have C : (nI q).toNatClampNeg = q := nI_clamp (by omega)
    have iq : vp_in (nI q) 8 := vp_in_nI (by omega) (by decide)
    refine br_f (nI_ge hqn (by omega)) ⟨iq, ?_⟩
    rw [C]
    have lq := pw_le P A B S q
    rcases hp q hqn with ⟨a, b, e⟩ | ⟨a, e⟩
    · rw [e]
      refine br_f (nI_pos (by omega)) ?_
      have take : (∀ z, z < q → act z → ¬ S z → pw_ P A B S z ≤ pw_ P A B S q) → wX_strongest_4 post (nI n) f_present f_groupCount f_bridgeSet f_hingeSet f_walked a_endA a_endB a_number a_walkPoint a_parent a_parentLine a_lowest a_nextLine a_stack a_marked a_pointRoot a_lineRoot a_between a_melted a_pull a_left a_cameFrom a_queue a_matrix a_dist (d + 1) (nI q) (nI (q + 1)) := by
        intro k
        refine xg_strong n8 hp ex h d (q + 1) _ (by omega) (Or.inr ⟨q, rfl, by omega, a, b, fun z hz az nz => ?_⟩)
        rcases Nat.lt_or_ge z q with w | w
        · exact k z w az nz
        · have e : z = q := by omega
          subst e; exact Nat.le_refl _
      rcases I with ⟨rfl, I⟩ | ⟨v, rfl, v1, v2, v3, v4⟩
      · exact br_t (by decide) (nm_r (nI_1 q) (take fun z hz az nz => absurd ⟨az, nz⟩ (I z hz)))
      · refine br_f (nI_pos (by omega)) ⟨iq, vp_in_nI (by omega) (by decide), ?_⟩
        have lv := pw_le P A B S v
        rw [nI_clamp (show v < 2 ^ 31 by omega)]
        have ev : a_pull v = nI (pw_ P A B S v) := by
          rcases hp v (by omega) with w | w
          · exact w.2.2
          · exact absurd ⟨v2, v3⟩ w.1
        refine pk_le (pw_ P A B S q) (pw_ P A B S v) (fun l => nm_r (nI_1 q) (xg_strong n8 hp ex h d (q + 1) _ (by omega) (Or.inr ⟨v, rfl, by omega, v2, v3, fun z hz az nz => ?_⟩))) (fun l => nm_r (nI_1 q) (take fun z hz az nz => ?_)) rfl ev
        · rcases Nat.lt_or_ge z q with w | w
          · exact v4 z w az nz
          · have e : z = q := by omega
            subst e; exact l
        · have := v4 z hz az nz; omega
    · rw [e]
      refine br_t (by decide) (nm_r (nI_1 q) (xg_strong n8 hp ex h d (q + 1) _ (by omega) ?_))
      rcases I with ⟨rfl, I⟩ | ⟨v, rfl, v1, v2, v3, v4⟩
      · refine Or.inl ⟨rfl, fun p hpq w => ?_⟩
        rcases Nat.lt_or_ge p q with y | y
        · exact I p y w
        · have e : p = q := by omega
          subst e; exact a w
      · refine Or.inr ⟨v, rfl, by omega, v2, v3, fun z hz az nz => ?_⟩
        rcases Nat.lt_or_ge z q with y | y
        · exact v4 z y az nz
        · have e : z = q := by omega
          subst e; exact absurd ⟨az, nz⟩ a
theorem xg_st (n8 : n ≤ 8) {act S : Nat → Prop} (hp : mp_ n P A B act S a_pull) (ex : ∃ p, p < n ∧ act p ∧ ¬ S p) {post : Int32 → Prop} (h : ∀ v, v < n → act v → ¬ S v → (∀ z, z < n → act z → ¬ S z → pw_ P A B S z ≤ pw_ P A B S v) → post (nI v)) : wpX_strongest post (nI n, f_present, f_groupCount, f_bridgeSet, f_hingeSet, f_walked, a_endA, a_endB, a_number, a_walkPoint, a_parent, a_parentLine, a_lowest, a_nextLine, a_stack, a_marked, a_pointRoot, a_lineRoot, a_between, a_melted, a_pull, a_left, a_cameFrom, a_queue, a_matrix, a_dist) :=
  ⟨n + 1, xg_strong n8 hp ex h n 0 _ (by omega) (Or.inl ⟨rfl, fun p hp => absurd hp (by omega)⟩)⟩
end
section
variable {n : Nat} {P : Nat → Prop} {A B : Nat → Nat}
variable {f_present : Int32} {f_groupCount : Int32} {f_bridgeSet : Int32} {f_hingeSet : Int32} {f_walked : Int32} {a_endA : Nat → Int32} {a_endB : Nat → Int32} {a_number : Nat → Int32} {a_walkPoint : Nat → Int32} {a_parent : Nat → Int32} {a_parentLine : Nat → Int32} {a_lowest : Nat → Int32} {a_nextLine : Nat → Int32} {a_stack : Nat → Int32} {a_marked : Nat → Int32} {a_pointRoot : Nat → Int32} {a_lineRoot : Nat → Int32} {a_between : Nat → Int32} {a_melted : Nat → Int32} {a_left : Nat → Int32} {a_cameFrom : Nat → Int32} {a_queue : Nat → Int32} {a_matrix : Nat → Int64} {a_dist : Nat → Int32}
theorem xg_77 (n8 : n ≤ 8) {act S : Nat → Prop} (hw : mw_ P A B act a_between) {v i : Nat} (vn : v < n) (av : act v) (nv : ¬ S v) {x1 x3 x4 : Int32} {post : Int32 → SX → Prop} {J : Int32 → Int32 → Int32 → Int32 → (Nat → Int32) → (Nat → Int32) → (Nat → Int32) → (Nat → Int32) → (Nat → Int32) → (Nat → Int32) → (Nat → Int32) → (Nat → Int32) → (Nat → Int32) → (Nat → Int32) → (Nat → Int32) → (Nat → Int32) → (Nat → Int32) → (Nat → Int32) → (Nat → Int32) → (Nat → Int32) → (Nat → Int32) → (Nat → Int32) → (Nat → Int64) → (Nat → Int32) → Prop}
    (h : ∀ a_pull, mp_ n P A B act (fun x => S x ∨ x = v) a_pull → J (nI v) x3 x4 (nI (i + 1)) a_endA a_endB a_number a_walkPoint a_parent a_parentLine a_lowest a_nextLine a_stack a_marked a_pointRoot a_lineRoot a_between a_melted a_pull a_left a_cameFrom a_queue a_matrix a_dist) :
    ∀ d q a_pull, q + d = n → (∀ p, p < n → (act p ∧ ¬ (S p ∨ p = v) ∧ a_pull p = nI (if p < q then pw_ P A B (fun x => S x ∨ x = v) p else pw_ P A B S p)) ∨ (¬ (act p ∧ ¬ (S p ∨ p = v)) ∧ a_pull p = -1)) → wX_meltLastTwo_77 post J x1 (nI v) x3 x4 (nI i) (nI n) f_present f_groupCount f_bridgeSet f_hingeSet f_walked (d + 1) (nI q) a_endA a_endB a_number a_walkPoint a_parent a_parentLine a_lowest a_nextLine a_stack a_marked a_pointRoot a_lineRoot a_between a_melted a_pull a_left a_cameFrom a_queue a_matrix a_dist
  | 0, q, a_pull, hq, I => by
    have e : q = n := by omega
    subst e
    refine br_t (nI_le (Nat.le_refl _) (by omega)) (nm_r (nI_1 i) (h _ fun p hp => ?_))
    rcases I p hp with ⟨a, b, c⟩ | w
    · rw [if_pos hp] at c; exact Or.inl ⟨a, b, c⟩
    · exact Or.inr w
  | d + 1, q, a_pull, hq, I => by
    have hqn : q < n := by omega
    have C : (nI q).toNatClampNeg = q := nI_clamp (by omega)
    have iq : vp_in (nI q) 8 := vp_in_nI (by omega) (by decide)
    have ix : vp_in (nI v * 8 + nI q) 64 := by rw [ix_8]; exact vp_in_nI (by omega) (by decide)
    have step : ∀ x : Int32, (∀ a b : Prop, (a → b) → True) → ((act q ∧ ¬ (S q ∨ q = v) ∧ x = nI (pw_ P A B (fun x => S x ∨ x = v) q)) ∨ (¬ (act q ∧ ¬ (S q ∨ q = v)) ∧ x = -1)) → wX_meltLastTwo_77 post J x1 (nI v) x3 x4 (nI i) (nI n) f_present f_groupCount f_bridgeSet f_hingeSet f_walked (d + 1) (nI (q + 1)) a_endA a_endB a_number a_walkPoint a_parent a_parentLine a_lowest a_nextLine a_stack a_marked a_pointRoot a_lineRoot a_between a_melted (upd a_pull q x) a_left a_cameFrom a_queue a_matrix a_dist := by
      intro x _ hx
      refine xg_77 n8 hw vn av nv h d (q + 1) _ (by omega) fun p hp => ?_
      rcases Classical.em (p = q) with z | z
      · subst z
        rw [pk_us, if_pos (by omega)]; exact hx
      · rw [pk_un z]
        rcases I p hp with ⟨a, b, c⟩ | w
        · refine Or.inl ⟨a, b, ?_⟩
          rw [c]
          by_cases y : p < q
          · rw [if_pos y, if_pos (by omega)]
          · rw [if_neg y, if_neg (by omega)]
        · exact Or.inr w
    refine br_f (nI_ge hqn (by omega)) ⟨iq, iq, ?_⟩
    rw [C]
    rcases I q hqn with ⟨a, b, c⟩ | ⟨a, c⟩
    · rw [if_neg (by omega)] at c
      have l1 := pw_le P A B S q
      have e : a_between (v * 8 + q) = nI (ew_ P A B v q) := hw v q av a (fun e => b (Or.inr e.symm))
      refine br_f (by rw [c]; exact nI_pos (by omega)) ⟨ix, iq, nm_r (e' := upd a_pull q (nI (pw_ P A B (fun x => S x ∨ x = v) q))) ?_ (nm_r (nI_1 q) (step _ (fun _ _ _ => trivial) (Or.inl ⟨a, b, rfl⟩)))⟩
      rw [ix_8, nI_clamp (show v * 8 + q < 2 ^ 31 by omega), c, e, nI_add, pw_add nv]
    · refine br_t (by rw [c]; decide) ⟨iq, nm_r (e' := upd a_pull q (-1)) (by rw [c]; rfl) (nm_r (nI_1 q) (step _ (fun _ _ _ => trivial) (Or.inr ⟨a, rfl⟩)))⟩
end
section
variable {n : Nat} {P : Nat → Prop} {A B : Nat → Nat}
variable {f_present : Int32} {f_groupCount : Int32} {f_bridgeSet : Int32} {f_hingeSet : Int32} {f_walked : Int32} {a_endA : Nat → Int32} {a_endB : Nat → Int32} {a_number : Nat → Int32} {a_walkPoint : Nat → Int32} {a_parent : Nat → Int32} {a_parentLine : Nat → Int32} {a_lowest : Nat → Int32} {a_nextLine : Nat → Int32} {a_stack : Nat → Int32} {a_marked : Nat → Int32} {a_pointRoot : Nat → Int32} {a_lineRoot : Nat → Int32} {a_melted : Nat → Int32} {a_pull : Nat → Int32} {a_left : Nat → Int32} {a_cameFrom : Nat → Int32} {a_queue : Nat → Int32} {a_matrix : Nat → Int64} {a_dist : Nat → Int32}
/-- the rows and columns of l are added to those of b -/
theorem xg_144 (n8 : n ≤ 8) {act : Nat → Prop} (an : ∀ x, act x → x < n) {W : Nat → Nat → Nat} {l b : Nat} (al : act l) (ab : act b) (ne : b ≠ l) (hW : ∀ x y, act x → act y → x ≠ l → y ≠ l → x ≠ y → W x y + ((if x = b then W l y else 0) + (if y = b then W x l else 0)) < 128) {x4 : Int32} {post : Int32 → SX → Prop}
    (h : ∀ a_between, (∀ x y, act x → act y → x ≠ l → y ≠ l → x ≠ y → a_between (x * 8 + y) = nI (W x y + ((if x = b then W l y else 0) + (if y = b then W x l else 0)))) → post x4 (nI n, f_present, f_groupCount, f_bridgeSet, f_hingeSet, f_walked, a_endA, a_endB, a_number, a_walkPoint, a_parent, a_parentLine, a_lowest, a_nextLine, a_stack, a_marked, a_pointRoot, a_lineRoot, a_between, a_melted, a_pull, a_left, a_cameFrom, a_queue, a_matrix, a_dist)) :
    ∀ d q a_between, q + d = n → (∀ x y, act x → act y → x ≠ l → y ≠ l → x ≠ y → a_between (x * 8 + y) = nI (W x y + ((if x = b ∧ y < q then W l y else 0) + (if y = b ∧ x < q then W x l else 0)))) → (∀ y, act y → y ≠ l → y ≠ b → a_between (l * 8 + y) = nI (W l y) ∧ a_between (y * 8 + l) = nI (W y l)) → wX_meltLastTwo_144 post (nI l) (nI b) x4 (nI n) f_present f_groupCount f_bridgeSet f_hingeSet f_walked (d + 1) (nI q) a_endA a_endB a_number a_walkPoint a_parent a_parentLine a_lowest a_nextLine a_stack a_marked a_pointRoot a_lineRoot a_between a_melted a_pull a_left a_cameFrom a_queue a_matrix a_dist
  | 0, q, a_between, hq, I, K => by
    have e : q = n := by omega
    subst e
    have bn := an b ab
    have ix : vp_in (nI b * 8 + nI b) 64 := by rw [ix_8]; exact vp_in_nI (by omega) (by decide)
    refine br_t (nI_le (Nat.le_refl _) (by omega)) ⟨ix, nm_e (h _ fun x y ax ay nx ny xy => ?_)⟩
    have xn := an x ax
    have yn := an y ay
    rw [ix_8, nI_clamp (show b * 8 + b < 2 ^ 31 by omega), pk_un (show x * 8 + y ≠ b * 8 + b by omega), I x y ax ay nx ny xy]
    congr 1; congr 1; congr 1
    · by_cases e : x = b
      · rw [if_pos ⟨e, yn⟩, if_pos e]
      · rw [if_neg (fun z => e z.1), if_neg e]
    · by_cases e : y = b
      · rw [if_pos ⟨e, xn⟩, if_pos e]
      · rw [if_neg (fun z => e z.1), if_neg e]
  | d + 1, q, a_between, hq, I, K => by
    have hqn : q < n := by omega
    have bn := an b ab
    have ln := an l al
    have i1 : vp_in (nI b * 8 + nI q) 64 := by rw [ix_8]; exact vp_in_nI (by omega) (by decide)
    have i2 : vp_in (nI l * 8 + nI q) 64 := by rw [ix_8]; exact vp_in_nI (by omega) (by decide)
    have i3 : vp_in (nI q * 8 + nI b) 64 := by rw [ix_8]; exact vp_in_nI (by omega) (by decide)
    have i4 : vp_in (nI q * 8 + nI l) 64 := by rw [ix_8]; exact vp_in_nI (by omega) (by decide)
    refine br_f (nI_ge hqn (by omega)) ⟨i1, i2, i1, nm_e ⟨i3, i4, i3, nm_e (nm_r (nI_1 q) ?_)⟩⟩
    rw [ix_8, ix_8, ix_8, ix_8, nI_clamp (show b * 8 + q < 2 ^ 31 by omega), nI_clamp (show l * 8 + q < 2 ^ 31 by omega), nI_clamp (show q * 8 + b < 2 ^ 31 by omega), nI_clamp (show q * 8 + l < 2 ^ 31 by omega)]
    generalize hv1 : vp_nar .byte (a_between (b * 8 + q) + a_between (l * 8 + q)).toInt8.toInt32 = v1
    generalize hv2 : vp_nar .byte (upd a_between (b * 8 + q) v1 (q * 8 + b) + upd a_between (b * 8 + q) v1 (q * 8 + l)).toInt8.toInt32 = v2
    refine xg_144 n8 an al ab ne hW h d (q + 1) _ (by omega) (fun x y ax ay nx ny xy => ?_) (fun y ay nl nb => ?_)
    · have xn := an x ax
      have yn := an y ay
      have bound := hW x y ax ay nx ny xy
      rcases Classical.em (x = b ∧ y = q) with ⟨e1, e2⟩ | z
      · -- the row of b at q
        subst e1
        subst e2
        rw [pk_un (show x * 8 + y ≠ y * 8 + x by omega), pk_us, ← hv1, I x y ax ay nx ny xy, (K y ay ny (fun e => xy e.symm)).1]
        rw [if_neg (fun w => by omega), if_neg (fun w => xy w.1.symm), if_pos ⟨rfl, by omega⟩, if_neg (fun w => xy w.1.symm), nI_add]
        rw [if_pos rfl] at bound
        rw [by_c (by omega)]
        congr 1
      · rcases Classical.em (y = b ∧ x = q) with ⟨e1, e2⟩ | w
        · subst e1
          subst e2
          rw [pk_us, ← hv2, pk_un (show x * 8 + y ≠ y * 8 + x by omega), pk_un (show x * 8 + l ≠ y * 8 + x by omega), I x y ax ay nx ny xy, (K x ax nx xy).2]
          rw [if_neg (fun w => xy w.1), if_neg (fun w => by omega), if_neg (fun w => xy w.1), if_pos ⟨rfl, by omega⟩, nI_add]
          rw [if_neg xy, if_pos rfl] at bound
          rw [by_c (by omega)]
          exact congrArg nI (by omega)
        · rw [pk_un (show x * 8 + y ≠ q * 8 + b by omega), pk_un (show x * 8 + y ≠ b * 8 + q by omega), I x y ax ay nx ny xy]
          congr 1; congr 1; congr 1
          · by_cases e : x = b
            · by_cases f : y < q
              · rw [if_pos ⟨e, f⟩, if_pos ⟨e, by omega⟩]
              · rw [if_neg (fun z => f z.2), if_neg (fun u => z ⟨e, by omega⟩)]
            · rw [if_neg (fun z => e z.1), if_neg (fun z => e z.1)]
          · by_cases e : y = b
            · by_cases f : x < q
              · rw [if_pos ⟨e, f⟩, if_pos ⟨e, by omega⟩]
              · rw [if_neg (fun z => f z.2), if_neg (fun u => w ⟨e, by omega⟩)]
            · rw [if_neg (fun z => e z.1), if_neg (fun z => e z.1)]
    · have yn := an y ay
      rw [pk_un (show l * 8 + y ≠ q * 8 + b by omega), pk_un (show l * 8 + y ≠ b * 8 + q by omega), pk_un (show y * 8 + l ≠ q * 8 + b by omega), pk_un (show y * 8 + l ≠ b * 8 + q by omega)]
      exact K y ay nl nb
end
end
section
/-- the phase so far: i points are taken in -/
def ms_ (P : Nat → Prop) (A B : Nat → Nat) (act S : Nat → Prop) (i : Nat) (x2 x3 x4 : Int32) : Prop := (i = 0 ∧ ∀ x, ¬ S x) ∨ ∃ l, x2 = nI l ∧ S l ∧ ph_ P A B act S l ∧ (i = 1 ∨ ∃ b c, x3 = nI b ∧ S b ∧ b ≠ l ∧ x4 = nI c ∧ c = pw_ P A B (fun x => S x ∧ x ≠ l) l ∧ ∀ C : Nat → Prop, ¬ (C l ↔ C b) → c ≤ cw_2 P A B S C)
section
variable {n : Nat} {P : Nat → Prop} {A B : Nat → Nat}
variable {f_present : Int32} {f_groupCount : Int32} {f_bridgeSet : Int32} {f_hingeSet : Int32} {f_walked : Int32} {a_endA : Nat → Int32} {a_endB : Nat → Int32} {a_number : Nat → Int32} {a_walkPoint : Nat → Int32} {a_parent : Nat → Int32} {a_parentLine : Nat → Int32} {a_lowest : Nat → Int32} {a_nextLine : Nat → Int32} {a_stack : Nat → Int32} {a_marked : Nat → Int32} {a_pointRoot : Nat → Int32} {a_lineRoot : Nat → Int32} {a_left : Nat → Int32} {a_cameFrom : Nat → Int32} {a_queue : Nat → Int32} {a_matrix : Nat → Int64} {a_dist : Nat → Int32}
theorem xg_46 (n8 : n ≤ 8) {act : Nat → Prop} (an : ∀ x, act x → x < n) {m : Nat} (hm : ct_n act n = m) (m2 : 2 ≤ m) {a_between : Nat → Int32} {a_melted : Nat → Int32} (hw : mw_ P A B act a_between) (hM : mr_ n (fun x => ¬ act x) a_melted) {post : Int32 → SX → Prop}
    (h : ∀ l b c a_between a_melted a_pull, act l → act b → b ≠ l → c = pw_ P A B (fun x => act x ∧ x ≠ l) l → (∀ C : Nat → Prop, ¬ (C l ↔ C b) → c ≤ cw_2 P A B act C) → (∀ x y, act x → act y → x ≠ l → y ≠ l → x ≠ y → ew_ P A B x y + ((if x = b then ew_ P A B l y else 0) + (if y = b then ew_ P A B x l else 0)) < 128 → a_between (x * 8 + y) = nI (ew_ P A B x y + ((if x = b then ew_ P A B l y else 0) + (if y = b then ew_ P A B x l else 0)))) → mr_ n (fun x => ¬ (act x ∧ x ≠ l)) a_melted → post (nI c) (nI n, f_present, f_groupCount, f_bridgeSet, f_hingeSet, f_walked, a_endA, a_endB, a_number, a_walkPoint, a_parent, a_parentLine, a_lowest, a_nextLine, a_stack, a_marked, a_pointRoot, a_lineRoot, a_between, a_melted, a_pull, a_left, a_cameFrom, a_queue, a_matrix, a_dist)) :
    ∀ d i (S : Nat → Prop) x2 x3 x4 a_pull, i + d = m → (∀ x, S x → act x) → ct_n S n = i → mp_ n P A B act S a_pull → ms_ P A B act S i x2 x3 x4 → wX_meltLastTwo_46 post (nI m) (nI n) f_present f_groupCount f_bridgeSet f_hingeSet f_walked (d + 1) x2 x3 x4 (nI i) a_endA a_endB a_number a_walkPoint a_parent a_parentLine a_lowest a_nextLine a_stack a_marked a_pointRoot a_lineRoot a_between a_melted a_pull a_left a_cameFrom a_queue a_matrix a_dist
  | 0, i, S, x2, x3, x4, a_pull, hi, sa, cs, hp, I => by
    have e : i = m := by omega
    subst e
    have mn : i ≤ n := by rw [← cs]; exact ct_le _ _
    have eS : S = act := by
      funext x
      refine propext ⟨sa x, fun ax => Classical.byContradiction fun ns => ?_⟩
      have := ct_lt (P := S) (Q := act) ns ax (N := n) (fun k _ => sa k) (an x ax)
      omega
    subst eS
    refine br_t (nI_le (Nat.le_refl _) (by omega)) ?_
    rcases I with ⟨z, _⟩ | ⟨l, rfl, sl, ph, z | ⟨b, c, rfl, sb, bl, rfl, ec, hc⟩⟩
    · omega
    · omega
    · have ln := an l sl
      have bn := an b sb
      have C : (nI l).toNatClampNeg = l := nI_clamp (by omega)
      refine ⟨vp_in_nI (by omega) (by decide), nm_e ⟨n + 1, ?_⟩⟩
      rw [C, by_b1]
      have e1 : ∀ x y, ew_ P A B x y ≤ 16 := ew_le P A B
      have f1 : ∀ (q : Prop) (x : Nat) [Decidable q], x ≤ 16 → (if q then x else 0) ≤ 16 := by
        intro q x _ hx
        by_cases z : q
        · rw [if_pos z]; exact hx
        · rw [if_neg z]; omega
      refine xg_144 n8 an sl sb bl (fun x y _ _ _ _ _ => ?_) (fun a_between H => h l b c _ _ _ sl sb bl ec hc (fun x y ax ay nx ny xy _ => H x y ax ay nx ny xy) (mr_put hM fun x hx => ?_)) n 0 _ (by omega) (fun x y ax ay nx ny xy => ?_) (fun y ay nl nb => ⟨hw l y sl ay (fun e => nl e.symm), hw y l ay sl nl⟩)
      · have := e1 x y
        have := f1 (x = b) _ (e1 l y)
        have := f1 (y = b) _ (e1 x l)
        omega
      · constructor
        · intro q
          rcases Classical.em (S x) with w | w
          · exact Or.inr (Classical.byContradiction fun u => q ⟨w, u⟩)
          · exact Or.inl w
        · rintro (q | q) w
          · exact q w.1
          · exact w.2 q
      · rw [if_neg (fun z => by omega), if_neg (fun z => by omega)]
        exact hw x y ax ay xy
  | d + 1, i, S, x2, x3, x4, a_pull, hi, sa, cs, hp, I => by
    have mn : m ≤ n := by rw [← hm]; exact ct_le _ _
    have ex : ∃ p, p < n ∧ act p ∧ ¬ S p := by
      apply Classical.byContradiction
      intro no
      have : ct_n act n ≤ ct_n S n := ct_mono fun k hk ak => Classical.byContradiction fun q => no ⟨k, hk, ak, q⟩
      omega
    refine br_f (nI_ge (b := m) (by omega) (by omega)) (xg_st n8 hp ex fun v vn av nv mx => ?_)
    have C : (nI v).toNatClampNeg = v := nI_clamp (by omega)
    have iv : vp_in (nI v) 8 := vp_in_nI (by omega) (by decide)
    rw [C]
    have ep : a_pull v = nI (pw_ P A B S v) := by
      rcases hp v vn with w | w
      · exact w.2.2
      · exact absurd ⟨av, nv⟩ w.1
    refine ⟨iv, nm_r ep ⟨iv, nm_e ⟨n + 1, xg_77 n8 hw vn av nv (S := S) (fun a_pull hp' => xg_46 n8 an hm m2 hw hM h d (i + 1) (fun x => S x ∨ x = v) _ _ _ _ (by omega) (fun x q => q.elim (sa x) (fun e => e ▸ av)) (by rw [ct_add nv vn, cs]) hp' ?_) n 0 _ (by omega) (fun p pn => ?_)⟩⟩⟩
    · rcases I with ⟨z, ns⟩ | ⟨l, rfl, sl, ph, _⟩
      · refine Or.inr ⟨v, rfl, Or.inr rfl, ?_, Or.inl (by omega)⟩
        have e : (fun x => S x ∨ x = v) = (fun x => x = v) := funext fun x => propext ⟨fun q => q.resolve_left (ns x), Or.inr⟩
        rw [e]; exact ph_one v
      · refine Or.inr ⟨v, rfl, Or.inr rfl, ph_step ph av nv (fun z az nz => mx z (an z az) az nz), Or.inr ⟨l, _, rfl, Or.inl sl, fun e => nv (e ▸ sl), rfl, ?_, fun C d => ph_cut ph av nv C d⟩⟩
        have e : (fun x => (S x ∨ x = v) ∧ x ≠ v) = S := funext fun x => propext ⟨fun q => q.1.resolve_right q.2, fun q => ⟨Or.inl q, fun e => nv (e ▸ q)⟩⟩
        rw [e]
    · rcases Classical.em (p = v) with z | z
      · subst z
        rw [pk_us]
        exact Or.inr ⟨fun q => q.2 (Or.inr rfl), rfl⟩
      · rw [pk_un z, if_neg (by omega)]
        rcases hp p pn with ⟨a, b, c⟩ | ⟨a, c⟩
        · exact Or.inl ⟨a, fun q => q.elim b z, c⟩
        · exact Or.inr ⟨fun q => a ⟨q.1, fun w => q.2 (Or.inl w)⟩, c⟩
theorem xg_2 (n8 : n ≤ 8) {act : Nat → Prop} (an : ∀ x, act x → x < n) {m : Nat} (hm : ct_n act n = m) (m2 : 2 ≤ m) {a_between : Nat → Int32} {a_melted : Nat → Int32} (hw : mw_ P A B act a_between) (hM : mr_ n (fun x => ¬ act x) a_melted) {post : Int32 → SX → Prop}
    (h : ∀ l b c a_between a_melted a_pull, act l → act b → b ≠ l → c = pw_ P A B (fun x => act x ∧ x ≠ l) l → (∀ C : Nat → Prop, ¬ (C l ↔ C b) → c ≤ cw_2 P A B act C) → (∀ x y, act x → act y → x ≠ l → y ≠ l → x ≠ y → ew_ P A B x y + ((if x = b then ew_ P A B l y else 0) + (if y = b then ew_ P A B x l else 0)) < 128 → a_between (x * 8 + y) = nI (ew_ P A B x y + ((if x = b then ew_ P A B l y else 0) + (if y = b then ew_ P A B x l else 0)))) → mr_ n (fun x => ¬ (act x ∧ x ≠ l)) a_melted → post (nI c) (nI n, f_present, f_groupCount, f_bridgeSet, f_hingeSet, f_walked, a_endA, a_endB, a_number, a_walkPoint, a_parent, a_parentLine, a_lowest, a_nextLine, a_stack, a_marked, a_pointRoot, a_lineRoot, a_between, a_melted, a_pull, a_left, a_cameFrom, a_queue, a_matrix, a_dist)) :
    ∀ d q a_pull, q + d = n → (∀ p, p < q → (act p ∧ a_pull p = 0) ∨ (¬ act p ∧ a_pull p = -1)) → wX_meltLastTwo_2 post (nI m) (nI n) f_present f_groupCount f_bridgeSet f_hingeSet f_walked (d + 1) (nI q) a_endA a_endB a_number a_walkPoint a_parent a_parentLine a_lowest a_nextLine a_stack a_marked a_pointRoot a_lineRoot a_between a_melted a_pull a_left a_cameFrom a_queue a_matrix a_dist
  | 0, q, a_pull, hq, I => by
    have e : q = n := by omega
    subst e
    refine br_t (nI_le (Nat.le_refl _) (by omega)) ⟨m + 1, xg_46 n8 an hm m2 hw hM h m 0 (fun _ => False) _ _ _ _ (by omega) (fun x w => w.elim) (ct_zero fun k _ => id) (fun p hp => ?_) (Or.inl ⟨rfl, fun x => id⟩)⟩
    have z : pw_ P A B (fun _ => False) p = 0 := ct_zero fun k _ w => w.2.elim (fun q => q.2) (fun q => q.2)
    rw [z]
    rcases I p hp with ⟨a, b⟩ | ⟨a, b⟩
    · exact Or.inl ⟨a, id, b⟩
    · exact Or.inr ⟨fun w => a w.1, b⟩
  | d + 1, q, a_pull, hq, I => by
    have hqn : q < n := by omega
    have C : (nI q).toNatClampNeg = q := nI_clamp (by omega)
    have iq : vp_in (nI q) 8 := vp_in_nI (by omega) (by decide)
    refine br_f (nI_ge hqn (by omega)) ⟨iq, ?_⟩
    rw [C]
    have go : ∀ x : Int32, ((act q ∧ x = 0) ∨ (¬ act q ∧ x = -1)) → wX_meltLastTwo_2 post (nI m) (nI n) f_present f_groupCount f_bridgeSet f_hingeSet f_walked (d + 1) (nI (q + 1)) a_endA a_endB a_number a_walkPoint a_parent a_parentLine a_lowest a_nextLine a_stack a_marked a_pointRoot a_lineRoot a_between a_melted (upd a_pull q x) a_left a_cameFrom a_queue a_matrix a_dist := by
      intro x hx
      refine xg_2 n8 an hm m2 hw hM h d (q + 1) _ (by omega) fun p hp => ?_
      rcases Classical.em (p = q) with z | z
      · subst z; rw [pk_us]; exact hx
      · rw [pk_un z]; exact I p (by omega)
    exact mr_br hM hqn (fun w => ⟨iq, nm_e (nm_r (nI_1 q) (go 0 (Or.inl ⟨Classical.byContradiction w, rfl⟩)))⟩) (fun w => ⟨iq, nm_e (nm_r (nI_1 q) (go (-1) (Or.inr ⟨w, rfl⟩)))⟩)
end
section
variable {n : Nat} {P : Nat → Prop} {A B : Nat → Nat}
variable {f_present : Int32} {f_groupCount : Int32} {f_bridgeSet : Int32} {f_hingeSet : Int32} {f_walked : Int32} {a_endA : Nat → Int32} {a_endB : Nat → Int32} {a_number : Nat → Int32} {a_walkPoint : Nat → Int32} {a_parent : Nat → Int32} {a_parentLine : Nat → Int32} {a_lowest : Nat → Int32} {a_nextLine : Nat → Int32} {a_stack : Nat → Int32} {a_marked : Nat → Int32} {a_pointRoot : Nat → Int32} {a_lineRoot : Nat → Int32} {a_left : Nat → Int32} {a_cameFrom : Nat → Int32} {a_queue : Nat → Int32} {a_matrix : Nat → Int64} {a_dist : Nat → Int32}
theorem xg_59 (hX : xg_ n P A B f_present a_endA a_endB) (n2 : 2 ≤ n) {post : Int32 → SX → Prop} (h : ∀ b a_between a_melted a_pull, mc_ n P A B b → post (nI b) (nI n, f_present, f_groupCount, f_bridgeSet, f_hingeSet, f_walked, a_endA, a_endB, a_number, a_walkPoint, a_parent, a_parentLine, a_lowest, a_nextLine, a_stack, a_marked, a_pointRoot, a_lineRoot, a_between, a_melted, a_pull, a_left, a_cameFrom, a_queue, a_matrix, a_dist)) :
    ∀ d (act : Nat → Prop) (r : Nat → Nat) best a_between a_melted a_pull, ct_n act n = d + 1 → ml_ n act r → best ≤ 1000 → mg_ n P A B r best → mw_ P (fun k => r (A k)) (fun k => r (B k)) act a_between → mr_ n (fun x => ¬ act x) a_melted → wX_weakest_59 post (d + 1) (nI best) (nI (d + 1)) (nI n) f_present f_groupCount f_bridgeSet f_hingeSet f_walked a_endA a_endB a_number a_walkPoint a_parent a_parentLine a_lowest a_nextLine a_stack a_marked a_pointRoot a_lineRoot a_between a_melted a_pull a_left a_cameFrom a_queue a_matrix a_dist
  | 0, act, r, best, a_between, a_melted, a_pull, hc, hm, b3, hg, hw, hM => by
    refine br_t (show nI 1 ≤ 1 from by decide) (h best _ _ _ ?_)
    obtain ⟨a, ha, aa⟩ := ct_ex (P := act) (N := n) (by omega)
    refine mg_end hX.1 n2 hm hg (a := a) fun x ax => Classical.byContradiction fun ne => ?_
    have := ct_two' (P := act) ne (hm.2 x ax).1 ha ax aa
    omega
  | d + 1, act, r, best, a_between, a_melted, a_pull, hc, hm, b3, hg, hw, hM => by
    have n8 := hX.1.1.2
    have dn : d + 2 ≤ n := by have := ct_le act n; omega
    refine br_f (nI_ge (b := d + 1 + 1) (a := 1) (by omega) (by omega)) ⟨n + 1, xg_2 n8 (fun x ax => (hm.2 x ax).1) hc (by omega) hw hM (fun l b c a_between a_melted a_pull al ab bl ec hcut H hM' => ?_) n 0 _ (by omega) (fun p hp => absurd hp (by omega))⟩
    have c16 : c ≤ 16 := by rw [ec]; exact pw_le _ _ _ _ _
    have ca : ct_n (fun x => act x ∧ x ≠ l) n = d + 1 := by have := ct_del al (hm.2 l al).1; omega
    have w' : mw_ P (fun k => if r (A k) = l then b else r (A k)) (fun k => if r (B k) = l then b else r (B k)) (fun x => act x ∧ x ≠ l) a_between := by
      intro x y ax ay xy
      have e := ew_melt hX.1 hm al ab bl ax.1 ay.1 ax.2 ay.2 xy
      rw [e]
      refine H x y ax.1 ay.1 ax.2 ay.2 xy ?_
      rw [← e]
      have := ew_le P (fun k => if r (A k) = l then b else r (A k)) (fun k => if r (B k) = l then b else r (B k)) x y
      omega
    have go : ∀ best', best' ≤ best ∧ best' ≤ c ∧ (best' = best ∨ best' = c) → wX_weakest_59 post (d + 1) (nI best') (nI (d + 1)) (nI n) f_present f_groupCount f_bridgeSet f_hingeSet f_walked a_endA a_endB a_number a_walkPoint a_parent a_parentLine a_lowest a_nextLine a_stack a_marked a_pointRoot a_lineRoot a_between a_melted a_pull a_left a_cameFrom a_queue a_matrix a_dist := fun best' e => xg_59 hX n2 h d _ _ best' _ _ _ ca (ml_step hm al ab bl) (by omega) (mg_step hX.1 hm hg al ab bl ec hcut e) w' hM'
    refine pk_le best c (fun z => nm_r (pk_m1 (d + 1)) (go best ⟨Nat.le_refl _, z, Or.inl rfl⟩)) (fun z => nm_r (pk_m1 (d + 1)) (go c ⟨by omega, Nat.le_refl _, Or.inr rfl⟩))
theorem xg_33 (hX : xg_ n P A B f_present a_endA a_endB) (n2 : 2 ≤ n) {a_between : Nat → Int32} {a_pull : Nat → Int32} (hw : rp_n 64 (bw_ P A B 16) a_between) {post : Int32 → SX → Prop} (h : ∀ b a_between a_melted a_pull, mc_ n P A B b → post (nI b) (nI n, f_present, f_groupCount, f_bridgeSet, f_hingeSet, f_walked, a_endA, a_endB, a_number, a_walkPoint, a_parent, a_parentLine, a_lowest, a_nextLine, a_stack, a_marked, a_pointRoot, a_lineRoot, a_between, a_melted, a_pull, a_left, a_cameFrom, a_queue, a_matrix, a_dist)) :
    ∀ d q a_melted, q + d = n → (∀ x, x < q → a_melted x = 0) → wX_weakest_33 post 1000 (nI n) f_present f_groupCount f_bridgeSet f_hingeSet f_walked (d + 1) (nI q) a_endA a_endB a_number a_walkPoint a_parent a_parentLine a_lowest a_nextLine a_stack a_marked a_pointRoot a_lineRoot a_between a_melted a_pull a_left a_cameFrom a_queue a_matrix a_dist
  | 0, q, a_melted, hq, I => by
    have e : q = n := by omega
    subst e
    have n8 := hX.1.1.2
    have cn : ct_n (fun x => x < q) q = q - 1 + 1 := by
      have : ∀ N, N ≤ q → ct_n (fun x => x < q) N = N := by
        intro N
        induction N with
        | zero => intro _; rfl
        | succ N ih => intro hN; simp only [ct_n]; rw [ih (by omega), ct_bt (by omega)]
      rw [this q (Nat.le_refl _)]; omega
    have K := fun a_pull => xg_59 (f_groupCount := f_groupCount) (f_bridgeSet := f_bridgeSet) (f_hingeSet := f_hingeSet) (f_walked := f_walked) (a_number := a_number) (a_walkPoint := a_walkPoint) (a_parent := a_parent) (a_parentLine := a_parentLine) (a_lowest := a_lowest) (a_nextLine := a_nextLine) (a_stack := a_stack) (a_marked := a_marked) (a_pointRoot := a_pointRoot) (a_lineRoot := a_lineRoot) (a_left := a_left) (a_cameFrom := a_cameFrom) (a_queue := a_queue) (a_matrix := a_matrix) (a_dist := a_dist) hX n2 h (q - 1) (fun x => x < q) (fun x => x) 1000 a_between a_melted a_pull cn ⟨fun x hx => ⟨hx, hx⟩, fun x hx => ⟨hx, rfl⟩⟩ (Nat.le_refl _) mg_start (fun x y ax ay xy => by
      rw [hw _ (by omega)]
      unfold bw_ ew_
      rw [show (x * 8 + y) / 8 = x by omega, show (x * 8 + y) % 8 = y by omega]) (fun x hx => Or.inr ⟨fun w => w hx, I x hx⟩)
    rw [show q - 1 + 1 = q by omega] at K
    exact br_t (nI_le (Nat.le_refl _) (by omega)) ⟨q, K _⟩
  | d + 1, q, a_melted, hq, I => by
    have n8 := hX.1.1.2
    have hqn : q < n := by omega
    refine br_f (nI_ge hqn (by omega)) ⟨vp_in_nI (by omega) (by decide), nm_e (nm_r (nI_1 q) (xg_33 hX n2 hw h d (q + 1) _ (by omega) fun x hx => ?_))⟩
    rw [nI_clamp (by omega), by_b0]
    rcases Classical.em (x = q) with z | z
    · subst z; rw [pk_us]
    · rw [pk_un z]; exact I x (by omega)
end
section
variable {n : Nat} {P : Nat → Prop} {A B : Nat → Nat}
variable {f_present : Int32} {f_groupCount : Int32} {f_bridgeSet : Int32} {f_hingeSet : Int32} {f_walked : Int32} {a_endA : Nat → Int32} {a_endB : Nat → Int32} {a_number : Nat → Int32} {a_walkPoint : Nat → Int32} {a_parent : Nat → Int32} {a_parentLine : Nat → Int32} {a_lowest : Nat → Int32} {a_nextLine : Nat → Int32} {a_stack : Nat → Int32} {a_marked : Nat → Int32} {a_pointRoot : Nat → Int32} {a_lineRoot : Nat → Int32} {a_between : Nat → Int32} {a_melted : Nat → Int32} {a_pull : Nat → Int32} {a_left : Nat → Int32} {a_cameFrom : Nat → Int32} {a_queue : Nat → Int32} {a_matrix : Nat → Int64} {a_dist : Nat → Int32}
theorem xg_weak (hX : xg_ n P A B f_present a_endA a_endB) {post : Int32 → SX → Prop}
    (h1 : ∀ b (f_bridgeSet : Int32) (f_hingeSet : Int32) (f_walked : Int32) (a_number : Nat → Int32) (a_walkPoint : Nat → Int32) (a_parent : Nat → Int32) (a_parentLine : Nat → Int32) (a_lowest : Nat → Int32) (a_nextLine : Nat → Int32) (a_stack : Nat → Int32) (a_marked : Nat → Int32) (a_pointRoot : Nat → Int32) (a_lineRoot : Nat → Int32) (a_between : Nat → Int32) (a_melted : Nat → Int32) (a_pull : Nat → Int32), 2 ≤ n → gc_c A B P (fun x => x < n) ≤ 1 → mc_ n P A B b → post (nI b) (nI n, f_present, nI (gc_c A B P (fun x => x < n)), f_bridgeSet, f_hingeSet, f_walked, a_endA, a_endB, a_number, a_walkPoint, a_parent, a_parentLine, a_lowest, a_nextLine, a_stack, a_marked, a_pointRoot, a_lineRoot, a_between, a_melted, a_pull, a_left, a_cameFrom, a_queue, a_matrix, a_dist))
    (h0 : ∀ (f_bridgeSet : Int32) (f_hingeSet : Int32) (f_walked : Int32) (a_number : Nat → Int32) (a_walkPoint : Nat → Int32) (a_parent : Nat → Int32) (a_parentLine : Nat → Int32) (a_lowest : Nat → Int32) (a_nextLine : Nat → Int32) (a_stack : Nat → Int32) (a_marked : Nat → Int32) (a_pointRoot : Nat → Int32) (a_lineRoot : Nat → Int32), ¬ (2 ≤ n ∧ gc_c A B P (fun x => x < n) ≤ 1) → post 0 (nI n, f_present, nI (gc_c A B P (fun x => x < n)), f_bridgeSet, f_hingeSet, f_walked, a_endA, a_endB, a_number, a_walkPoint, a_parent, a_parentLine, a_lowest, a_nextLine, a_stack, a_marked, a_pointRoot, a_lineRoot, a_between, a_melted, a_pull, a_left, a_cameFrom, a_queue, a_matrix, a_dist)) : wpX_weakest post (nI n, f_present, f_groupCount, f_bridgeSet, f_hingeSet, f_walked, a_endA, a_endB, a_number, a_walkPoint, a_parent, a_parentLine, a_lowest, a_nextLine, a_stack, a_marked, a_pointRoot, a_lineRoot, a_between, a_melted, a_pull, a_left, a_cameFrom, a_queue, a_matrix, a_dist) := by
  have n8 := hX.1.1.2
  have n1 := hX.1.1.1
  unfold wpX_weakest
  dsimp only
  refine xq_solve hX (by decide) fun f_bridgeSet f_hingeSet f_walked a_number a_walkPoint a_parent a_parentLine a_lowest a_nextLine a_stack a_marked a_pointRoot a_lineRoot _ _ => ?_
  have c8 : gc_c A B P (fun x => x < n) < 2 ^ 31 := Nat.lt_of_le_of_lt (ct_le _ 8) (by decide)
  refine pk_eq n 1 (fun e => h0 _ _ _ _ _ _ _ _ _ _ _ _ _ (by omega)) (fun e => pk_le (gc_c A B P (fun x => x < n)) 1 (fun g => ?_) (fun g => h0 _ _ _ _ _ _ _ _ _ _ _ _ _ (by omega)) rfl rfl c8)
  refine xf_ hX fun a_between hw => ⟨n + 1, xg_33 hX (by omega) hw (fun b a_between a_melted a_pull hb => h1 b _ _ _ _ _ _ _ _ _ _ _ _ _ _ _ _ (by omega) g hb) n 0 _ (by omega) (fun x hx => absurd hx (by omega))⟩
end
end
section
/-! ===== masks of points, and the reference's least cut ===== -/
noncomputable def mk_n (D : Nat → Prop) : Nat → Nat
  | 0 => 0
  | k + 1 => 2 ^ k * ct_b (D k) + mk_n D k
theorem mk_nlt (D : Nat → Prop) : ∀ k, mk_n D k < 2 ^ k
  | 0 => by show 0 < 1; decide
  | k + 1 => by
    have a := mk_nlt D k
    have b := ct_ble (D k)
    have c : 2 ^ k * ct_b (D k) ≤ 2 ^ k * 1 := Nat.mul_le_mul_left _ b
    show 2 ^ k * ct_b (D k) + mk_n D k < 2 ^ (k + 1)
    rw [Nat.pow_succ]; omega
theorem mk_nb (D : Nat → Prop) : ∀ k i, (mk_n D k).testBit i = true ↔ i < k ∧ D i
  | 0, i => by
    show (0 : Nat).testBit i = true ↔ _
    rw [Nat.zero_testBit]
    exact ⟨fun z => absurd z (by decide), fun z => by omega⟩
  | k + 1, i => by
    show (2 ^ k * ct_b (D k) + mk_n D k).testBit i = true ↔ _
    rw [Nat.testBit_two_pow_mul_add _ (mk_nlt D k)]
    by_cases h : i < k
    · rw [if_pos h, mk_nb D k i]
      exact ⟨fun z => ⟨by omega, z.2⟩, fun z => ⟨h, z.2⟩⟩
    · rw [if_neg h]
      rcases Classical.em (D k) with d | d
      · rw [ct_bt d]
        rcases Classical.em (i = k) with e | e
        · subst e
          rw [Nat.sub_self]
          exact ⟨fun _ => ⟨by omega, d⟩, fun _ => by decide⟩
        · obtain ⟨j, hj⟩ : ∃ j, i - k = j + 1 := ⟨i - k - 1, by omega⟩
          rw [hj, Nat.testBit_succ]
          rw [show 1 / 2 = 0 from rfl, Nat.zero_testBit]
          exact ⟨fun z => absurd z (by decide), fun z => by omega⟩
      · rw [ct_bf d, Nat.zero_testBit]
        refine ⟨fun z => absurd z (by decide), fun z => ?_⟩
        have e : i = k := by omega
        exact absurd z.2 (e ▸ d)
theorem bt_n {m : Nat} (h : m < 2 ^ 32) (i : Nat) : bt (nI m) i = m.testBit i := by
  show (nI m).toBitVec.getLsbD i = _
  rw [BitVec.getLsbD, pk_tn h]
theorem tb_lt {t n v : Nat} (h : t < 2 ^ n) (b : t.testBit v = true) : v < n := by
  rcases Nat.lt_or_ge v n with z | z
  · exact z
  · rw [Nat.testBit_lt_two_pow (Nat.lt_of_lt_of_le h (Nat.pow_le_pow_right (by decide) z))] at b
    cases b
theorem tb_nt {n t : Nat} (h1 : 1 ≤ t) (h2 : t < 2 ^ n - 1) : nt_ n (fun v => t.testBit v = true) := by
  have lt : t < 2 ^ n := by omega
  refine ⟨?_, ?_⟩
  · obtain ⟨u, hu⟩ := Nat.exists_testBit_of_ne_zero (x := t) (by omega)
    exact ⟨u, tb_lt lt hu, hu⟩
  · apply Classical.byContradiction
    intro no
    have : t = 2 ^ n - 1 := by
      apply Nat.eq_of_testBit_eq
      intro i
      rw [Nat.testBit_two_pow_sub_one]
      by_cases z : i < n
      · rw [decide_eq_true z]
        exact Classical.byContradiction fun w => no ⟨i, z, w⟩
      · rw [decide_eq_false z]
        cases q : t.testBit i
        · rfl
        · exact absurd (tb_lt lt q) z
    omega
theorem nt_tb {n : Nat} {D : Nat → Prop} (h : nt_ n D) : 1 ≤ mk_n D n ∧ mk_n D n < 2 ^ n - 1 := by
  obtain ⟨⟨u, hu, du⟩, v, hv, dv⟩ := h
  have lt := mk_nlt D n
  have a := (mk_nb D n u).mpr ⟨hu, du⟩
  have b : ¬ (mk_n D n).testBit v = true := fun z => dv ((mk_nb D n v).mp z).2
  refine ⟨?_, ?_⟩
  · rcases Nat.eq_zero_or_pos (mk_n D n) with z | z
    · rw [z, Nat.zero_testBit] at a; cases a
    · exact z
  · rcases Nat.lt_or_ge (mk_n D n) (2 ^ n - 1) with z | z
    · exact z
    · have e : mk_n D n = 2 ^ n - 1 := by omega
      rw [e, Nat.testBit_two_pow_sub_one, decide_eq_true hv] at b
      exact absurd rfl b
theorem al_n : ∀ n, n < 9 → al_ n = nI (2 ^ n - 1) := by decide +kernel
section
variable {a_there a_as a_bs : Nat → Int32} {A B : Nat → Nat} {n : Nat} {P : Nat → Prop} {M : Int32}
theorem yf_firm (hg : gr_ n P A B) (hT : yg_th P a_there) (hE : yg_ends A B a_as a_bs) (hM : ∀ v, bt M v = true ↔ P v) {post : Int32 → Prop} (h1 : 2 ≤ n ∧ gc_c A B P (fun x => x < n) ≤ 1 → post 1) (h0 : ¬ (2 ≤ n ∧ gc_c A B P (fun x => x < n) ≤ 1) → post 0) : wpY_firm post (nI n, a_there, a_as, a_bs) := by
  have n8 := hg.1.2
  have n1 := hg.1.1
  have c8 : gc_c A B P (fun x => x < n) < 2 ^ 31 := Nat.lt_of_le_of_lt (ct_le _ 8) (by decide)
  have c1 : 1 ≤ gc_c A B P (fun x => x < n) := gc_pos (u := 0) (fun x z => Nat.lt_of_lt_of_le z n8) (by omega)
  refine pk_le n 1 (fun z => h0 (by omega)) (fun z => yl_ hT hM (fun k z => (hg.2 k z).1) (ym_ hE (fun v _ => hM v) (fun v => al_b n8) (fun k z => (hg.2 k z).1) (fun v z => Nat.lt_of_lt_of_le z n8) (pk_eq _ 1 (fun e => h1 (by omega)) (fun e => h0 (by omega)) rfl rfl c8)))
theorem yf_cutL (hT : yg_th P a_there) (hE : yg_ends A B a_as a_bs) {f_size x1 : Int32} {post : Int32 → Prop} (h : post (nI (cu_ P A B (fun v => bt x1 v = true)))) :
    ∀ d k, k + d = 16 → wY_cut_4 post x1 f_size a_there a_as a_bs (d + 1) (nI (ct_n (fun k => P k ∧ ¬ (bt x1 (A k) = true ↔ bt x1 (B k) = true)) k)) (nI k)
  | 0, k, hk => by
    have e : k = 16 := by omega
    subst e
    exact br_t (show (16 : Int32) ≤ nI 16 from by decide) h
  | d + 1, k, hk => by
    have hk16 : k < 16 := by omega
    have ha := yg_al hE hk16
    have hb := yg_bl hE hk16
    have i16 : vp_in (nI k) 16 := vp_in_nI hk16 (by decide)
    have ih := yf_cutL (f_size := f_size) (x1 := x1) (post := post) hT hE h d (k + 1) (by omega)
    have no : ¬ (P k ∧ ¬ (bt x1 (A k) = true ↔ bt x1 (B k) = true)) → wY_cut_46 post (wY_cut_4 post x1 f_size a_there a_as a_bs (d + 1)) x1 (nI (ct_n (fun k => P k ∧ ¬ (bt x1 (A k) = true ↔ bt x1 (B k) = true)) k)) (nI k) f_size a_there a_as a_bs := by
      intro z
      rw [show ct_n (fun k => P k ∧ ¬ (bt x1 (A k) = true ↔ bt x1 (B k) = true)) (k + 1) = ct_n (fun k => P k ∧ ¬ (bt x1 (A k) = true ↔ bt x1 (B k) = true)) k from by show _ + ct_b _ = _; rw [ct_bf z]; rfl] at ih
      exact br_t rfl (nm_r (nI_1 k) ih)
    refine br_f (nI_ge (b := 16) hk16 (by decide)) ⟨i16, yg_br hT hk16 (fun t => no fun z => t z.1) (fun t => ⟨i16, i16, bb_brE (yg_a hE hk16) (by omega) (yg_b hE hk16) (by omega) (fun z => no fun w => w.2 z) (fun z => br_f bb_10 (nm_r ((nI_1 _).trans (congrArg nI ?_)) (nm_r (nI_1 k) ih)))⟩)⟩
    show _ = _ + ct_b _
    rw [ct_bt ⟨t, z⟩]
theorem yf_cut (hT : yg_th P a_there) (hE : yg_ends A B a_as a_bs) {f_size x1 : Int32} {post : Int32 → Prop} (h : post (nI (cu_ P A B (fun v => bt x1 v = true)))) : wpY_cut post (f_size, a_there, a_as, a_bs) x1 := ⟨17, yf_cutL hT hE h 16 0 rfl⟩
theorem yf_weakL (hg : gr_ n P A B) (hT : yg_th P a_there) (hE : yg_ends A B a_as a_bs) (hM : ∀ v, bt M v = true ↔ P v) {post : Int32 → Prop} (h1 : ∀ b, 2 ≤ n → gc_c A B P (fun x => x < n) ≤ 1 → mc_ n P A B b → post (nI b)) (h0 : ¬ (2 ≤ n ∧ gc_c A B P (fun x => x < n) ≤ 1) → post 0) :
    ∀ d s b, s + d = 2 ^ n - 1 → 1 ≤ s → b ≤ 100 → (b = 100 ∨ ∃ t, 1 ≤ t ∧ t < s ∧ cu_ P A B (fun v => t.testBit v = true) = b) → (∀ t, 1 ≤ t → t < s → b ≤ cu_ P A B (fun v => t.testBit v = true)) → wY_weakest_5 post (nI n) a_there a_as a_bs (d + 1) (nI b) (nI s)
  | 0, s, b, hs, s1, b1, I, J => by
    have n8 := hg.1.2
    have p8 : 2 ^ n ≤ 2 ^ 8 := Nat.pow_le_pow_right (by decide) n8
    have e : s = 2 ^ n - 1 := by omega
    subst e
    unfold wY_weakest_5 wpY_all
    dsimp only
    refine br_t ?_ (yf_firm hg hT hE hM (fun f => br_f bb_10 (h1 b f.1 f.2 ⟨?_, fun D nt => ?_⟩)) (fun f => br_t rfl (h0 f)))
    · show al_ n ≤ nI (2 ^ n - 1)
      rw [al_n n (by omega)]; exact nI_le (Nat.le_refl _) (by omega)
    · rcases I with e | ⟨t, t1, t2, t3⟩
      · exfalso
        have p2 : 2 ^ 2 ≤ 2 ^ n := Nat.pow_le_pow_right (by decide) f.1
        have := J 1 (Nat.le_refl _) (by omega)
        have : cu_ P A B (fun v => (1 : Nat).testBit v = true) ≤ 16 := ct_le _ _
        omega
      · exact ⟨_, tb_nt t1 t2, t3⟩
    · obtain ⟨a, c⟩ := nt_tb nt
      have := J _ a c
      have e : cu_ P A B (fun v => (mk_n D n).testBit v = true) = cu_ P A B D := ct_eq fun k _ => by
        constructor
        · rintro ⟨p, q⟩
          have g := hg.2 k p
          refine ⟨p, fun w => q ?_⟩
          dsimp only
          rw [mk_nb, mk_nb]
          exact ⟨fun z => ⟨g.2.2.1, w.mp z.2⟩, fun z => ⟨g.2.1, w.mpr z.2⟩⟩
        · rintro ⟨p, q⟩
          have g := hg.2 k p
          refine ⟨p, fun w => q ?_⟩
          dsimp only at w
          rw [mk_nb, mk_nb] at w
          exact ⟨fun z => (w.mp ⟨g.2.1, z⟩).2, fun z => (w.mpr ⟨g.2.2.1, z⟩).2⟩
      omega
  | d + 1, s, b, hs, s1, b1, I, J => by
    have n8 := hg.1.2
    have p8 : 2 ^ n ≤ 2 ^ 8 := Nat.pow_le_pow_right (by decide) n8
    have cs : cu_ P A B (fun v => bt (nI s) v = true) = cu_ P A B (fun v => s.testBit v = true) := ct_eq fun k _ => by dsimp only; rw [bt_n (by omega), bt_n (by omega)]
    have lc : cu_ P A B (fun v => s.testBit v = true) ≤ 16 := ct_le _ _
    have K := yf_weakL hg hT hE hM h1 h0 d (s + 1)
    unfold wY_weakest_5 wpY_all
    dsimp only
    refine br_f ?_ (yf_cut hT hE ?_)
    · show ¬ al_ n ≤ nI s
      rw [al_n n (by omega)]; exact nI_ge (by omega) (by omega)
    · rw [cs]
      refine pk_le b _ (fun z => nm_r (nI_1 s) (K b (by omega) (by omega) b1 ?_ (fun t t1 t2 => ?_))) (fun z => yf_cut hT hE ?_) rfl rfl (by omega) (by omega)
      · rcases I with e | ⟨t, t1, t2, t3⟩
        · exact Or.inl e
        · exact Or.inr ⟨t, t1, by omega, t3⟩
      · rcases Nat.lt_or_ge t s with w | w
        · exact J t t1 w
        · have e : t = s := by omega
          subst e; exact z
      · rw [cs]
        refine nm_r (nI_1 s) (K _ (by omega) (by omega) (by omega) (Or.inr ⟨s, s1, by omega, rfl⟩) (fun t t1 t2 => ?_))
        rcases Nat.lt_or_ge t s with w | w
        · have := J t t1 w; omega
        · have e : t = s := by omega
          subst e; exact Nat.le_refl _
theorem yf_weak (hg : gr_ n P A B) (hT : yg_th P a_there) (hE : yg_ends A B a_as a_bs) (hM : ∀ v, bt M v = true ↔ P v) {post : Int32 → Prop} (h1 : ∀ b, 2 ≤ n → gc_c A B P (fun x => x < n) ≤ 1 → mc_ n P A B b → post (nI b)) (h0 : ¬ (2 ≤ n ∧ gc_c A B P (fun x => x < n) ≤ 1) → post 0) : wpY_weakest post (nI n, a_there, a_as, a_bs) := by
  have n1 := hg.1.1
  have p2 : 2 ^ 1 ≤ 2 ^ n := Nat.pow_le_pow_right (by decide) n1
  exact ⟨2 ^ n - 2 + 1, yf_weakL hg hT hE hM h1 h0 (2 ^ n - 2) 1 100 (by omega) (Nat.le_refl _) (Nat.le_refl _) (Or.inl rfl) (fun t t1 t2 => by omega)⟩
end
end
section
/-! ===== flows and cuts ===== -/
theorem sm_ct (P : Nat → Prop) : ∀ N, sm_ (fun i => ct_b (P i)) N = ct_n P N
  | 0 => rfl
  | N + 1 => by simp only [sm_, ct_n]; rw [sm_ct P N]
theorem sm_le {f g : Nat → Nat} : ∀ {N : Nat}, (∀ k, k < N → f k ≤ g k) → sm_ f N ≤ sm_ g N
  | 0, _ => Nat.le_refl _
  | N + 1, h => by
    have a := sm_le (f := f) (g := g) (N := N) (fun k hk => h k (by omega))
    have b := h N (by omega)
    simp only [sm_]; omega
/-- what is left over a cut -/
noncomputable def fk_ (l : Nat → Nat) (S : Nat → Prop) : Nat := sm_ (fun i => ct_b (S (i / 16) ∧ ¬ S (i % 16)) * l i) 256
theorem fk_upd {l : Nat → Nat} {S : Nat → Prop} {a y : Nat} (ha : a < 256) : fk_ (fu_ l a y) S + ct_b (S (a / 16) ∧ ¬ S (a % 16)) * l a = fk_ l S + ct_b (S (a / 16) ∧ ¬ S (a % 16)) * y := by
  have := sm_one (f := fun i => ct_b (S (i / 16) ∧ ¬ S (i % 16)) * (fu_ l a y) i) (g := fun i => ct_b (S (i / 16) ∧ ¬ S (i % 16)) * l i) ha (fun j _ e => by rw [fu_n e])
  rw [fu_s] at this
  exact this
/-- one unit goes from u to x -/
theorem fk_step {l : Nat → Nat} {S : Nat → Prop} {u x : Nat} (hu : u < 16) (hx : x < 16) (ne : u ≠ x) (p : 1 ≤ l (u * 16 + x)) : fk_ (fu_ (fu_ l (u * 16 + x) (l (u * 16 + x) - 1)) (x * 16 + u) (l (x * 16 + u) + 1)) S + ct_b (S u) = fk_ l S + ct_b (S x) := by
  have n1 : x * 16 + u ≠ u * 16 + x := by omega
  have a := fk_upd (l := l) (S := S) (a := u * 16 + x) (y := l (u * 16 + x) - 1) (by omega)
  have b := fk_upd (l := fu_ l (u * 16 + x) (l (u * 16 + x) - 1)) (S := S) (a := x * 16 + u) (y := l (x * 16 + u) + 1) (by omega)
  rw [fu_n n1] at b
  rw [show (u * 16 + x) / 16 = u by omega, show (u * 16 + x) % 16 = x by omega] at a
  rw [show (x * 16 + u) / 16 = x by omega, show (x * 16 + u) % 16 = u by omega] at b
  rcases Classical.em (S u) with su | su
  · rcases Classical.em (S x) with sx | sx
    · rw [ct_bf (fun z => z.2 sx)] at a
      rw [ct_bf (fun z => z.2 su)] at b
      rw [ct_bt su, ct_bt sx]; omega
    · rw [ct_bt ⟨su, sx⟩] at a
      rw [ct_bf (fun z => z.2 su)] at b
      rw [ct_bt su, ct_bf sx]; omega
  · rcases Classical.em (S x) with sx | sx
    · rw [ct_bf (fun z => z.2 sx)] at a
      rw [ct_bt ⟨sx, su⟩] at b
      rw [ct_bf su, ct_bt sx]; omega
    · rw [ct_bf (fun z => su z.1)] at a
      rw [ct_bf (fun z => sx z.1)] at b
      rw [ct_bf su, ct_bf sx]; omega
/-- the network of s and t -/
def fn_ (n : Nat) (P : Nat → Prop) (A B : Nat → Nat) (s t : Nat) (c : Nat → Nat) : Prop :=
  (∀ p, p < n → c (p * 16 + p + 8) = if p = s ∨ p = t then 8 else 1) ∧
  (∀ a b, a < 8 → b < 8 → (∃ k, P k ∧ jn_ A B k a b) → c ((a + 8) * 16 + b) = 1) ∧
  ∀ i, i < 256 → c i ≠ 0 → (∃ p, p < n ∧ i = p * 16 + p + 8) ∨ ∃ a b, (a < 8 ∧ b < 8) ∧ (∃ k, P k ∧ jn_ A B k a b) ∧ i = (a + 8) * 16 + b
/-- what the flow between s and t tells -/
def fl_ (n : Nat) (P : Nat → Prop) (A B : Nat → Nat) (s t f : Nat) : Prop :=
  (∃ F : Nat → Prop, (∀ x, F x → x < n) ∧ F s ∧ F t ∧ ¬ gc A B P F s t ∧ n ≤ ct_n F n + f) ∧
  ∀ F : Nat → Prop, (∀ x, F x → x < n) → F s → F t → ¬ gc A B P F s t → f + ct_n F n ≤ n
theorem ct_not (P : Nat → Prop) : ∀ N, ct_n P N + ct_n (fun x => ¬ P x) N = N
  | 0 => rfl
  | N + 1 => by
    have := ct_not P N
    simp only [ct_n]
    rcases Classical.em (P N) with h | h
    · rw [ct_bt h, ct_bf (fun z => z h)]; omega
    · rw [ct_bf h, ct_bt h]; omega
section
variable {n : Nat} {P : Nat → Prop} {A B : Nat → Nat} {s t : Nat} {c : Nat → Nat}
/-- a set of points that parts s and t bounds every flow -/
theorem fl_weak (hg : gr_ n P A B) (hc : fn_ n P A B s t c) {F : Nat → Prop} (hF : ∀ x, F x → x < n) (fs : F s) (ft : F t) (ns : ¬ gc A B P F s t) :
    ∃ S : Nat → Prop, S (s + 8) ∧ ¬ S t ∧ fk_ c S + ct_n F n ≤ n := by
  have n8 := hg.1.2
  have sn := hF s fs
  have tn := hF t ft
  refine ⟨fun x => (x < 8 ∧ x < n ∧ (gc A B P F s x ∨ ¬ F x)) ∨ (8 ≤ x ∧ gc A B P F s (x - 8)), Or.inr ⟨by omega, by rw [Nat.add_sub_cancel]; exact gc_r _⟩, ?_, ?_⟩
  · rintro (⟨_, _, z | z⟩ | ⟨z, _⟩)
    · exact ns z
    · exact z ft
    · omega
  · have key : ct_n (fun i => ∃ p, p < n ∧ ¬ F p ∧ i = p * 16 + p + 8) 256 ≤ ct_n (fun x => ¬ F x) n := by
      refine ct_rel (F := fun i p => i = p * 16 + p + 8) (fun i _ q => ?_) (fun i i' p _ _ _ _ e e' => by omega)
      obtain ⟨p, pn, np, e⟩ := q
      exact ⟨p, pn, np, e⟩
    have le : fk_ c (fun x => (x < 8 ∧ x < n ∧ (gc A B P F s x ∨ ¬ F x)) ∨ (8 ≤ x ∧ gc A B P F s (x - 8))) ≤ ct_n (fun i => ∃ p, p < n ∧ ¬ F p ∧ i = p * 16 + p + 8) 256 := by
      rw [← sm_ct]
      refine sm_le fun i hi => ?_
      dsimp only
      rcases Classical.em (c i = 0) with z | z
      · rw [z, Nat.mul_zero]; exact Nat.zero_le _
      · rcases hc.2.2 i hi z with ⟨p, pn, e⟩ | ⟨a, b, ⟨ha, hb⟩, ⟨k, pk, j⟩, e⟩
        · have d1 : i / 16 = p := by omega
          have d2 : i % 16 = p + 8 := by omega
          rw [d1, d2]
          rcases Classical.em (F p) with fp | fp
          · rw [ct_bf, Nat.zero_mul]
            · exact Nat.zero_le _
            · rintro ⟨(⟨_, _, q | q⟩ | ⟨q, _⟩), w⟩
              · exact w (Or.inr ⟨by omega, by rw [Nat.add_sub_cancel]; exact q⟩)
              · exact q fp
              · omega
          · rw [ct_bt (P := ∃ p, p < n ∧ ¬ F p ∧ i = p * 16 + p + 8) ⟨p, pn, fp, e⟩]
            have : c i = 1 := by
              rw [e, hc.1 p pn, if_neg]
              rintro (q | q)
              · exact fp (q ▸ fs)
              · exact fp (q ▸ ft)
            rw [this]
            have := ct_ble ((p < 8 ∧ p < n ∧ (gc A B P F s p ∨ ¬ F p) ∨ 8 ≤ p ∧ gc A B P F s (p - 8)) ∧ ¬ (p + 8 < 8 ∧ p + 8 < n ∧ (gc A B P F s (p + 8) ∨ ¬ F (p + 8)) ∨ 8 ≤ p + 8 ∧ gc A B P F s (p + 8 - 8)))
            omega
        · have d1 : i / 16 = a + 8 := by omega
          have d2 : i % 16 = b := by omega
          rw [d1, d2, ct_bf, Nat.zero_mul]
          · exact Nat.zero_le _
          · have g := hg.2 k pk
            have bn : a < n ∧ b < n := by
              rcases j with ⟨e1, e2⟩ | ⟨e1, e2⟩
              · rw [← e1, ← e2]; exact ⟨g.2.1, g.2.2.1⟩
              · rw [← e1, ← e2]; exact ⟨g.2.2.1, g.2.1⟩
            rintro ⟨(⟨q, _⟩ | ⟨_, q⟩), w⟩
            · omega
            · rw [Nat.add_sub_cancel] at q
              have fa := gc_inS q fs
              rcases Classical.em (F b) with fb | fb
              · exact w (Or.inl ⟨hb, bn.2, Or.inl (gc_t q (jn_gc pk fa fb j))⟩)
              · exact w (Or.inl ⟨hb, bn.2, Or.inr fb⟩)
    have := ct_not F n
    omega
/-- where nothing is left over a cut, its lines and points part s and t -/
theorem fl_strong (hg : gr_ n P A B) (hc : fn_ n P A B s t c) (sn : s < n) (tn : t < n) (st : s ≠ t) (na : ¬ ∃ k, P k ∧ jn_ A B k s t) {R : Nat → Prop} (hs : R (s + 8)) (ht : ¬ R t) : ∃ F : Nat → Prop, (∀ x, F x → x < n) ∧ F s ∧ F t ∧ ¬ gc A B P F s t ∧ n ≤ ct_n F n + fk_ c R := by
  have n8 := hg.1.2
  let Q : Nat → Prop := fun q => q < n ∧ q ≠ s ∧ q ≠ t ∧ ((R q ∧ ¬ R (q + 8)) ∨ (¬ R q ∧ ∃ a, a < n ∧ R (a + 8) ∧ ∃ k, P k ∧ jn_ A B k a q) ∨ (R (q + 8) ∧ ∃ k, P k ∧ jn_ A B k q t))
  refine ⟨fun x => x < n ∧ ¬ Q x, fun x z => z.1, ⟨sn, fun z => z.2.1 rfl⟩, ⟨tn, fun z => z.2.2.1 rfl⟩, fun g => ?_, ?_⟩
  · have := gc_sep g (fun p => R (p + 8) ∧ p ≠ t) (fun k pk va vb => ?_)
    · exact (this.mp ⟨hs, st⟩).2 rfl
    · have key : ∀ a b, jn_ A B k a b → (a < n ∧ ¬ Q a) → (b < n ∧ ¬ Q b) → (R (a + 8) ∧ a ≠ t) → (R (b + 8) ∧ b ≠ t) := by
        intro a b j ha hb ⟨ra, nat⟩
        have nbt : b ≠ t := fun e => by
          subst e
          rcases Classical.em (a = s) with w | w
          · subst w; exact na ⟨k, pk, j⟩
          · exact ha.2 ⟨ha.1, w, nat, Or.inr (Or.inr ⟨ra, k, pk, j⟩)⟩
        refine ⟨?_, nbt⟩
        rcases Classical.em (b = s) with w | w
        · subst w; exact hs
        · rcases Classical.em (R b) with rb | rb
          · exact Classical.byContradiction fun u => hb.2 ⟨hb.1, w, nbt, Or.inl ⟨rb, u⟩⟩
          · exact absurd ⟨hb.1, w, nbt, Or.inr (Or.inl ⟨rb, a, ha.1, ra, k, pk, j⟩)⟩ hb.2
      exact ⟨key _ _ (Or.inl ⟨rfl, rfl⟩) va vb, key _ _ (Or.inr ⟨rfl, rfl⟩) vb va⟩
  · have cq : ct_n Q n ≤ ct_n (fun i => (R (i / 16) ∧ ¬ R (i % 16)) ∧ c i ≠ 0) 256 := by
      refine ct_rel (F := fun q i => q < 8 ∧ (i = q * 16 + q + 8 ∨ (8 ≤ i / 16 ∧ i % 16 = q ∧ q ≠ t) ∨ (i = (q + 8) * 16 + t ∧ t < 8))) (fun q _ hq => ?_) (fun q q' i _ _ _ _ e e' => by omega)
      obtain ⟨qn, qs, qt, z⟩ := hq
      rcases z with ⟨z1, z2⟩ | ⟨z1, a, an, ra, k, pk, j⟩ | ⟨z1, k, pk, j⟩
      · refine ⟨q * 16 + q + 8, by omega, ⟨⟨?_, ?_⟩, ?_⟩, by omega, Or.inl rfl⟩
        · rw [show (q * 16 + q + 8) / 16 = q by omega]; exact z1
        · rw [show (q * 16 + q + 8) % 16 = q + 8 by omega]; exact z2
        · rw [hc.1 q qn, if_neg (fun w => w.elim qs qt)]; decide
      · refine ⟨(a + 8) * 16 + q, by omega, ⟨⟨?_, ?_⟩, ?_⟩, by omega, Or.inr (Or.inl ⟨by omega, by omega, qt⟩)⟩
        · rw [show ((a + 8) * 16 + q) / 16 = a + 8 by omega]; exact ra
        · rw [show ((a + 8) * 16 + q) % 16 = q by omega]; exact z1
        · rw [hc.2.1 a q (by omega) (by omega) ⟨k, pk, j⟩]; decide
      · refine ⟨(q + 8) * 16 + t, by omega, ⟨⟨?_, ?_⟩, ?_⟩, by omega, Or.inr (Or.inr ⟨rfl, by omega⟩)⟩
        · rw [show ((q + 8) * 16 + t) / 16 = q + 8 by omega]; exact z1
        · rw [show ((q + 8) * 16 + t) % 16 = t by omega]; exact ht
        · rw [hc.2.1 q t (by omega) (by omega) ⟨k, pk, j⟩]; decide
    have le : ct_n (fun i => (R (i / 16) ∧ ¬ R (i % 16)) ∧ c i ≠ 0) 256 ≤ fk_ c R := by
      rw [← sm_ct]
      refine sm_le fun i hi => ?_
      rcases Classical.em ((R (i / 16) ∧ ¬ R (i % 16)) ∧ c i ≠ 0) with z | z
      · rw [ct_bt z, ct_bt z.1]; have := z.2; omega
      · rw [ct_bf z]; exact Nat.zero_le _
    have e := ct_not Q n
    have e2 : ct_n (fun x => x < n ∧ ¬ Q x) n = ct_n (fun x => ¬ Q x) n := ct_eq fun k hk => ⟨fun z => z.2, fun z => ⟨hk, z⟩⟩
    omega
end
/-! the least number of points whose loss parts the rest or leaves one -/
def ff_ (n : Nat) (P : Nat → Prop) (A B : Nat → Nat) (F : Nat → Prop) : Prop := (∀ x, F x → x < n) ∧ (∃ x, F x) ∧ (ct_n F n = 1 ∨ 2 ≤ gc_c A B P F)
def fr_ (n : Nat) (P : Nat → Prop) (A B : Nat → Nat) (b : Nat) : Prop := (∃ F, ff_ n P A B F ∧ b + ct_n F n = n) ∧ ∀ F, ff_ n P A B F → b + ct_n F n ≤ n
theorem fr_uq {n : Nat} {P : Nat → Prop} {A B : Nat → Nat} {b b' : Nat} (h : fr_ n P A B b) (h' : fr_ n P A B b') : b = b' := by
  obtain ⟨⟨F, f, e⟩, l⟩ := h
  obtain ⟨⟨F', f', e'⟩, l'⟩ := h'
  have := l F' f'
  have := l' F f
  omega
/-- the pairs that were looked at -/
def fp_ (n : Nat) (P : Nat → Prop) (A B : Nat → Nat) (s t b : Nat) : Prop := b ≤ n - 1 ∧ (b = n - 1 ∨ ∃ F, ff_ n P A B F ∧ b + ct_n F n = n) ∧ ∀ x y, x < y → y < n → (x < s ∨ (x = s ∧ y < t)) → (¬ ∃ k, P k ∧ jn_ A B k x y) → ∀ F : Nat → Prop, (∀ z, F z → z < n) → F x → F y → ¬ gc A B P F x y → b + ct_n F n ≤ n
section
variable {n : Nat} {P : Nat → Prop} {A B : Nat → Nat}
theorem fp_start (h : 1 ≤ n) : fp_ n P A B 0 1 (n - 1) := ⟨Nat.le_refl _, Or.inl rfl, fun x y _ _ z => by omega⟩
theorem fp_skip {s t b : Nat} (h : fp_ n P A B s t b) (a : ∃ k, P k ∧ jn_ A B k s t) : fp_ n P A B s (t + 1) b := by
  refine ⟨h.1, h.2.1, fun x y xy yn z na => ?_⟩
  rcases Classical.em (x = s ∧ y = t) with ⟨e1, e2⟩ | w
  · subst e1; subst e2; exact absurd a na
  · exact h.2.2 x y xy yn (by omega) na
theorem fp_row {s b : Nat} (h : fp_ n P A B s n b) : fp_ n P A B (s + 1) (s + 2) b :=
  ⟨h.1, h.2.1, fun x y xy yn z na => h.2.2 x y xy yn (by omega) na⟩
theorem fp_flow (hg : gr_ n P A B) {s t b f : Nat} (h : fp_ n P A B s t b) (st : s < t) (tn : t < n) (hf : fl_ n P A B s t f) {b' : Nat} (e : b' ≤ b ∧ b' ≤ f ∧ (b' = b ∨ b' = f)) : fp_ n P A B s (t + 1) b' := by
  have n8 := hg.1.2
  obtain ⟨h1, h2, h3⟩ := h
  refine ⟨by omega, ?_, fun x y xy yn z na F hF fx fy ng => ?_⟩
  · rcases e.2.2 with q | q
    · rw [q]; exact h2
    · obtain ⟨⟨F, hF, fs, ft, ng, l⟩, up⟩ := hf
      have := up F hF fs ft ng
      refine Or.inr ⟨F, ⟨hF, ⟨s, fs⟩, Or.inr ((gc_two (fun x fx => Nat.lt_of_lt_of_le (hF x fx) n8)).mpr ⟨s, t, fs, ft, ng⟩)⟩, by omega⟩
  · rcases Classical.em (x = s ∧ y = t) with ⟨e1, e2⟩ | w
    · subst e1; subst e2
      have := hf.2 F hF fx fy ng
      omega
    · have := h3 x y xy yn (by omega) na F hF fx fy ng
      omega
theorem fp_end (hg : gr_ n P A B) {s t b : Nat} (sn : n ≤ s) (h : fp_ n P A B s t b) : fr_ n P A B b := by
  have n8 := hg.1.2
  have n1 := hg.1.1
  obtain ⟨h1, h2, h3⟩ := h
  refine ⟨?_, ?_⟩
  · rcases h2 with e | h2
    · refine ⟨fun x => x = 0, ⟨fun x e => by omega, ⟨0, rfl⟩, Or.inl (ct_one (by omega))⟩, ?_⟩
      rw [ct_one (by omega)]; omega
    · exact h2
  · rintro F ⟨hF, _, q | q⟩
    · omega
    · obtain ⟨u, v, fu, fv, ng⟩ := (gc_two (fun x fx => Nat.lt_of_lt_of_le (hF x fx) n8)).mp q
      have key : ∀ u v, u < v → F u → F v → ¬ gc A B P F u v → b + ct_n F n ≤ n := fun u v uv fu fv ng => h3 u v uv (hF v fv) (by have := hF u fu; omega) (fun ⟨k, pk, j⟩ => ng (jn_gc pk fu fv j)) F hF fu fv ng
      rcases Nat.lt_or_ge u v with w | w
      · exact key u v w fu fv ng
      · rcases Nat.lt_or_ge v u with y | y
        · exact key v u y fv fu (fun z => ng (gc_s z))
        · have e : u = v := by omega
          subst e; exact absurd (gc_r _) ng
end
end
section
/-! ===== the component's flows ===== -/
def fs_v (s t p : Nat) : Nat := if p = s ∨ p = t then 8 else 1
theorem fn_le {n : Nat} {P : Nat → Prop} {A B : Nat → Nat} {s t : Nat} {c : Nat → Nat} (h : fn_ n P A B s t c) {i : Nat} (hi : i < 256) : c i ≤ 8 := by
  rcases Classical.em (c i = 0) with z | z
  · omega
  · rcases h.2.2 i hi z with ⟨p, pn, e⟩ | ⟨a, b, ⟨ha, hb⟩, k, e⟩
    · rw [e, h.1 p pn]
      by_cases q : p = s ∨ p = t
      · rw [if_pos q]; omega
      · rw [if_neg q]; omega
    · rw [e, h.2.1 a b ha hb k]; omega
section
variable {n : Nat} {P : Nat → Prop} {A B : Nat → Nat}
variable {f_present : Int32} {f_groupCount : Int32} {f_bridgeSet : Int32} {f_hingeSet : Int32} {f_walked : Int32} {a_endA : Nat → Int32} {a_endB : Nat → Int32} {a_number : Nat → Int32} {a_walkPoint : Nat → Int32} {a_parent : Nat → Int32} {a_parentLine : Nat → Int32} {a_lowest : Nat → Int32} {a_nextLine : Nat → Int32} {a_stack : Nat → Int32} {a_marked : Nat → Int32} {a_pointRoot : Nat → Int32} {a_lineRoot : Nat → Int32} {a_between : Nat → Int32} {a_melted : Nat → Int32} {a_pull : Nat → Int32} {a_cameFrom : Nat → Int32} {a_queue : Nat → Int32} {a_matrix : Nat → Int64} {a_dist : Nat → Int32}
theorem xy_71 (hX : xg_ n P A B f_present a_endA a_endB) {s t : Nat} {post : SX → Prop} (h : ∀ c a_left, fn_ n P A B s t c → rp_n 256 c a_left → post (nI n, f_present, f_groupCount, f_bridgeSet, f_hingeSet, f_walked, a_endA, a_endB, a_number, a_walkPoint, a_parent, a_parentLine, a_lowest, a_nextLine, a_stack, a_marked, a_pointRoot, a_lineRoot, a_between, a_melted, a_pull, a_left, a_cameFrom, a_queue, a_matrix, a_dist)) :
    ∀ d k c a_left, k + d = 16 → rp_n 256 c a_left → (∀ p, p < n → c (p * 16 + p + 8) = fs_v s t p) → (∀ j, j < k → P j → c ((A j + 8) * 16 + B j) = 1 ∧ c ((B j + 8) * 16 + A j) = 1) → (∀ i, i < 256 → c i ≠ 0 → (∃ p, p < n ∧ i = p * 16 + p + 8) ∨ ∃ a b, (a < 8 ∧ b < 8) ∧ (∃ k, P k ∧ jn_ A B k a b) ∧ i = (a + 8) * 16 + b) → wX_layFlow_71 post (nI n) f_present f_groupCount f_bridgeSet f_hingeSet f_walked (d + 1) (nI k) a_endA a_endB a_number a_walkPoint a_parent a_parentLine a_lowest a_nextLine a_stack a_marked a_pointRoot a_lineRoot a_between a_melted a_pull a_left a_cameFrom a_queue a_matrix a_dist
  | 0, k, c, a_left, hk, Hr, H1, H2, H3 => by
    have e : k = 16 := by omega
    subst e
    refine br_t (show (16 : Int32) ≤ nI 16 from by decide) (h c _ ⟨H1, fun a b ha hb ⟨k, pk, j⟩ => ?_, H3⟩ Hr)
    have := H2 k (hX.1.2 k pk).1 pk
    rcases j with ⟨rfl, rfl⟩ | ⟨rfl, rfl⟩
    · exact this.1
    · exact this.2
  | d + 1, k, c, a_left, hk, Hr, H1, H2, H3 => by
    have n8 := hX.1.1.2
    have hk16 : k < 16 := by omega
    refine br_f (nI_ge (b := 16) hk16 (by decide)) (xh_ hX hk16 (fun pk => br_f bb_10 ?_) (fun pk => br_t rfl (nm_r (nI_1 k) (xy_71 hX h d (k + 1) c _ (by omega) Hr H1 (fun j hj pj => ?_) H3))))
    · have g := hX.1.2 k pk
      have i16 : vp_in (nI k) 16 := vp_in_nI hk16 (by decide)
      rw [yg_a hX.2.2 hk16, yg_b hX.2.2 hk16, ix_p8, ix_p8, ix_16, ix_16]
      have iab : vp_in (nI ((A k + 8) * 16 + B k)) 256 := vp_in_nI (by omega) (by decide)
      have iba : vp_in (nI ((B k + 8) * 16 + A k)) 256 := vp_in_nI (by omega) (by decide)
      rw [nI_clamp (show (A k + 8) * 16 + B k < 2 ^ 31 by omega), nI_clamp (show (B k + 8) * 16 + A k < 2 ^ 31 by omega), show vp_nar .byte 1 = nI 1 from by_n (by decide)]
      refine ⟨i16, i16, iab, nm_e ⟨i16, i16, iba, nm_e (nm_r (nI_1 k) (xy_71 hX h d (k + 1) _ _ (by omega) (rp_nu (rp_nu Hr)) (fun p pn => ?_) (fun j hj pj => ?_) (fun i hi z => ?_)))⟩⟩
      · rw [fu_n (by omega), fu_n (by omega)]; exact H1 p pn
      · have gj := hX.1.2 j pj
        have val : ∀ i, (i < 256 → c i = 1) → fu_ (fu_ c ((A k + 8) * 16 + B k) 1) ((B k + 8) * 16 + A k) 1 i = 1 ∨ 256 ≤ i := by
          intro i hi
          rcases Classical.em (i = (B k + 8) * 16 + A k) with w | w
          · rw [w, fu_s]; exact Or.inl rfl
          · rw [fu_n w]
            rcases Classical.em (i = (A k + 8) * 16 + B k) with y | y
            · rw [y, fu_s]; exact Or.inl rfl
            · rw [fu_n y]
              rcases Nat.lt_or_ge i 256 with q | q
              · exact Or.inl (hi q)
              · exact Or.inr q
        rcases Nat.lt_or_ge j k with w | w
        · have q := H2 j w pj
          exact ⟨(val _ (fun _ => q.1)).resolve_right (by omega), (val _ (fun _ => q.2)).resolve_right (by omega)⟩
        · have e : j = k := by omega
          subst e
          refine ⟨?_, fu_s⟩
          rw [fu_n (by have := g.2.2.2; omega), fu_s]
      · rcases Classical.em (i = (B k + 8) * 16 + A k) with w | w
        · exact Or.inr ⟨B k, A k, by omega, ⟨k, pk, Or.inr ⟨rfl, rfl⟩⟩, w⟩
        · rw [fu_n w] at z
          rcases Classical.em (i = (A k + 8) * 16 + B k) with y | y
          · exact Or.inr ⟨A k, B k, by omega, ⟨k, pk, Or.inl ⟨rfl, rfl⟩⟩, y⟩
          · rw [fu_n y] at z; exact H3 i hi z
    · rcases Nat.lt_or_ge j k with w | w
      · exact H2 j w pj
      · have e : j = k := by omega
        subst e; exact absurd pj pk
theorem xy_24 (hX : xg_ n P A B f_present a_endA a_endB) {s t : Nat} (sn : s < n) (tn : t < n) {post : SX → Prop} (h : ∀ c a_left, fn_ n P A B s t c → rp_n 256 c a_left → post (nI n, f_present, f_groupCount, f_bridgeSet, f_hingeSet, f_walked, a_endA, a_endB, a_number, a_walkPoint, a_parent, a_parentLine, a_lowest, a_nextLine, a_stack, a_marked, a_pointRoot, a_lineRoot, a_between, a_melted, a_pull, a_left, a_cameFrom, a_queue, a_matrix, a_dist)) :
    ∀ d p c a_left, p + d = n → rp_n 256 c a_left → (∀ q, q < p → c (q * 16 + q + 8) = fs_v s t q) → (∀ i, i < 256 → c i ≠ 0 → ∃ q, q < p ∧ i = q * 16 + q + 8) → wX_layFlow_24 post (nI s) (nI t) (nI n) f_present f_groupCount f_bridgeSet f_hingeSet f_walked (d + 1) (nI p) a_endA a_endB a_number a_walkPoint a_parent a_parentLine a_lowest a_nextLine a_stack a_marked a_pointRoot a_lineRoot a_between a_melted a_pull a_left a_cameFrom a_queue a_matrix a_dist
  | 0, p, c, a_left, hp, Hr, H1, H2 => by
    have e : p = n := by omega
    subst e
    have n8 := hX.1.1.2
    exact br_t (nI_le (Nat.le_refl _) (by omega)) ⟨17, xy_71 hX h 16 0 c _ rfl Hr H1 (fun j hj => absurd hj (by omega)) (fun i hi z => Or.inl (H2 i hi z))⟩
  | d + 1, p, c, a_left, hp, Hr, H1, H2 => by
    have n8 := hX.1.1.2
    have hpn : p < n := by omega
    have ex : nI p * 16 + nI p + 8 = nI (p * 16 + p + 8) := by rw [ix_16, ix_p8]
    have ix : vp_in (nI p * 16 + nI p + 8) 256 := by rw [ex]; exact vp_in_nI (by omega) (by decide)
    have C : (nI (p * 16 + p + 8)).toNatClampNeg = p * 16 + p + 8 := nI_clamp (by omega)
    have e8 : vp_nar .byte ((8 : Int32).toInt8.toInt32) = nI 8 := by_c (c := 8) (by decide)
    have e1 : vp_nar .byte ((1 : Int32).toInt8.toInt32) = nI 1 := by_c (c := 1) (by decide)
    have go : ∀ w, w = fs_v s t p → wX_layFlow_24 post (nI s) (nI t) (nI n) f_present f_groupCount f_bridgeSet f_hingeSet f_walked (d + 1) (nI (p + 1)) a_endA a_endB a_number a_walkPoint a_parent a_parentLine a_lowest a_nextLine a_stack a_marked a_pointRoot a_lineRoot a_between a_melted a_pull (upd a_left (p * 16 + p + 8) (nI w)) a_cameFrom a_queue a_matrix a_dist := by
      intro w ew
      refine xy_24 hX sn tn h d (p + 1) _ _ (by omega) (rp_nu Hr) (fun q hq => ?_) (fun i hi z => ?_)
      · rcases Classical.em (q = p) with y | y
        · subst y; rw [fu_s]; exact ew
        · rw [fu_n (by omega)]; exact H1 q (by omega)
      · rcases Classical.em (i = p * 16 + p + 8) with y | y
        · exact ⟨p, by omega, y⟩
        · rw [fu_n y] at z
          obtain ⟨q, q1, q2⟩ := H2 i hi z
          exact ⟨q, by omega, q2⟩
    refine br_f (nI_ge hpn (by omega)) (pk_eq p s (fun e => ⟨ix, nm_r (e' := upd a_left (p * 16 + p + 8) (nI 8)) (by rw [ex, C, e8]) (nm_r (nI_1 p) (go 8 (by unfold fs_v; rw [if_pos (Or.inl e)])))⟩) (fun e => pk_eq p t (fun f => ⟨ix, nm_r (e' := upd a_left (p * 16 + p + 8) (nI 8)) (by rw [ex, C, e8]) (nm_r (nI_1 p) (go 8 (by unfold fs_v; rw [if_pos (Or.inr f)])))⟩) (fun f => ⟨ix, nm_r (e' := upd a_left (p * 16 + p + 8) (nI 1)) (by rw [ex, C, e1]) (nm_r (nI_1 p) (go 1 (by unfold fs_v; rw [if_neg (fun z => z.elim e f)])))⟩)))
theorem xy_2 (hX : xg_ n P A B f_present a_endA a_endB) {s t : Nat} (sn : s < n) (tn : t < n) {post : SX → Prop} (h : ∀ c a_left, fn_ n P A B s t c → rp_n 256 c a_left → post (nI n, f_present, f_groupCount, f_bridgeSet, f_hingeSet, f_walked, a_endA, a_endB, a_number, a_walkPoint, a_parent, a_parentLine, a_lowest, a_nextLine, a_stack, a_marked, a_pointRoot, a_lineRoot, a_between, a_melted, a_pull, a_left, a_cameFrom, a_queue, a_matrix, a_dist)) :
    ∀ d i a_left, i + d = 256 → (∀ x, x < i → a_left x = 0) → wX_layFlow_2 post (nI s) (nI t) (nI n) f_present f_groupCount f_bridgeSet f_hingeSet f_walked (d + 1) (nI i) a_endA a_endB a_number a_walkPoint a_parent a_parentLine a_lowest a_nextLine a_stack a_marked a_pointRoot a_lineRoot a_between a_melted a_pull a_left a_cameFrom a_queue a_matrix a_dist
  | 0, i, a_left, hi, I => by
    have e : i = 256 := by omega
    subst e
    exact br_t (show (256 : Int32) ≤ nI 256 from by decide) ⟨n + 1, xy_24 hX sn tn h n 0 (fun _ => 0) _ (by omega) I (fun q hq => absurd hq (by omega)) (fun i hi z => absurd rfl z)⟩
  | d + 1, i, a_left, hi, I => by
    have hi' : i < 256 := by omega
    refine br_f (nI_ge (b := 256) hi' (by decide)) ⟨vp_in_nI hi' (by decide), nm_e (nm_r (nI_1 i) (xy_2 hX sn tn h d (i + 1) _ (by omega) fun x hx => ?_))⟩
    rw [nI_clamp (by omega), by_0]
    rcases Classical.em (x = i) with z | z
    · subst z; rw [pk_us]
    · rw [pk_un z]; exact I x (by omega)
theorem xy_lay (hX : xg_ n P A B f_present a_endA a_endB) {s t : Nat} (sn : s < n) (tn : t < n) {a_left : Nat → Int32} {post : SX → Prop} (h : ∀ c a_left, fn_ n P A B s t c → rp_n 256 c a_left → post (nI n, f_present, f_groupCount, f_bridgeSet, f_hingeSet, f_walked, a_endA, a_endB, a_number, a_walkPoint, a_parent, a_parentLine, a_lowest, a_nextLine, a_stack, a_marked, a_pointRoot, a_lineRoot, a_between, a_melted, a_pull, a_left, a_cameFrom, a_queue, a_matrix, a_dist)) : wpX_layFlow post (nI n, f_present, f_groupCount, f_bridgeSet, f_hingeSet, f_walked, a_endA, a_endB, a_number, a_walkPoint, a_parent, a_parentLine, a_lowest, a_nextLine, a_stack, a_marked, a_pointRoot, a_lineRoot, a_between, a_melted, a_pull, a_left, a_cameFrom, a_queue, a_matrix, a_dist) (nI s) (nI t) :=
  ⟨257, xy_2 hX sn tn h 256 0 _ rfl (fun x hx => absurd hx (by omega))⟩
end
/-! a way where something is left -/
def bf_ (l : Nat → Nat) (src : Nat) (R : Nat → Prop) (cf o : Nat → Nat) : Prop := (∀ x, R x → x < 16) ∧ R src ∧ cf src = src ∧ ∀ x, R x → x ≠ src → R (cf x) ∧ o (cf x) < o x ∧ 1 ≤ l (cf x * 16 + x)
def bq_ (R : Nat → Prop) (o q : Nat → Nat) (z : Nat) : Prop := ct_n R 16 = z ∧ (∀ x, R x → o x < z ∧ q (o x) = x) ∧ ∀ i, i < z → R (q i) ∧ o (q i) = i
def bc_ (l : Nat → Nat) (R : Nat → Prop) (q : Nat → Nat) (f : Nat) : Prop := ∀ i, i < f → ∀ v, v < 16 → 1 ≤ l (q i * 16 + v) → R v
def br_a (R : Nat → Prop) (cf : Nat → Nat) (a : Nat → Int32) : Prop := ∀ x, x < 16 → (R x ∧ a x = nI (cf x)) ∨ (¬ R x ∧ a x = -1)
section
variable {l : Nat → Nat} {src : Nat} {R : Nat → Prop} {cf o q : Nat → Nat} {z f u v : Nat}
theorem bf_put (h1 : bf_ l src R cf o) (h2 : bq_ R o q z) (h3 : bc_ l R q f) (fz : f ≤ z) (ru : R u) (nv : ¬ R v) (vn : v < 16) (e : 1 ≤ l (u * 16 + v)) : bf_ l src (fun x => R x ∨ x = v) (fu_ cf v u) (fu_ o v z) ∧ bq_ (fun x => R x ∨ x = v) (fu_ o v z) (fu_ q z v) (z + 1) ∧ bc_ l (fun x => R x ∨ x = v) (fu_ q z v) f := by
  have ne : ∀ {x}, R x → x ≠ v := fun rx e => nv (e ▸ rx)
  obtain ⟨a1, a2, a3, a4⟩ := h1
  obtain ⟨b1, b2, b3⟩ := h2
  refine ⟨⟨fun x w => w.elim (a1 x) (fun e => e ▸ vn), Or.inl a2, by rw [fu_n (ne a2)]; exact a3, fun x w ns => ?_⟩, ⟨by rw [ct_add nv vn, b1], fun x w => ?_, fun i hi => ?_⟩, fun i hi y hy w => ?_⟩
  · rcases Classical.em (x = v) with y | y
    · subst y
      rw [fu_s, fu_s, fu_n (ne ru)]
      exact ⟨Or.inl ru, (b2 u ru).1, e⟩
    · have rx := w.resolve_right y
      obtain ⟨c1, c2, c3⟩ := a4 x rx ns
      rw [fu_n y, fu_n y, fu_n (ne c1)]
      exact ⟨Or.inl c1, c2, c3⟩
  · rcases Classical.em (x = v) with y | y
    · subst y; rw [fu_s, fu_s]; exact ⟨by omega, rfl⟩
    · have rx := w.resolve_right y
      have := b2 x rx
      rw [fu_n y, fu_n (by omega)]
      exact ⟨by omega, this.2⟩
  · rcases Nat.lt_or_ge i z with y | y
    · rw [fu_n (f := q) (by omega)]
      have := b3 i y
      rw [fu_n (ne this.1)]
      exact ⟨Or.inl this.1, this.2⟩
    · have e : i = z := by omega
      subst e; rw [fu_s, fu_s]; exact ⟨Or.inr rfl, rfl⟩
  · rw [fu_n (by omega)] at w
    exact Or.inl (h3 i hi y hy w)
theorem br_put {a : Nat → Int32} (h : br_a R cf a) : br_a (fun x => R x ∨ x = v) (fu_ cf v u) (upd a v (nI u)) := by
  intro x hx
  rcases Classical.em (x = v) with y | y
  · subst y; rw [fu_s, pk_us]; exact Or.inl ⟨Or.inr rfl, rfl⟩
  · rw [fu_n y, pk_un y]
    rcases h x hx with ⟨a, b⟩ | ⟨a, b⟩
    · exact Or.inl ⟨Or.inl a, b⟩
    · exact Or.inr ⟨fun w => w.elim a y, b⟩
end
section
variable {n : Nat}
variable {f_present : Int32} {f_groupCount : Int32} {f_bridgeSet : Int32} {f_hingeSet : Int32} {f_walked : Int32} {a_endA : Nat → Int32} {a_endB : Nat → Int32} {a_number : Nat → Int32} {a_walkPoint : Nat → Int32} {a_parent : Nat → Int32} {a_parentLine : Nat → Int32} {a_lowest : Nat → Int32} {a_nextLine : Nat → Int32} {a_stack : Nat → Int32} {a_marked : Nat → Int32} {a_pointRoot : Nat → Int32} {a_lineRoot : Nat → Int32} {a_between : Nat → Int32} {a_melted : Nat → Int32} {a_pull : Nat → Int32} {a_left : Nat → Int32} {a_matrix : Nat → Int64} {a_dist : Nat → Int32}
theorem xy_62 {l : Nat → Nat} (hl : rp_n 256 l a_left) (l128 : ∀ i, i < 256 → l i < 128) {src f u : Nat} {x2 : Int32} {post : Int32 → SX → Prop} {J : Int32 → Int32 → (Nat → Int32) → (Nat → Int32) → (Nat → Int32) → (Nat → Int32) → (Nat → Int32) → (Nat → Int32) → (Nat → Int32) → (Nat → Int32) → (Nat → Int32) → (Nat → Int32) → (Nat → Int32) → (Nat → Int32) → (Nat → Int32) → (Nat → Int32) → (Nat → Int32) → (Nat → Int32) → (Nat → Int32) → (Nat → Int32) → (Nat → Int64) → (Nat → Int32) → Prop}
    (h : ∀ R cf o q z a_cameFrom a_queue, bf_ l src R cf o → bq_ R o q z → bc_ l R q (f + 1) → f + 1 ≤ z → br_a R cf a_cameFrom → rp_2 q z a_queue → J (nI (f + 1)) (nI z) a_endA a_endB a_number a_walkPoint a_parent a_parentLine a_lowest a_nextLine a_stack a_marked a_pointRoot a_lineRoot a_between a_melted a_pull a_left a_cameFrom a_queue a_matrix a_dist) :
    ∀ d v R cf o q z a_cameFrom a_queue, v + d = 16 → bf_ l src R cf o → bq_ R o q z → bc_ l R q f → f < z → q f = u → (∀ y, y < v → 1 ≤ l (u * 16 + y) → R y) → br_a R cf a_cameFrom → rp_2 q z a_queue → wX_findWay_62 post J x2 (nI (f + 1)) (nI u) (nI n) f_present f_groupCount f_bridgeSet f_hingeSet f_walked (d + 1) (nI z) (nI v) a_endA a_endB a_number a_walkPoint a_parent a_parentLine a_lowest a_nextLine a_stack a_marked a_pointRoot a_lineRoot a_between a_melted a_pull a_left a_cameFrom a_queue a_matrix a_dist
  | 0, v, R, cf, o, q, z, a_cameFrom, a_queue, hv, h1, h2, h3, fz, qf, hc, ha, hq => by
    have e : v = 16 := by omega
    subst e
    refine br_t (show (16 : Int32) ≤ nI 16 from by decide) (h R cf o q z _ _ h1 h2 (fun i hi y hy w => ?_) (by omega) ha hq)
    rcases Nat.lt_or_ge i f with k | k
    · exact h3 i k y hy w
    · have e : i = f := by omega
      subst e; rw [qf] at w; exact hc y hy w
  | d + 1, v, R, cf, o, q, z, a_cameFrom, a_queue, hv, h1, h2, h3, fz, qf, hc, ha, hq => by
    have hv16 : v < 16 := by omega
    have ru : R u := qf ▸ (h2.2.2 f fz).1
    have u16 := h1.1 u ru
    have z16 : z ≤ 16 := by rw [← h2.1]; exact ct_le _ _
    have ix : vp_in (nI u * 16 + nI v) 256 := by rw [ix_16]; exact vp_in_nI (by omega) (by decide)
    have iv : vp_in (nI v) 16 := vp_in_nI hv16 (by decide)
    have el : a_left (nI u * 16 + nI v).toNatClampNeg = nI (l (u * 16 + v)) := by rw [ix_16, nI_clamp (by omega)]; exact hl _ (by omega)
    have ll := l128 (u * 16 + v) (by omega)
    have go : (1 ≤ l (u * 16 + v) → R v) → wX_findWay_62 post J x2 (nI (f + 1)) (nI u) (nI n) f_present f_groupCount f_bridgeSet f_hingeSet f_walked (d + 1) (nI z) (nI (v + 1)) a_endA a_endB a_number a_walkPoint a_parent a_parentLine a_lowest a_nextLine a_stack a_marked a_pointRoot a_lineRoot a_between a_melted a_pull a_left a_cameFrom a_queue a_matrix a_dist := by
      intro w
      refine xy_62 hl l128 h d (v + 1) R cf o q z _ _ (by omega) h1 h2 h3 fz qf (fun y hy k => ?_) ha hq
      rcases Nat.lt_or_ge y v with t | t
      · exact hc y t k
      · have e : y = v := by omega
        subst e; exact w k
    refine br_f (nI_ge (b := 16) hv16 (by decide)) ⟨ix, pk_le (l (u * 16 + v)) 0 (fun w => nm_r (nI_1 v) (go fun k => by omega)) (fun w => ⟨iv, ?_⟩) el rfl⟩
    rw [nI_clamp (show v < 2 ^ 31 by omega)]
    rcases ha v hv16 with ⟨rv, e⟩ | ⟨rv, e⟩
    · have cv : cf v < 16 := by
        rcases Classical.em (v = src) with k | k
        · rw [k, h1.2.2.1]; exact h1.1 _ h1.2.1
        · exact h1.1 _ (h1.2.2.2 v rv k).1
      exact br_t (by rw [e]; exact nI_pos' (by omega)) (nm_r (nI_1 v) (go fun _ => rv))
    · have zlt : z < 16 := by rw [← h2.1]; exact ct_miss rv hv16
      obtain ⟨k1, k2, k3⟩ := bf_put h1 h2 h3 (by omega) ru rv hv16 (by omega)
      refine br_f (by rw [e]; decide) ⟨iv, nm_r (e' := upd a_cameFrom v (nI u)) (by rw [by_c (by omega)]) ⟨vp_in_nI zlt (by decide), nm_r (e' := upd a_queue z (nI v)) (by rw [nI_clamp (by omega), by_c (by omega)]) (nm_r (nI_1 z) (nm_r (nI_1 v) ?_))⟩⟩
      refine xy_62 hl l128 h d (v + 1) _ _ _ _ (z + 1) _ _ (by omega) k1 k2 k3 (by omega) (by rw [fu_n (by omega)]; exact qf) (fun y hy k => ?_) (br_put ha) (rp_put hq)
      rcases Nat.lt_or_ge y v with t | t
      · exact Or.inl (hc y t k)
      · exact Or.inr (by omega)
theorem xy_42 {l : Nat → Nat} (hl : rp_n 256 l a_left) (l128 : ∀ i, i < 256 → l i < 128) {src t : Nat} (t16 : t < 16) {post : Int32 → SX → Prop}
    (h : ∀ r R cf o a_cameFrom a_queue, bf_ l src R cf o → (∀ u v, R u → v < 16 → 1 ≤ l (u * 16 + v) → R v) → br_a R cf a_cameFrom → x01_ r (R t) → post r (nI n, f_present, f_groupCount, f_bridgeSet, f_hingeSet, f_walked, a_endA, a_endB, a_number, a_walkPoint, a_parent, a_parentLine, a_lowest, a_nextLine, a_stack, a_marked, a_pointRoot, a_lineRoot, a_between, a_melted, a_pull, a_left, a_cameFrom, a_queue, a_matrix, a_dist)) :
    ∀ d f R cf o q z a_cameFrom a_queue, f + d = 16 → bf_ l src R cf o → bq_ R o q z → bc_ l R q f → f ≤ z → br_a R cf a_cameFrom → rp_2 q z a_queue → wX_findWay_42 post (nI t) (nI n) f_present f_groupCount f_bridgeSet f_hingeSet f_walked (d + 1) (nI f) (nI z) a_endA a_endB a_number a_walkPoint a_parent a_parentLine a_lowest a_nextLine a_stack a_marked a_pointRoot a_lineRoot a_between a_melted a_pull a_left a_cameFrom a_queue a_matrix a_dist := by
  intro d
  induction d with
  | zero =>
    intro f R cf o q z a_cameFrom a_queue hf h1 h2 h3 fz ha hq
    have z16 : z ≤ 16 := by rw [← h2.1]; exact ct_le _ _
    have e : f = z := by omega
    subst e
    refine br_t (nI_le (Nat.le_refl _) (by omega)) ⟨vp_in_nI t16 (by decide), ?_⟩
    rw [nI_clamp (show t < 2 ^ 31 by omega)]
    have cl : ∀ u v, R u → v < 16 → 1 ≤ l (u * 16 + v) → R v := fun u v ru hv w => by
      obtain ⟨b1, b2⟩ := h2.2.1 u ru
      exact h3 (o u) b1 v hv (by rw [b2]; exact w)
    rcases ha t t16 with ⟨rt, e⟩ | ⟨rt, e⟩
    · have ct : cf t < 16 := by
        rcases Classical.em (t = src) with k | k
        · rw [k, h1.2.2.1]; exact h1.1 _ h1.2.1
        · exact h1.1 _ (h1.2.2.2 t rt k).1
      exact br_f (by rw [e]; exact nI_pos (by omega)) (h 1 R cf o _ _ h1 cl ha (Or.inl ⟨rfl, rt⟩))
    · exact br_t (by rw [e]; decide) (h 0 R cf o _ _ h1 cl ha (Or.inr ⟨rfl, rt⟩))
  | succ d ih =>
    intro f R cf o q z a_cameFrom a_queue hf h1 h2 h3 fz ha hq
    have z16 : z ≤ 16 := by rw [← h2.1]; exact ct_le _ _
    rcases Nat.lt_or_ge f z with w | w
    · refine br_f (nI_ge w (by omega)) ⟨vp_in_nI (by omega) (by decide), nm_r (e' := nI (q f)) (by rw [nI_clamp (by omega)]; exact hq f w) (nm_r (nI_1 f) ⟨17, xy_62 hl l128 (fun R cf o q z a_cameFrom a_queue k1 k2 k3 k4 k5 k6 => ih (f + 1) R cf o q z _ _ (by omega) k1 k2 k3 k4 k5 k6) 16 0 R cf o q z _ _ rfl h1 h2 h3 w rfl (fun y hy => absurd hy (by omega)) ha hq⟩)⟩
    · have e : f = z := by omega
      subst e
      refine br_t (nI_le (Nat.le_refl _) (by omega)) ⟨vp_in_nI t16 (by decide), ?_⟩
      rw [nI_clamp (show t < 2 ^ 31 by omega)]
      have cl : ∀ u v, R u → v < 16 → 1 ≤ l (u * 16 + v) → R v := fun u v ru hv w => by
        obtain ⟨b1, b2⟩ := h2.2.1 u ru
        exact h3 (o u) b1 v hv (by rw [b2]; exact w)
      rcases ha t t16 with ⟨rt, e⟩ | ⟨rt, e⟩
      · have ct : cf t < 16 := by
          rcases Classical.em (t = src) with k | k
          · rw [k, h1.2.2.1]; exact h1.1 _ h1.2.1
          · exact h1.1 _ (h1.2.2.2 t rt k).1
        exact br_f (by rw [e]; exact nI_pos (by omega)) (h 1 R cf o _ _ h1 cl ha (Or.inl ⟨rfl, rt⟩))
      · exact br_t (by rw [e]; decide) (h 0 R cf o _ _ h1 cl ha (Or.inr ⟨rfl, rt⟩))
theorem xy_f2 {l : Nat → Nat} (hl : rp_n 256 l a_left) (l128 : ∀ i, i < 256 → l i < 128) {src t : Nat} (s16 : src < 16) (t16 : t < 16) {post : Int32 → SX → Prop} {a_queue : Nat → Int32}
    (h : ∀ r R cf o a_cameFrom a_queue, bf_ l src R cf o → (∀ u v, R u → v < 16 → 1 ≤ l (u * 16 + v) → R v) → br_a R cf a_cameFrom → x01_ r (R t) → post r (nI n, f_present, f_groupCount, f_bridgeSet, f_hingeSet, f_walked, a_endA, a_endB, a_number, a_walkPoint, a_parent, a_parentLine, a_lowest, a_nextLine, a_stack, a_marked, a_pointRoot, a_lineRoot, a_between, a_melted, a_pull, a_left, a_cameFrom, a_queue, a_matrix, a_dist)) :
    ∀ d i a_cameFrom, i + d = 16 → (∀ x, x < i → a_cameFrom x = -1) → wX_findWay_2 post (nI src) (nI t) (nI n) f_present f_groupCount f_bridgeSet f_hingeSet f_walked (d + 1) (nI i) a_endA a_endB a_number a_walkPoint a_parent a_parentLine a_lowest a_nextLine a_stack a_marked a_pointRoot a_lineRoot a_between a_melted a_pull a_left a_cameFrom a_queue a_matrix a_dist
  | 0, i, a_cameFrom, hi, I => by
    have e : i = 16 := by omega
    subst e
    refine br_t (show (16 : Int32) ≤ nI 16 from by decide) (nm_r (e' := upd a_queue 0 (nI src)) (by rw [by_c (by omega)]) ⟨vp_in_nI s16 (by decide), nm_r (e' := upd a_cameFrom src (nI src)) (by rw [nI_clamp (by omega), by_c (by omega)]) ⟨17, xy_42 hl l128 t16 h 16 0 (fun x => x = src) (fun x => x) (fun _ => 0) (fun _ => src) 1 _ _ rfl ⟨fun x e => e ▸ s16, rfl, rfl, fun x e ne => absurd e ne⟩ ⟨ct_one s16, fun x e => ⟨Nat.lt_succ_self 0, e.symm⟩, fun i hi => ⟨rfl, show 0 = i by omega⟩⟩ (fun i hi => absurd hi (by omega)) (by omega) (fun x hx => ?_) (fun i hi => ?_)⟩⟩)
    · rcases Classical.em (x = src) with z | z
      · subst z; rw [pk_us]; exact Or.inl ⟨rfl, rfl⟩
      · rw [pk_un z]; exact Or.inr ⟨z, I x hx⟩
    · have e : i = 0 := by omega
      subst e; rw [pk_us]
  | d + 1, i, a_cameFrom, hi, I => by
    have hi' : i < 16 := by omega
    refine br_f (nI_ge (b := 16) hi' (by decide)) ⟨vp_in_nI hi' (by decide), nm_e (nm_r (nI_1 i) (xy_f2 hl l128 s16 t16 h d (i + 1) _ (by omega) fun x hx => ?_))⟩
    rw [nI_clamp (by omega), by_m1]
    rcases Classical.em (x = i) with z | z
    · subst z; rw [pk_us]
    · rw [pk_un z]; exact I x (by omega)
theorem xy_find {l : Nat → Nat} (hl : rp_n 256 l a_left) (l128 : ∀ i, i < 256 → l i < 128) {src t : Nat} (s16 : src < 16) (t16 : t < 16) {a_cameFrom : Nat → Int32} {a_queue : Nat → Int32} {post : Int32 → SX → Prop}
    (h : ∀ r R cf o a_cameFrom a_queue, bf_ l src R cf o → (∀ u v, R u → v < 16 → 1 ≤ l (u * 16 + v) → R v) → br_a R cf a_cameFrom → x01_ r (R t) → post r (nI n, f_present, f_groupCount, f_bridgeSet, f_hingeSet, f_walked, a_endA, a_endB, a_number, a_walkPoint, a_parent, a_parentLine, a_lowest, a_nextLine, a_stack, a_marked, a_pointRoot, a_lineRoot, a_between, a_melted, a_pull, a_left, a_cameFrom, a_queue, a_matrix, a_dist)) : wpX_findWay post (nI n, f_present, f_groupCount, f_bridgeSet, f_hingeSet, f_walked, a_endA, a_endB, a_number, a_walkPoint, a_parent, a_parentLine, a_lowest, a_nextLine, a_stack, a_marked, a_pointRoot, a_lineRoot, a_between, a_melted, a_pull, a_left, a_cameFrom, a_queue, a_matrix, a_dist) (nI src) (nI t) :=
  ⟨17, xy_f2 hl l128 s16 t16 h 16 0 _ rfl (fun x hx => absurd hx (by omega))⟩
end
end
section
/-! ===== flow between two points; fragile ===== -/
/-- two arcs and what is left on them, together -/
def pr_ (l : Nat → Nat) : Prop := ∀ u v, u < 16 → v < 16 → u ≠ v → l (u * 16 + v) + l (v * 16 + u) ≤ 16
section
variable {n : Nat}
variable {f_present : Int32} {f_groupCount : Int32} {f_bridgeSet : Int32} {f_hingeSet : Int32} {f_walked : Int32} {a_endA : Nat → Int32} {a_endB : Nat → Int32} {a_number : Nat → Int32} {a_walkPoint : Nat → Int32} {a_parent : Nat → Int32} {a_parentLine : Nat → Int32} {a_lowest : Nat → Int32} {a_nextLine : Nat → Int32} {a_stack : Nat → Int32} {a_marked : Nat → Int32} {a_pointRoot : Nat → Int32} {a_lineRoot : Nat → Int32} {a_between : Nat → Int32} {a_melted : Nat → Int32} {a_pull : Nat → Int32} {a_cameFrom : Nat → Int32} {a_queue : Nat → Int32} {a_matrix : Nat → Int64} {a_dist : Nat → Int32}
theorem xy_23 {l0 : Nat → Nat} {s t f : Nat} (s8 : s < 8) {R : Nat → Prop} {cf o : Nat → Nat} (hb : bf_ l0 (s + 8) R cf o) (ha : br_a R cf a_cameFrom) {x1 x2 : Int32} (e1 : x1 = nI s) {K : (Nat → Prop) → Nat} {post : Int32 → SX → Prop} {J : Int32 → Int32 → Int32 → Int32 → Int32 → Int32 → Int32 → (Nat → Int32) → (Nat → Int32) → (Nat → Int32) → (Nat → Int32) → (Nat → Int32) → (Nat → Int32) → (Nat → Int32) → (Nat → Int32) → (Nat → Int32) → (Nat → Int32) → (Nat → Int32) → (Nat → Int32) → (Nat → Int32) → (Nat → Int32) → (Nat → Int32) → (Nat → Int32) → (Nat → Int32) → (Nat → Int32) → (Nat → Int64) → (Nat → Int32) → Prop}
    (h : ∀ l a_left, rp_n 256 l a_left → pr_ l → (∀ i, i < 256 → l i < 128) → (∀ S : Nat → Prop, S (s + 8) → ¬ S t → fk_ l S + 1 = K S) → J (nI (f + 1)) (nI n) f_present f_groupCount f_bridgeSet f_hingeSet f_walked a_endA a_endB a_number a_walkPoint a_parent a_parentLine a_lowest a_nextLine a_stack a_marked a_pointRoot a_lineRoot a_between a_melted a_pull a_left a_cameFrom a_queue a_matrix a_dist) :
    ∀ fuel x l a_left, o x < fuel → R x → rp_n 256 l a_left → pr_ l → (∀ i, i < 256 → l i < 128) → (∀ S : Nat → Prop, S (s + 8) → ¬ S t → fk_ l S + ct_b (S x) = K S) → (∀ y, R y → y ≠ s + 8 → o y ≤ o x → 1 ≤ l (cf y * 16 + y)) → wX_flowBetween_23 post J x1 x2 (nI f) (nI n) f_present f_groupCount f_bridgeSet f_hingeSet f_walked fuel (nI x) a_endA a_endB a_number a_walkPoint a_parent a_parentLine a_lowest a_nextLine a_stack a_marked a_pointRoot a_lineRoot a_between a_melted a_pull a_left a_cameFrom a_queue a_matrix a_dist := by
  subst e1
  intro fuel
  induction fuel with
  | zero => intro x l _ h; omega
  | succ fuel ih =>
    intro x l a_left hf rx Hr Hp H8 HK Hl
    have x16 := hb.1 x rx
    rcases Classical.em (x = s + 8) with e | e
    · subst e
      refine br_t (ix_p8 s).symm (nm_r (nI_1 f) (h l _ Hr Hp H8 fun S hs ht => ?_))
      have := HK S hs ht
      rw [ct_bt hs] at this; exact this
    · obtain ⟨ru, lt, _⟩ := hb.2.2.2 x rx e
      have u16 := hb.1 _ ru
      have ne : cf x ≠ x := fun w => by rw [w] at lt; omega
      have lpos := Hl x rx e (Nat.le_refl _)
      have b1 := H8 (cf x * 16 + x) (by omega)
      have b2 := H8 (x * 16 + cf x) (by omega)
      have pp := Hp (cf x) x u16 x16 ne
      have ec : a_cameFrom (nI x).toNatClampNeg = nI (cf x) := by
        rw [nI_clamp (by omega)]
        rcases ha x x16 with w | w
        · exact w.2
        · exact absurd rx w.1
      have i1 : vp_in (nI (cf x) * 16 + nI x) 256 := by rw [ix_16]; exact vp_in_nI (by omega) (by decide)
      have i2 : vp_in (nI x * 16 + nI (cf x)) 256 := by rw [ix_16]; exact vp_in_nI (by omega) (by decide)
      have n12 : x * 16 + cf x ≠ cf x * 16 + x := by omega
      refine br_f (by rw [ix_p8, nI_eq (by omega) (by omega)]; exact e) ⟨vp_in_nI x16 (by decide), nm_r ec ⟨i1, i1, nm_r (e' := upd a_left (cf x * 16 + x) (nI (l (cf x * 16 + x) - 1))) ?_ ⟨i2, i2, nm_r (e' := upd (upd a_left (cf x * 16 + x) (nI (l (cf x * 16 + x) - 1))) (x * 16 + cf x) (nI (l (x * 16 + cf x) + 1))) ?_ ?_⟩⟩⟩
      · rw [ix_16, nI_clamp (show cf x * 16 + x < 2 ^ 31 by omega), Hr _ (by omega)]
        rw [show nI (l (cf x * 16 + x)) - 1 = nI (l (cf x * 16 + x) - 1) from pk_sub (b := 1) lpos, by_c (by omega)]
      · rw [ix_16, nI_clamp (show x * 16 + cf x < 2 ^ 31 by omega), pk_un n12, Hr _ (by omega), nI_1, by_c (by omega)]
      · have v1 : fu_ (fu_ l (cf x * 16 + x) (l (cf x * 16 + x) - 1)) (x * 16 + cf x) (l (x * 16 + cf x) + 1) (cf x * 16 + x) = l (cf x * 16 + x) - 1 := by rw [fu_n (fun w => n12 w.symm), fu_s]
        have v2 : fu_ (fu_ l (cf x * 16 + x) (l (cf x * 16 + x) - 1)) (x * 16 + cf x) (l (x * 16 + cf x) + 1) (x * 16 + cf x) = l (x * 16 + cf x) + 1 := fu_s
        have vo : ∀ i, i ≠ cf x * 16 + x → i ≠ x * 16 + cf x → fu_ (fu_ l (cf x * 16 + x) (l (cf x * 16 + x) - 1)) (x * 16 + cf x) (l (x * 16 + cf x) + 1) i = l i := fun i h1 h2 => by rw [fu_n h2, fu_n h1]
        refine ih (cf x) _ _ (by omega) ru (rp_nu (rp_nu Hr)) (fun u v hu hv uv => ?_) (fun i hi => ?_) (fun S hs ht => ?_) (fun y ry ny oy => ?_)
        · have q := Hp u v hu hv uv
          rcases Classical.em (u = cf x ∧ v = x) with ⟨w1, w2⟩ | w
          · rw [w1, w2, v1, v2]; omega
          · rcases Classical.em (u = x ∧ v = cf x) with ⟨w1, w2⟩ | w'
            · rw [w1, w2, v1, v2]; omega
            · rw [vo _ (by omega) (by omega), vo _ (by omega) (by omega)]; exact q
        · rcases Classical.em (i = x * 16 + cf x) with w | w
          · rw [w, v2]; omega
          · rcases Classical.em (i = cf x * 16 + x) with w' | w'
            · rw [w', v1]; omega
            · rw [vo i w' w]; exact H8 i hi
        · have := fk_step (l := l) (S := S) u16 x16 ne lpos
          have := HK S hs ht
          omega
        · have yx : y ≠ x := fun w => by rw [w] at oy; omega
          obtain ⟨ry', oy', _⟩ := hb.2.2.2 y ry ny
          have y16 := hb.1 y ry
          have cy16 := hb.1 _ ry'
          rw [vo]
          · exact Hl y ry ny (by omega)
          · omega
          · intro w
            have e1 : cf y = x := by omega
            have e2 : y = cf x := by omega
            rw [e1] at oy'; omega
end
section
variable {n : Nat} {P : Nat → Prop} {A B : Nat → Nat}
variable {f_present : Int32} {f_groupCount : Int32} {f_bridgeSet : Int32} {f_hingeSet : Int32} {f_walked : Int32} {a_endA : Nat → Int32} {a_endB : Nat → Int32} {a_number : Nat → Int32} {a_walkPoint : Nat → Int32} {a_parent : Nat → Int32} {a_parentLine : Nat → Int32} {a_lowest : Nat → Int32} {a_nextLine : Nat → Int32} {a_stack : Nat → Int32} {a_marked : Nat → Int32} {a_pointRoot : Nat → Int32} {a_lineRoot : Nat → Int32} {a_between : Nat → Int32} {a_melted : Nat → Int32} {a_pull : Nat → Int32} {a_matrix : Nat → Int64} {a_dist : Nat → Int32}
theorem xy_8 (hX : xg_ n P A B f_present a_endA a_endB) {s t : Nat} (sn : s < n) (tn : t < n) (st : s ≠ t) (na : ¬ ∃ k, P k ∧ jn_ A B k s t) {c : Nat → Nat} (hc : fn_ n P A B s t c) {post : Int32 → SX → Prop}
    (h : ∀ f a_left a_cameFrom a_queue, fl_ n P A B s t f → post (nI f) (nI n, f_present, f_groupCount, f_bridgeSet, f_hingeSet, f_walked, a_endA, a_endB, a_number, a_walkPoint, a_parent, a_parentLine, a_lowest, a_nextLine, a_stack, a_marked, a_pointRoot, a_lineRoot, a_between, a_melted, a_pull, a_left, a_cameFrom, a_queue, a_matrix, a_dist)) :
    ∀ fuel f l a_left a_cameFrom a_queue, fk_ l (fun x => x = s + 8) < fuel → rp_n 256 l a_left → pr_ l → (∀ i, i < 256 → l i < 128) → (∀ S : Nat → Prop, S (s + 8) → ¬ S t → fk_ l S + f = fk_ c S) → wX_flowBetween_8 post (nI s) (nI t) fuel (nI f) (nI n) f_present f_groupCount f_bridgeSet f_hingeSet f_walked a_endA a_endB a_number a_walkPoint a_parent a_parentLine a_lowest a_nextLine a_stack a_marked a_pointRoot a_lineRoot a_between a_melted a_pull a_left a_cameFrom a_queue a_matrix a_dist := by
  have n8 := hX.1.1.2
  intro fuel
  induction fuel with
  | zero => intro f l _ _ _ h; omega
  | succ fuel ih =>
    intro f l a_left a_cameFrom a_queue hf Hr Hp H8 HK
    unfold wX_flowBetween_8
    rw [ix_p8]
    refine xy_find Hr H8 (by omega) (by omega) fun r R cf o a_cameFrom a_queue hb cl ha hr => ?_
    rcases hr with ⟨rfl, rt⟩ | ⟨rfl, rt⟩
    · refine br_f bb_10 ⟨o t + 1, xy_23 (t := t) (K := fun S => fk_ l S) (by omega) hb ha rfl (fun l' a_left Hr' Hp' H8' HK' => ih (f + 1) l' _ _ _ ?_ Hr' Hp' H8' (fun S hs ht => ?_)) _ t l _ (Nat.lt_succ_self _) rt Hr Hp H8 (fun S hs ht => ?_) (fun y ry ny _ => (hb.2.2.2 y ry ny).2.2)⟩
      · have := HK' (fun x => x = s + 8) rfl (by omega)
        omega
      · have := HK' S hs ht
        have := HK S hs ht
        omega
      · rw [ct_bf ht]; rfl
    · refine br_t rfl (h f _ _ _ ⟨?_, fun F hF fs ft ng => ?_⟩)
      · have z : fk_ l R = 0 := by
          have : sm_ (fun i => ct_b (R (i / 16) ∧ ¬ R (i % 16)) * l i) 256 = sm_ (fun _ => 0) 256 := sm_eq fun i hi => by
            rcases Classical.em (R (i / 16) ∧ ¬ R (i % 16)) with w | w
            · rcases Nat.eq_zero_or_pos (l i) with y | y
              · rw [y]; rfl
              · exact absurd (cl (i / 16) (i % 16) w.1 (by omega) (by rw [show i / 16 * 16 + i % 16 = i by omega]; exact y)) w.2
            · rw [ct_bf w, Nat.zero_mul]
          rw [show fk_ l R = sm_ (fun _ => 0) 256 from this]
          decide +kernel
        have e := HK R hb.2.1 rt
        obtain ⟨F, a, b, c', d, g⟩ := fl_strong hX.1 hc sn tn st na hb.2.1 rt
        exact ⟨F, a, b, c', d, by omega⟩
      · obtain ⟨S, a, b, g⟩ := fl_weak hX.1 hc hF fs ft ng
        have := HK S a b
        omega
theorem xy_flow (hX : xg_ n P A B f_present a_endA a_endB) {s t : Nat} (sn : s < n) (tn : t < n) (st : s ≠ t) (na : ¬ ∃ k, P k ∧ jn_ A B k s t) {a_left : Nat → Int32} {a_cameFrom : Nat → Int32} {a_queue : Nat → Int32} {post : Int32 → SX → Prop}
    (h : ∀ f a_left a_cameFrom a_queue, fl_ n P A B s t f → post (nI f) (nI n, f_present, f_groupCount, f_bridgeSet, f_hingeSet, f_walked, a_endA, a_endB, a_number, a_walkPoint, a_parent, a_parentLine, a_lowest, a_nextLine, a_stack, a_marked, a_pointRoot, a_lineRoot, a_between, a_melted, a_pull, a_left, a_cameFrom, a_queue, a_matrix, a_dist)) : wpX_flowBetween post (nI n, f_present, f_groupCount, f_bridgeSet, f_hingeSet, f_walked, a_endA, a_endB, a_number, a_walkPoint, a_parent, a_parentLine, a_lowest, a_nextLine, a_stack, a_marked, a_pointRoot, a_lineRoot, a_between, a_melted, a_pull, a_left, a_cameFrom, a_queue, a_matrix, a_dist) (nI s) (nI t) := by
  unfold wpX_flowBetween
  dsimp only
  refine xy_lay hX sn tn fun c a_left hc Hr => ⟨fk_ c (fun x => x = s + 8) + 1, xy_8 hX sn tn st na hc h _ 0 c _ _ _ (Nat.lt_succ_self _) Hr (fun u v hu hv _ => ?_) (fun i hi => ?_) (fun S _ _ => rfl)⟩
  · have := fn_le hc (i := u * 16 + v) (by omega)
    have := fn_le hc (i := v * 16 + u) (by omega)
    omega
  · have := fn_le hc hi; omega
theorem xy_48 (hX : xg_ n P A B f_present a_endA a_endB) (hw : rp_n 64 (bw_ P A B 16) a_between) {s : Nat} (sn : s < n) {post : Int32 → SX → Prop} {J : Int32 → Int32 → Int32 → Int32 → Int32 → Int32 → Int32 → Int32 → (Nat → Int32) → (Nat → Int32) → (Nat → Int32) → (Nat → Int32) → (Nat → Int32) → (Nat → Int32) → (Nat → Int32) → (Nat → Int32) → (Nat → Int32) → (Nat → Int32) → (Nat → Int32) → (Nat → Int32) → (Nat → Int32) → (Nat → Int32) → (Nat → Int32) → (Nat → Int32) → (Nat → Int32) → (Nat → Int32) → (Nat → Int64) → (Nat → Int32) → Prop}
    (h : ∀ b a_left a_cameFrom a_queue, fp_ n P A B s n b → J (nI b) (nI (s + 1)) (nI n) f_present f_groupCount f_bridgeSet f_hingeSet f_walked a_endA a_endB a_number a_walkPoint a_parent a_parentLine a_lowest a_nextLine a_stack a_marked a_pointRoot a_lineRoot a_between a_melted a_pull a_left a_cameFrom a_queue a_matrix a_dist) :
    ∀ d t b a_left a_cameFrom a_queue, t + d = n → s < t → fp_ n P A B s t b → wX_fragile_48 post J (nI s) (d + 1) (nI b) (nI t) (nI n) f_present f_groupCount f_bridgeSet f_hingeSet f_walked a_endA a_endB a_number a_walkPoint a_parent a_parentLine a_lowest a_nextLine a_stack a_marked a_pointRoot a_lineRoot a_between a_melted a_pull a_left a_cameFrom a_queue a_matrix a_dist
  | 0, t, b, a_left, a_cameFrom, a_queue, ht, st, I => by
    have e : t = n := by omega
    subst e
    have n8 := hX.1.1.2
    exact br_t (nI_le (Nat.le_refl _) (by omega)) (nm_r (nI_1 s) (h b _ _ _ I))
  | d + 1, t, b, a_left, a_cameFrom, a_queue, ht, st, I => by
    have n8 := hX.1.1.2
    have tn : t < n := by omega
    have ix : vp_in (nI s * 8 + nI t) 64 := by rw [ix_8]; exact vp_in_nI (by omega) (by decide)
    have eb : a_between (nI s * 8 + nI t).toNatClampNeg = nI (bw_ P A B 16 (s * 8 + t)) := by rw [ix_8, nI_clamp (by omega)]; exact hw _ (by omega)
    have bl : bw_ P A B 16 (s * 8 + t) ≤ 16 := ct_le _ _
    have be : bw_ P A B 16 (s * 8 + t) = 0 ↔ ¬ ∃ k, P k ∧ jn_ A B k s t := by
      unfold bw_
      rw [show (s * 8 + t) / 8 = s by omega, show (s * 8 + t) % 8 = t by omega]
      constructor
      · rintro z ⟨k, pk, j⟩
        have := ct_pos (P := fun j => P j ∧ jn_ A B j s t) (a := k) ⟨pk, j⟩ (hX.1.2 k pk).1
        omega
      · intro z
        exact ct_zero fun k _ w => z ⟨k, w⟩
    have b8 : b ≤ 8 := by have := I.1; omega
    refine br_f (nI_ge tn (by omega)) ⟨ix, pk_eq (bw_ P A B 16 (s * 8 + t)) 0 (fun z => xy_flow hX sn tn (by omega) (be.mp z) fun f a_left a_cameFrom a_queue hf => ?_) (fun z => nm_r (nI_1 t) (xy_48 hX hw sn h d (t + 1) b _ _ _ (by omega) (by omega) (fp_skip I (Classical.byContradiction fun w => z (be.mpr w))))) eb rfl⟩
    have f8 : f ≤ n := by
      obtain ⟨⟨F, a, b, c, d, _⟩, u⟩ := hf
      have := u F a b c d
      omega
    refine pk_le b f (fun w => nm_r (nI_1 t) (xy_48 hX hw sn h d (t + 1) b _ _ _ (by omega) (by omega) (fp_flow hX.1 I st tn hf ⟨Nat.le_refl _, w, Or.inl rfl⟩))) (fun w => nm_r (nI_1 t) (xy_48 hX hw sn h d (t + 1) f _ _ _ (by omega) (by omega) (fp_flow hX.1 I st tn hf ⟨by omega, Nat.le_refl _, Or.inr rfl⟩)))
theorem xy_36 (hX : xg_ n P A B f_present a_endA a_endB) (hw : rp_n 64 (bw_ P A B 16) a_between) {post : Int32 → SX → Prop} (h : ∀ b a_left a_cameFrom a_queue, fr_ n P A B b → post (nI b) (nI n, f_present, f_groupCount, f_bridgeSet, f_hingeSet, f_walked, a_endA, a_endB, a_number, a_walkPoint, a_parent, a_parentLine, a_lowest, a_nextLine, a_stack, a_marked, a_pointRoot, a_lineRoot, a_between, a_melted, a_pull, a_left, a_cameFrom, a_queue, a_matrix, a_dist)) :
    ∀ d s b a_left a_cameFrom a_queue, s + d = n → fp_ n P A B s (s + 1) b → wX_fragile_36 post (d + 1) (nI b) (nI s) (nI n) f_present f_groupCount f_bridgeSet f_hingeSet f_walked a_endA a_endB a_number a_walkPoint a_parent a_parentLine a_lowest a_nextLine a_stack a_marked a_pointRoot a_lineRoot a_between a_melted a_pull a_left a_cameFrom a_queue a_matrix a_dist
  | 0, s, b, a_left, a_cameFrom, a_queue, hs, I => by
    have e : s = n := by omega
    subst e
    have n8 := hX.1.1.2
    exact br_t (nI_le (Nat.le_refl _) (by omega)) (h b _ _ _ (fp_end hX.1 (Nat.le_refl _) I))
  | d + 1, s, b, a_left, a_cameFrom, a_queue, hs, I => by
    have n8 := hX.1.1.2
    have sn : s < n := by omega
    exact br_f (nI_ge sn (by omega)) (nm_r (nI_1 s) ⟨d + 1, xy_48 hX hw sn (fun b a_left a_cameFrom a_queue I => xy_36 hX hw h d (s + 1) b _ _ _ (by omega) (fp_row I)) d (s + 1) b _ _ _ (by omega) (by omega) I⟩)
end
section
variable {n : Nat} {P : Nat → Prop} {A B : Nat → Nat}
variable {f_present : Int32} {f_groupCount : Int32} {f_bridgeSet : Int32} {f_hingeSet : Int32} {f_walked : Int32} {a_endA : Nat → Int32} {a_endB : Nat → Int32} {a_number : Nat → Int32} {a_walkPoint : Nat → Int32} {a_parent : Nat → Int32} {a_parentLine : Nat → Int32} {a_lowest : Nat → Int32} {a_nextLine : Nat → Int32} {a_stack : Nat → Int32} {a_marked : Nat → Int32} {a_pointRoot : Nat → Int32} {a_lineRoot : Nat → Int32} {a_between : Nat → Int32} {a_melted : Nat → Int32} {a_pull : Nat → Int32} {a_left : Nat → Int32} {a_cameFrom : Nat → Int32} {a_queue : Nat → Int32} {a_matrix : Nat → Int64} {a_dist : Nat → Int32}
theorem xy_frag (hX : xg_ n P A B f_present a_endA a_endB) {post : Int32 → SX → Prop}
    (h1 : ∀ b (f_bridgeSet : Int32) (f_hingeSet : Int32) (f_walked : Int32) (a_number : Nat → Int32) (a_walkPoint : Nat → Int32) (a_parent : Nat → Int32) (a_parentLine : Nat → Int32) (a_lowest : Nat → Int32) (a_nextLine : Nat → Int32) (a_stack : Nat → Int32) (a_marked : Nat → Int32) (a_pointRoot : Nat → Int32) (a_lineRoot : Nat → Int32) (a_between : Nat → Int32) (a_left : Nat → Int32) (a_cameFrom : Nat → Int32) (a_queue : Nat → Int32), 2 ≤ n → gc_c A B P (fun x => x < n) ≤ 1 → fr_ n P A B b → post (nI b) (nI n, f_present, nI (gc_c A B P (fun x => x < n)), f_bridgeSet, f_hingeSet, f_walked, a_endA, a_endB, a_number, a_walkPoint, a_parent, a_parentLine, a_lowest, a_nextLine, a_stack, a_marked, a_pointRoot, a_lineRoot, a_between, a_melted, a_pull, a_left, a_cameFrom, a_queue, a_matrix, a_dist))
    (h0 : ∀ (f_bridgeSet : Int32) (f_hingeSet : Int32) (f_walked : Int32) (a_number : Nat → Int32) (a_walkPoint : Nat → Int32) (a_parent : Nat → Int32) (a_parentLine : Nat → Int32) (a_lowest : Nat → Int32) (a_nextLine : Nat → Int32) (a_stack : Nat → Int32) (a_marked : Nat → Int32) (a_pointRoot : Nat → Int32) (a_lineRoot : Nat → Int32), ¬ (2 ≤ n ∧ gc_c A B P (fun x => x < n) ≤ 1) → post 0 (nI n, f_present, nI (gc_c A B P (fun x => x < n)), f_bridgeSet, f_hingeSet, f_walked, a_endA, a_endB, a_number, a_walkPoint, a_parent, a_parentLine, a_lowest, a_nextLine, a_stack, a_marked, a_pointRoot, a_lineRoot, a_between, a_melted, a_pull, a_left, a_cameFrom, a_queue, a_matrix, a_dist)) : wpX_fragile post (nI n, f_present, f_groupCount, f_bridgeSet, f_hingeSet, f_walked, a_endA, a_endB, a_number, a_walkPoint, a_parent, a_parentLine, a_lowest, a_nextLine, a_stack, a_marked, a_pointRoot, a_lineRoot, a_between, a_melted, a_pull, a_left, a_cameFrom, a_queue, a_matrix, a_dist) := by
  have n8 := hX.1.1.2
  have n1 := hX.1.1.1
  unfold wpX_fragile
  dsimp only
  refine xq_solve hX (by decide) fun f_bridgeSet f_hingeSet f_walked a_number a_walkPoint a_parent a_parentLine a_lowest a_nextLine a_stack a_marked a_pointRoot a_lineRoot _ _ => ?_
  have c8 : gc_c A B P (fun x => x < n) < 2 ^ 31 := Nat.lt_of_le_of_lt (ct_le _ 8) (by decide)
  refine pk_eq n 1 (fun e => h0 _ _ _ _ _ _ _ _ _ _ _ _ _ (by omega)) (fun e => pk_le (gc_c A B P (fun x => x < n)) 1 (fun g => ?_) (fun g => h0 _ _ _ _ _ _ _ _ _ _ _ _ _ (by omega)) rfl rfl c8)
  refine xf_ hX fun a_between hw => nm_r (e' := nI (n - 1)) (pk_sub (b := 1) n1) ⟨n + 1, xy_36 hX hw (fun b a_left a_cameFrom a_queue hb => h1 b _ _ _ _ _ _ _ _ _ _ _ _ _ _ _ _ _ (by omega) g hb) n 0 _ _ _ _ (by omega) (fp_start n1)⟩
end
end
section
/-! ===== fragile in the reference ===== -/
section
variable {a_there a_as a_bs : Nat → Int32} {A B : Nat → Nat} {n : Nat} {P : Nat → Prop} {M : Int32}
theorem yo_loop {f_size x1 : Int32} {post : Int32 → Prop} (h : post (nI (ct_n (fun v => bt x1 v = true) 16))) :
    ∀ d k, k + d = 16 → wY_ones_4 post x1 f_size a_there a_as a_bs (d + 1) (nI (ct_n (fun v => bt x1 v = true) k)) (nI k)
  | 0, k, hk => by
    have e : k = 16 := by omega
    subst e
    exact br_t (show (16 : Int32) ≤ nI 16 from by decide) h
  | d + 1, k, hk => by
    have hk16 : k < 16 := by omega
    refine br_f (nI_ge (b := 16) hk16 (by decide)) (nm_r (e' := nI (ct_n (fun v => bt x1 v = true) (k + 1))) ?_ (nm_r (nI_1 k) (yo_loop h d (k + 1) (by omega))))
    rw [bb_bit x1 (by omega)]
    show _ = nI (_ + ct_b _)
    by_cases z : bt x1 k = true
    · rw [if_pos z, ct_bt z, nI_1]
    · rw [if_neg z, ct_bf z, Int32.add_zero]; rfl
theorem yo_ {f_size x1 : Int32} {post : Int32 → Prop} (h : post (nI (ct_n (fun v => bt x1 v = true) 16))) : wpY_ones post (f_size, a_there, a_as, a_bs) x1 := ⟨17, yo_loop h 16 0 rfl⟩
theorem yo_s (n8 : n ≤ 8) {s : Nat} (hs : s < 2 ^ n) : ct_n (fun v => bt (nI s) v = true) 16 = ct_n (fun v => s.testBit v = true) n := by
  have p8 : 2 ^ n ≤ 2 ^ 8 := Nat.pow_le_pow_right (by decide) n8
  rw [ct_eq (Q := fun v => s.testBit v = true) (fun v _ => by rw [bt_n (by omega)])]
  exact ct_ext (by omega) (fun k _ z => tb_lt hs z)
theorem yr_L (hg : gr_ n P A B) (hT : yg_th P a_there) (hE : yg_ends A B a_as a_bs) (hM : ∀ v, bt M v = true ↔ P v) {post : Int32 → Prop} (h1 : ∀ b, 2 ≤ n → gc_c A B P (fun x => x < n) ≤ 1 → fr_ n P A B b → post (nI b)) (h0 : ¬ (2 ≤ n ∧ gc_c A B P (fun x => x < n) ≤ 1) → post 0) :
    ∀ d s b, s + d = 2 ^ n → 1 ≤ s → b ≤ 100 → (b = 100 ∨ ∃ t, 1 ≤ t ∧ t < s ∧ ff_ n P A B (fun v => t.testBit v = true) ∧ b + ct_n (fun v => t.testBit v = true) n = n) → (∀ t, 1 ≤ t → t < s → ff_ n P A B (fun v => t.testBit v = true) → b + ct_n (fun v => t.testBit v = true) n ≤ n) → wY_fragile_5 post (nI n) a_there a_as a_bs (d + 1) (nI b) (nI s)
  | 0, s, b, hs, s1, b1, I, J => by
    have n8 := hg.1.2
    have n1 := hg.1.1
    have p8 : 2 ^ n ≤ 2 ^ 8 := Nat.pow_le_pow_right (by decide) n8
    have p1 : 2 ^ 1 ≤ 2 ^ n := Nat.pow_le_pow_right (by decide) n1
    have e : s = 2 ^ n := by omega
    subst e
    unfold wY_fragile_5 wpY_all
    dsimp only
    refine br_t ?_ (yf_firm hg hT hE hM (fun f => br_f bb_10 (h1 b f.1 f.2 ⟨?_, fun F hF => ?_⟩)) (fun f => br_t rfl (h0 f)))
    · show al_ n < nI (2 ^ n)
      rw [al_n n (by omega)]; exact nI_lt (by omega) (by omega)
    · rcases I with e | ⟨t, t1, t2, t3, t4⟩
      · exfalso
        have c1 : ct_n (fun v => (1 : Nat).testBit v = true) n = 1 := by
          rw [ct_eq (Q := fun v => v = 0) (fun v _ => ?_)]
          · exact ct_one (by omega)
          · rw [show (1 : Nat) = 2 ^ 0 from rfl, Nat.testBit_two_pow, decide_eq_true_iff]
            exact ⟨fun z => z.symm, fun z => z.symm⟩
        have := J 1 (Nat.le_refl _) (by omega) ⟨fun x z => tb_lt (by omega) z, ⟨0, by decide⟩, Or.inl c1⟩
        omega
      · exact ⟨_, t3, t4⟩
    · have lt := mk_nlt F n
      have e : (fun v => (mk_n F n).testBit v = true) = F := funext fun v => propext ((mk_nb F n v).trans ⟨fun z => z.2, fun z => ⟨hF.1 v z, z⟩⟩)
      have ge : 1 ≤ mk_n F n := by
        obtain ⟨x, fx⟩ := hF.2.1
        have a := (mk_nb F n x).mpr ⟨hF.1 x fx, fx⟩
        rcases Nat.eq_zero_or_pos (mk_n F n) with z | z
        · rw [z, Nat.zero_testBit] at a; cases a
        · exact z
      have := J _ ge lt (by rw [e]; exact hF)
      rw [e] at this
      exact this
  | d + 1, s, b, hs, s1, b1, I, J => by
    have n8 := hg.1.2
    have p8 : 2 ^ n ≤ 2 ^ 8 := Nat.pow_le_pow_right (by decide) n8
    have sl : s < 2 ^ n := by omega
    have P16 : ∀ v, P v → v < 16 := fun v z => (hg.2 v z).1
    have cl : ct_n (fun v => s.testBit v = true) n ≤ n := ct_le _ _
    have K := yr_L hg hT hE hM h1 h0 d (s + 1)
    have hF : ∀ x, s.testBit x = true → x < n := fun x z => tb_lt sl z
    have ne : ∃ x, s.testBit x = true := Nat.exists_testBit_of_ne_zero (by omega)
    have ext : (∀ t, 1 ≤ t → t < s + 1 → ff_ n P A B (fun v => t.testBit v = true) → b + ct_n (fun v => t.testBit v = true) n ≤ n) → wY_fragile_5 post (nI n) a_there a_as a_bs (d + 1) (nI b) (nI (s + 1)) := fun q => K b (by omega) (by omega) b1 (I.elim Or.inl (fun ⟨t, t1, t2, t3⟩ => Or.inr ⟨t, t1, by omega, t3⟩)) q
    have no : ¬ ff_ n P A B (fun v => s.testBit v = true) → wY_fragile_40 post (wY_fragile_5 post (nI n) a_there a_as a_bs (d + 1)) (nI b) (nI s) 0 (nI n) a_there a_as a_bs := by
      intro z
      refine yo_ (nm_e (br_t rfl (nm_r (nI_1 s) (ext fun t t1 t2 f => ?_))))
      rcases Nat.lt_or_ge t s with w | w
      · exact J t t1 w f
      · have e : t = s := by omega
        subst e; exact absurd f z
    have yes : ff_ n P A B (fun v => s.testBit v = true) → wY_fragile_35 post (wY_fragile_5 post (nI n) a_there a_as a_bs (d + 1)) (nI b) (nI s) (nI n) a_there a_as a_bs := by
      intro z
      refine yo_ ?_
      rw [yo_s n8 sl]
      refine nm_r (pk_sub cl) (br_f bb_10 (pk_le b (n - ct_n (fun v => s.testBit v = true) n) (fun w => nm_r (nI_1 s) (ext fun t t1 t2 f => ?_)) (fun w => nm_r (nI_1 s) (K _ (by omega) (by omega) (by omega) (Or.inr ⟨s, s1, by omega, z, by omega⟩) (fun t t1 t2 f => ?_)))))
      · rcases Nat.lt_or_ge t s with y | y
        · exact J t t1 y f
        · have e : t = s := by omega
          subst e; omega
      · rcases Nat.lt_or_ge t s with y | y
        · have := J t t1 y f; omega
        · have e : t = s := by omega
          subst e; omega
    unfold wY_fragile_5 wpY_all
    dsimp only
    refine br_f ?_ (yo_ ?_)
    · show ¬ al_ n < nI s
      rw [al_n n (by omega)]; exact nI_nlt (by omega) (by omega)
    · rw [yo_s n8 sl]
      refine pk_eq (ct_n (fun v => s.testBit v = true) n) 1 (fun e => yes ⟨hF, ne, Or.inl e⟩) (fun e => yl_ hT hM P16 (ym_ hE (L := P) (S := fun v => s.testBit v = true) (fun v _ => hM v) (fun v => by rw [bt_n (by omega)]) P16 (fun v z => Nat.lt_of_lt_of_le (hF v z) n8) ?_))
      have c8 : gc_c A B P (fun v => s.testBit v = true) < 2 ^ 31 := Nat.lt_of_le_of_lt (ct_le _ 8) (by decide)
      refine pk_le _ 1 (fun w => no fun f => ?_) (fun w => yes ⟨hF, ne, Or.inr (by omega)⟩) rfl rfl c8
      rcases f.2.2 with q | q
      · exact e q
      · omega
theorem yr_frag (hg : gr_ n P A B) (hT : yg_th P a_there) (hE : yg_ends A B a_as a_bs) (hM : ∀ v, bt M v = true ↔ P v) {post : Int32 → Prop} (h1 : ∀ b, 2 ≤ n → gc_c A B P (fun x => x < n) ≤ 1 → fr_ n P A B b → post (nI b)) (h0 : ¬ (2 ≤ n ∧ gc_c A B P (fun x => x < n) ≤ 1) → post 0) : wpY_fragile post (nI n, a_there, a_as, a_bs) := by
  have n1 := hg.1.1
  have p2 : 2 ^ 1 ≤ 2 ^ n := Nat.pow_le_pow_right (by decide) n1
  exact ⟨2 ^ n - 1 + 1, yr_L hg hT hE hM h1 h0 (2 ^ n - 1) 1 100 (by omega) (Nat.le_refl _) (Nat.le_refl _) (Or.inl rfl) (fun t t1 t2 => by omega)⟩
end
end
section
/-! ===== determinants over the rationals, by the first column ===== -/
def sq_ (f : Nat → Rat) : Nat → Rat
  | 0 => 0
  | k + 1 => sq_ f k + f k
theorem sq_eq {f g : Nat → Rat} : ∀ {N : Nat}, (∀ k, k < N → f k = g k) → sq_ f N = sq_ g N
  | 0, _ => rfl
  | N + 1, h => by simp only [sq_]; rw [sq_eq (fun k hk => h k (by omega)), h N (by omega)]
theorem sq_lin {f g h : Nat → Rat} {x y : Rat} : ∀ {N : Nat}, (∀ k, k < N → h k = x * f k + y * g k) → sq_ h N = x * sq_ f N + y * sq_ g N
  | 0, _ => by simp only [sq_]; grind
  | N + 1, e => by
    have a := sq_lin (N := N) (fun k hk => e k (by omega))
    have b := e N (by omega)
    simp only [sq_]
    rw [a, b]; grind
theorem sq_zero {f : Nat → Rat} : ∀ {N : Nat}, (∀ k, k < N → f k = 0) → sq_ f N = 0
  | 0, _ => rfl
  | N + 1, h => by
    simp only [sq_]
    rw [sq_zero (N := N) (fun k hk => h k (by omega)), h N (by omega)]; grind
theorem sq_one {f : Nat → Rat} {a : Nat} : ∀ {N : Nat}, a < N → (∀ k, k < N → k ≠ a → f k = 0) → sq_ f N = f a
  | 0, h, _ => by omega
  | N + 1, h, e => by
    simp only [sq_]
    rcases Nat.lt_or_ge a N with z | z
    · rw [sq_one z (fun k hk => e k (by omega)), e N (by omega) (by omega)]; grind
    · have q : a = N := by omega
      subst q
      rw [sq_zero (fun k hk => e k (by omega) (by omega))]; grind
theorem sq_two {f : Nat → Rat} {a b : Nat} (ab : a < b) : ∀ {N : Nat}, b < N → (∀ k, k < N → k ≠ a → k ≠ b → f k = 0) → sq_ f N = f a + f b
  | 0, h, _ => by omega
  | N + 1, h, e => by
    simp only [sq_]
    rcases Nat.lt_or_ge b N with z | z
    · rw [sq_two ab z (fun k hk => e k (by omega)), e N (by omega) (by omega) (by omega)]; grind
    · have q : b = N := by omega
      subst q
      rw [sq_one (a := a) ab (fun k hk hk' => e k (by omega) hk' (by omega))]
def sg_ : Nat → Rat
  | 0 => 1
  | k + 1 => - sg_ k
def ms_i (i r : Nat) : Nat := if r < i then r else r + 1
def mi_ (A : Nat → Nat → Rat) (i : Nat) : Nat → Nat → Rat := fun r c => A (ms_i i r) (c + 1)
def dt_ : Nat → (Nat → Nat → Rat) → Rat
  | 0, _ => 1
  | m + 1, A => sq_ (fun i => sg_ i * A i 0 * dt_ m (mi_ A i)) (m + 1)
theorem ms_lt {i r : Nat} (h : r < i) : ms_i i r = r := if_pos h
theorem ms_ge {i r : Nat} (h : ¬ r < i) : ms_i i r = r + 1 := if_neg h
theorem dt_ext : ∀ (m : Nat) {A B : Nat → Nat → Rat}, (∀ r c, r < m → A r c = B r c) → dt_ m A = dt_ m B
  | 0, _, _, _ => rfl
  | m + 1, A, B, h => by
    simp only [dt_]
    refine sq_eq fun i hi => ?_
    rw [h i 0 hi, dt_ext m (A := mi_ A i) (B := mi_ B i) fun r c hr => ?_]
    show A (ms_i i r) (c + 1) = B (ms_i i r) (c + 1)
    refine h _ _ ?_
    unfold ms_i
    by_cases z : r < i
    · rw [if_pos z]; omega
    · rw [if_neg z]; omega
theorem dt_lin : ∀ (m : Nat) {r : Nat} {A B C : Nat → Nat → Rat} {x y : Rat}, r < m → (∀ i c, i ≠ r → A i c = C i c) → (∀ i c, i ≠ r → B i c = C i c) → (∀ c, C r c = x * A r c + y * B r c) → dt_ m C = x * dt_ m A + y * dt_ m B
  | 0, _, _, _, _, _, _, h, _, _, _ => by omega
  | m + 1, r, A, B, C, x, y, hr, hA, hB, hC => by
    simp only [dt_]
    refine sq_lin fun i hi => ?_
    rcases Classical.em (i = r) with e | e
    · subst e
      have q : ∀ s, ms_i i s ≠ i := fun s => by
        unfold ms_i
        by_cases z : s < i
        · rw [if_pos z]; omega
        · rw [if_neg z]; omega
      rw [hC 0, dt_ext m (A := mi_ C i) (B := mi_ A i) (fun s c _ => (hA _ _ (q s)).symm), dt_ext m (A := mi_ B i) (B := mi_ A i) (fun s c _ => (hB _ _ (q s)).trans (hA _ _ (q s)).symm)]
      grind
    · have ih : dt_ m (mi_ C i) = x * dt_ m (mi_ A i) + y * dt_ m (mi_ B i) := by
        have key : ∀ r', ms_i i r' = r → (∀ s, s ≠ r' → ms_i i s ≠ r) → r' < m → dt_ m (mi_ C i) = x * dt_ m (mi_ A i) + y * dt_ m (mi_ B i) := by
          intro r' e1 e2 lt
          refine dt_lin m (r := r') lt (fun s c ns => hA _ _ (e2 s ns)) (fun s c ns => hB _ _ (e2 s ns)) (fun c => ?_)
          show C (ms_i i r') (c + 1) = x * A (ms_i i r') (c + 1) + y * B (ms_i i r') (c + 1)
          rw [e1]; exact hC _
        rcases Nat.lt_or_ge r i with z | z
        · refine key r (ms_lt z) (fun s ns => ?_) (by omega)
          unfold ms_i
          by_cases w : s < i
          · rw [if_pos w]; omega
          · rw [if_neg w]; omega
        · refine key (r - 1) (by rw [ms_ge (by omega)]; omega) (fun s ns => ?_) (by omega)
          unfold ms_i
          by_cases w : s < i
          · rw [if_pos w]; omega
          · rw [if_neg w]; omega
      rw [ih, hA i 0 e, hB i 0 e]
      grind
theorem dt_adj : ∀ (m : Nat) {r : Nat} {A : Nat → Nat → Rat}, r + 1 < m → (∀ c, A r c = A (r + 1) c) → dt_ m A = 0
  | 0, _, _, h, _ => by omega
  | m + 1, r, A, hr, e => by
    simp only [dt_]
    rw [sq_two (a := r) (b := r + 1) (by omega) hr]
    · have q : dt_ m (mi_ A (r + 1)) = dt_ m (mi_ A r) := dt_ext m fun s c _ => by
        show A (ms_i (r + 1) s) (c + 1) = A (ms_i r s) (c + 1)
        rcases Nat.lt_or_ge s r with z | z
        · rw [ms_lt z, ms_lt (by omega)]
        · rcases Nat.lt_or_ge r s with w | w
          · rw [ms_ge (by omega), ms_ge (by omega)]
          · have f : s = r := by omega
            subst f
            rw [ms_lt (by omega), ms_ge (by omega)]; exact e _
      rw [q, ← e 0]
      simp only [sg_]; grind
    · intro k hk n1 n2
      have z : dt_ m (mi_ A k) = 0 := by
        rcases Nat.lt_or_ge k r with w | w
        · refine dt_adj m (r := r - 1) (by omega) fun c => ?_
          show A (ms_i k (r - 1)) (c + 1) = A (ms_i k (r - 1 + 1)) (c + 1)
          rw [ms_ge (by omega), ms_ge (by omega), show r - 1 + 1 = r by omega]; exact e _
        · refine dt_adj m (r := r) (by omega) fun c => ?_
          show A (ms_i k r) (c + 1) = A (ms_i k (r + 1)) (c + 1)
          rw [ms_lt (by omega), ms_lt (by omega)]; exact e _
      rw [z]; grind
/-- two rows put in -/
def r2_ (A : Nat → Nat → Rat) (s : Nat) (u v : Nat → Rat) : Nat → Nat → Rat := fun i c => if i = s then u c else if i = s + 1 then v c else A i c
theorem r2_a {A : Nat → Nat → Rat} {s : Nat} {u v : Nat → Rat} (c : Nat) : r2_ A s u v s c = u c := if_pos rfl
theorem r2_b {A : Nat → Nat → Rat} {s : Nat} {u v : Nat → Rat} (c : Nat) : r2_ A s u v (s + 1) c = v c := by
  unfold r2_; rw [if_neg (by omega), if_pos rfl]
theorem r2_o {A : Nat → Nat → Rat} {s i : Nat} {u v : Nat → Rat} (h1 : i ≠ s) (h2 : i ≠ s + 1) (c : Nat) : r2_ A s u v i c = A i c := by
  unfold r2_; rw [if_neg h1, if_neg h2]
theorem dt_swap {m s : Nat} (hs : s + 1 < m) (A : Nat → Nat → Rat) (u v : Nat → Rat) : dt_ m (r2_ A s u v) = - dt_ m (r2_ A s v u) := by
  have eq0 : ∀ w, dt_ m (r2_ A s w w) = 0 := fun w => dt_adj m hs fun c => by rw [r2_a, r2_b]
  have l1 : ∀ w, dt_ m (r2_ A s (fun c => 1 * u c + 1 * v c) w) = 1 * dt_ m (r2_ A s u w) + 1 * dt_ m (r2_ A s v w) := by
    intro w
    have key : ∀ a b i c, i ≠ s → r2_ A s a w i c = r2_ A s b w i c := by
      intro a b i c h
      unfold r2_; rw [if_neg h, if_neg h]
    exact dt_lin m (r := s) (by omega) (fun i c h => key _ _ i c h) (fun i c h => key _ _ i c h) (fun c => by rw [r2_a, r2_a, r2_a])
  have l2 : ∀ w, dt_ m (r2_ A s w (fun c => 1 * u c + 1 * v c)) = 1 * dt_ m (r2_ A s w u) + 1 * dt_ m (r2_ A s w v) := by
    intro w
    have key : ∀ a b i c, i ≠ s + 1 → r2_ A s w a i c = r2_ A s w b i c := by
      intro a b i c h
      unfold r2_
      by_cases z : i = s
      · rw [if_pos z, if_pos z]
      · rw [if_neg z, if_neg z, if_neg h, if_neg h]
    exact dt_lin m (r := s + 1) (by omega) (fun i c h => key _ _ i c h) (fun i c h => key _ _ i c h) (fun c => by rw [r2_b, r2_b, r2_b])
  have a := eq0 (fun c => 1 * u c + 1 * v c)
  rw [l1, l2, l2, eq0 u, eq0 v] at a
  grind
theorem dt_row0 {m : Nat} : ∀ {s : Nat} {A : Nat → Nat → Rat}, 1 ≤ s → s < m → (∀ c, A 0 c = A s c) → dt_ m A = 0
  | 0, _, h, _, _ => by omega
  | 1, A, _, hs, e => dt_adj m (r := 0) hs e
  | s + 2, A, _, hs, e => by
    have a : dt_ m A = dt_ m (r2_ A (s + 1) (A (s + 1)) (A (s + 2))) := dt_ext m fun i c _ => by
      rcases Classical.em (i = s + 1) with z | z
      · rw [z, r2_a]
      · rcases Classical.em (i = s + 2) with w | w
        · rw [w]; exact (r2_b (s := s + 1) c).symm
        · rw [r2_o z w]
    rw [a, dt_swap hs, dt_row0 (s := s + 1) (by omega) (by omega) (fun c => ?_)]
    · grind
    · rw [r2_a, r2_o (by omega) (by omega)]; exact e c
theorem dt_op {m s : Nat} {A C : Nat → Nat → Rat} {x : Rat} (s1 : 1 ≤ s) (hs : s < m) (ho : ∀ i c, i ≠ s → C i c = A i c) (hc : ∀ c, C s c = A s c + x * A 0 c) : dt_ m C = dt_ m A := by
  have l := dt_lin m (r := s) (A := A) (B := fun i c => if i = s then A 0 c else A i c) (C := C) (x := 1) (y := x) hs (fun i c h => (ho i c h).symm) (fun i c h => by rw [if_neg h]; exact (ho i c h).symm) (fun c => by rw [if_pos rfl, hc c]; grind)
  have z : dt_ m (fun i c => if i = s then A 0 c else A i c) = 0 := dt_row0 s1 hs fun c => by rw [if_neg (by omega), if_pos rfl]
  rw [l, z]; grind
/-- one step of elimination -/
def el_ (A : Nat → Nat → Rat) : Nat → Nat → Rat := fun r c => A (r + 1) (c + 1) - A (r + 1) 0 / A 0 0 * A 0 (c + 1)
theorem dt_el (m : Nat) (A : Nat → Nat → Rat) (h : A 0 0 ≠ 0) : dt_ (m + 1) A = A 0 0 * dt_ m (el_ A) := by
  have step : ∀ j, j ≤ m → dt_ (m + 1) (fun i c => if 1 ≤ i ∧ i ≤ j then A i c - A i 0 / A 0 0 * A 0 c else A i c) = dt_ (m + 1) A := by
    intro j
    induction j with
    | zero => intro _; exact dt_ext _ fun i c _ => by rw [if_neg (by omega)]
    | succ j ih =>
      intro hj
      rw [← ih (by omega)]
      refine dt_op (s := j + 1) (x := - (A (j + 1) 0 / A 0 0)) (by omega) (by omega) (fun i c ne => ?_) (fun c => ?_)
      · by_cases z : 1 ≤ i ∧ i ≤ j
        · rw [if_pos z, if_pos (by omega)]
        · rw [if_neg z, if_neg (by omega)]
      · rw [if_pos (by omega), if_neg (by omega), if_neg (by omega)]
        grind
  rw [← step m (Nat.le_refl _)]
  show sq_ _ (m + 1) = _
  rw [sq_one (a := 0) (by omega)]
  · dsimp only
    rw [if_neg (by omega), dt_ext m (B := el_ A) (fun r c hr => ?_)]
    · simp only [sg_]; grind
    · show (if 1 ≤ ms_i 0 r ∧ ms_i 0 r ≤ m then _ else _) = _
      rw [ms_ge (by omega), if_pos (by omega)]; rfl
  · intro k hk nk
    dsimp only
    rw [if_pos (by omega), show A k 0 - A k 0 / A 0 0 * A 0 0 = 0 by rw [Rat.div_mul_cancel h]; grind]
    grind
theorem dt_zrow {m r : Nat} {A : Nat → Nat → Rat} (hr : r < m) (h : ∀ c, A r c = 0) : dt_ m A = 0 := by
  rw [dt_lin m (r := r) (A := A) (B := A) (C := A) (x := 0) (y := 0) hr (fun _ _ _ => rfl) (fun _ _ _ => rfl) (fun c => by rw [h c]; grind)]
  grind
end
section
/-! ===== a matrix of a map: its determinant tells whether every point leads out ===== -/
def f1_ (v w c : Nat) : Rat := (if c = v then 1 else 0) - (if c = w then 1 else 0)
def ac_ (m : Nat) (t : Nat → Nat) : Prop := ∀ v, v < m → ∃ i, m ≤ up_ t i v
def sh_t (t : Nat → Nat) (r : Nat) : Nat := (if t (r + 1) = 0 then t 0 else t (r + 1)) - 1
theorem ac_a {m : Nat} {t : Nat → Nat} (h0 : t 0 ≠ 0) : ∀ N i x, i < N → 1 ≤ x → m + 1 ≤ up_ t i x → ∃ j, m ≤ up_ (sh_t t) j (x - 1) := by
  intro N
  induction N with
  | zero => intro i x h; omega
  | succ N ih =>
    intro i x hi x1 h
    cases i with
    | zero => exact ⟨0, by have h : m + 1 ≤ x := h; show m ≤ x - 1; omega⟩
    | succ i =>
      have h : m + 1 ≤ up_ t i (t x) := h
      have e : x - 1 + 1 = x := by omega
      rcases Classical.em (t x = 0) with z | z
      · rw [z] at h
        cases i with
        | zero => have h : m + 1 ≤ 0 := h; omega
        | succ i =>
          have h : m + 1 ≤ up_ t i (t 0) := h
          obtain ⟨j, hj⟩ := ih i (t 0) (by omega) (by omega) h
          refine ⟨j + 1, ?_⟩
          show m ≤ up_ (sh_t t) j (sh_t t (x - 1))
          rw [show sh_t t (x - 1) = t 0 - 1 by unfold sh_t; rw [e, if_pos z]]
          exact hj
      · obtain ⟨j, hj⟩ := ih i (t x) (by omega) (by omega) h
        refine ⟨j + 1, ?_⟩
        show m ≤ up_ (sh_t t) j (sh_t t (x - 1))
        rw [show sh_t t (x - 1) = t x - 1 by unfold sh_t; rw [e, if_neg z]]
        exact hj
theorem ac_b {m : Nat} {t : Nat → Nat} (h0 : t 0 ≠ 0) : ∀ j x, 1 ≤ x → m ≤ up_ (sh_t t) j (x - 1) → ∃ i, m + 1 ≤ up_ t i x := by
  intro j
  induction j with
  | zero => intro x x1 h; exact ⟨0, by have h : m ≤ x - 1 := h; show m + 1 ≤ x; omega⟩
  | succ j ih =>
    intro x x1 h
    have h : m ≤ up_ (sh_t t) j (sh_t t (x - 1)) := h
    have e : x - 1 + 1 = x := by omega
    rcases Classical.em (t x = 0) with z | z
    · rw [show sh_t t (x - 1) = t 0 - 1 by unfold sh_t; rw [e, if_pos z]] at h
      obtain ⟨i, hi⟩ := ih (t 0) (by omega) h
      exact ⟨i + 2, by show m + 1 ≤ up_ t i (t (t x)); rw [z]; exact hi⟩
    · rw [show sh_t t (x - 1) = t x - 1 by unfold sh_t; rw [e, if_neg z]] at h
      obtain ⟨i, hi⟩ := ih (t x) (by omega) h
      exact ⟨i + 1, hi⟩
theorem ac_s {m : Nat} {t : Nat → Nat} (h0 : t 0 ≠ 0) : ac_ (m + 1) t ↔ ac_ m (sh_t t) := by
  constructor
  · intro h v hv
    obtain ⟨i, hi⟩ := h (v + 1) (by omega)
    obtain ⟨j, hj⟩ := ac_a h0 (i + 1) i (v + 1) (by omega) (by omega) hi
    exact ⟨j, hj⟩
  · intro h
    have pos : ∀ x, 1 ≤ x → ∃ i, m + 1 ≤ up_ t i x := by
      intro x x1
      rcases Nat.lt_or_ge (x - 1) m with z | z
      · obtain ⟨j, hj⟩ := h (x - 1) z
        exact ac_b h0 j x x1 hj
      · exact ⟨0, by show m + 1 ≤ x; omega⟩
    intro v hv
    rcases Nat.eq_zero_or_pos v with z | z
    · subst z
      obtain ⟨i, hi⟩ := pos (t 0) (by omega)
      exact ⟨i + 1, hi⟩
    · exact pos v z
theorem ac_0 {m : Nat} {t : Nat → Nat} (h0 : t 0 = 0) : ¬ ac_ (m + 1) t := by
  intro h
  obtain ⟨i, hi⟩ := h 0 (by omega)
  have : ∀ i, up_ t i 0 = 0 := by
    intro i
    induction i with
    | zero => rfl
    | succ i ih => show up_ t i (t 0) = 0; rw [h0]; exact ih
  rw [this i] at hi; omega
theorem dt_fm : ∀ (m : Nat) (t : Nat → Nat), dt_ m (fun v c => f1_ v (t v) c) = ((ct_b (ac_ m t) : Nat) : Rat)
  | 0, t => by rw [ct_bt (P := ac_ 0 t) (fun v hv => by omega)]; rfl
  | m + 1, t => by
    rcases Classical.em (t 0 = 0) with z | z
    · rw [ct_bf (ac_0 z)]
      exact dt_zrow (r := 0) (by omega) fun c => by rw [z]; unfold f1_; grind
    · have p : f1_ 0 (t 0) 0 = 1 := by
        unfold f1_; rw [if_pos rfl, if_neg (fun e => z e.symm)]; grind
      rw [dt_el m _ (by rw [p]; decide)]
      rw [p, ct_biff (ac_s z), ← dt_fm m (sh_t t), dt_ext m (B := fun v c => f1_ v (sh_t t v) c) (fun r c _ => ?_)]
      · grind
      · show f1_ (r + 1) (t (r + 1)) (c + 1) - f1_ (r + 1) (t (r + 1)) 0 / f1_ 0 (t 0) 0 * f1_ 0 (t 0) (c + 1) = f1_ r (sh_t t r) c
        rw [p]
        unfold f1_ sh_t
        rw [if_neg (show ¬ 0 = r + 1 by omega), if_neg (show ¬ c + 1 = 0 by omega)]
        have e1 : (if c + 1 = r + 1 then (1 : Rat) else 0) = if c = r then 1 else 0 := by
          by_cases q : c = r
          · rw [if_pos q, if_pos (by omega)]
          · rw [if_neg q, if_neg (by omega)]
        rw [e1]
        rcases Classical.em (t (r + 1) = 0) with w | w
        · rw [if_pos w, if_pos w.symm, if_neg (show ¬ c + 1 = t (r + 1) by omega)]
          have e2 : (if c + 1 = t 0 then (1 : Rat) else 0) = if c = t 0 - 1 then 1 else 0 := by
            by_cases q : c + 1 = t 0
            · rw [if_pos q, if_pos (by omega)]
            · rw [if_neg q, if_neg (by omega)]
          rw [e2, Rat.div_def, Rat.inv_eq_of_mul_eq_one (show (1 : Rat) * 1 = 1 by grind)]
          grind
        · rw [if_neg w, if_neg (show ¬ 0 = t (r + 1) from fun e => w e.symm)]
          have e2 : (if c + 1 = t (r + 1) then (1 : Rat) else 0) = if c = t (r + 1) - 1 then 1 else 0 := by
            by_cases q : c + 1 = t (r + 1)
            · rw [if_pos q, if_pos (by omega)]
            · rw [if_neg q, if_neg (by omega)]
          rw [e2, Rat.div_def]
          grind
/-! ===== rows that are sums ===== -/
def rw_ (A : Nat → Nat → Rat) (r : Nat) (u : Nat → Rat) : Nat → Nat → Rat := fun i c => if i = r then u c else A i c
theorem dt_sum {m r : Nat} (hr : r < m) (A : Nat → Nat → Rat) (w : Nat → Rat) (u : Nat → Nat → Rat) : ∀ K, dt_ m (rw_ A r (fun c => sq_ (fun k => w k * u k c) K)) = sq_ (fun k => w k * dt_ m (rw_ A r (u k))) K
  | 0 => dt_zrow hr fun c => by unfold rw_; rw [if_pos rfl]; rfl
  | K + 1 => by
    have o : ∀ (x y : Nat → Rat) i c, i ≠ r → rw_ A r x i c = rw_ A r y i c := fun x y i c h => by unfold rw_; rw [if_neg h, if_neg h]
    have s : ∀ (x : Nat → Rat) c, rw_ A r x r c = x c := fun x c => if_pos rfl
    rw [dt_lin m (r := r) (A := rw_ A r (fun c => sq_ (fun k => w k * u k c) K)) (B := rw_ A r (u K)) (x := 1) (y := w K) hr (fun i c h => o _ _ i c h) (fun i c h => o _ _ i c h) (fun c => by rw [s, s, s]; simp only [sq_]; grind), dt_sum hr A w u K]
    simp only [sq_]; grind
/-! ===== the lines' matrix, and the maps that are counted ===== -/
noncomputable def la_ (P : Nat → Prop) (A B : Nat → Nat) (v c : Nat) : Rat := sq_ (fun k => ((ct_b (tc_ A B P k v) : Nat) : Rat) * f1_ v (oe_ A B k v) c) 16
noncomputable def nn_ (P : Nat → Prop) (A B : Nat → Nat) : Nat → Nat → (Nat → Nat) → Nat
  | 0, j, g => ct_b (ac_ j (fun v => oe_ A B (g v) v))
  | d + 1, j, g => sm_ (fun k => ct_b (tc_ A B P k j) * nn_ P A B d (j + 1) (fu_ g j k)) 16
theorem sq_sm (f : Nat → Nat) : ∀ N, sq_ (fun k => ((f k : Nat) : Rat)) N = ((sm_ f N : Nat) : Rat)
  | 0 => rfl
  | N + 1 => by simp only [sq_, sm_]; rw [sq_sm f N]; exact (Rat.natCast_add _ _).symm
theorem nn_dt {P : Nat → Prop} {A B : Nat → Nat} : ∀ (d j : Nat) (g : Nat → Nat), dt_ (j + d) (fun v c => if v < j then f1_ v (oe_ A B (g v) v) c else la_ P A B v c) = ((nn_ P A B d j g : Nat) : Rat)
  | 0, j, g => by
    rw [dt_ext (j + 0) (B := fun v c => f1_ v ((fun v => oe_ A B (g v) v) v) c) (fun r c hr => by rw [if_pos (by omega)]), dt_fm]
    rfl
  | d + 1, j, g => by
    have e : dt_ (j + (d + 1)) (fun v c => if v < j then f1_ v (oe_ A B (g v) v) c else la_ P A B v c) = dt_ (j + (d + 1)) (rw_ (fun v c => if v < j then f1_ v (oe_ A B (g v) v) c else la_ P A B v c) j (fun c => sq_ (fun k => ((ct_b (tc_ A B P k j) : Nat) : Rat) * f1_ j (oe_ A B k j) c) 16)) := dt_ext _ fun r c _ => by
      unfold rw_
      by_cases z : r = j
      · rw [if_pos z, if_neg (by omega), z]; rfl
      · rw [if_neg z]
    rw [e, dt_sum (by omega)]
    show _ = ((sm_ _ 16 : Nat) : Rat)
    rw [← sq_sm]
    refine sq_eq fun k _ => ?_
    have ih := nn_dt (P := P) (A := A) (B := B) d (j + 1) (fu_ g j k)
    rw [Rat.natCast_mul, ← ih, show j + (d + 1) = j + 1 + d by omega]
    congr 1
    refine dt_ext _ fun r c _ => ?_
    unfold rw_
    by_cases z : r = j
    · subst z
      rw [if_pos rfl, if_pos (by omega), fu_s]
    · rw [if_neg z]
      dsimp only
      by_cases w : r < j
      · rw [if_pos w, if_pos (by omega), fu_n z]
      · rw [if_neg w, if_neg (by omega)]
theorem nn_la (P : Nat → Prop) (A B : Nat → Nat) (m : Nat) : dt_ m (la_ P A B) = ((nn_ P A B m 0 (fun _ => 0) : Nat) : Rat) := by
  have := nn_dt (P := P) (A := A) (B := B) m 0 (fun _ => 0)
  rw [Nat.zero_add] at this
  rw [← this]
  exact dt_ext _ fun r c _ => by rw [if_neg (by omega)]
/-! ===== codes of maps ===== -/
theorem ct_split (P : Nat → Prop) (N : Nat) : ∀ M, ct_n P (N + M) = ct_n P N + ct_n (fun i => P (N + i)) M
  | 0 => rfl
  | M + 1 => by
    show ct_n P (N + M) + ct_b (P (N + M)) = _
    rw [ct_split P N M]
    simp only [ct_n]; omega
theorem ct_prod {Q : Nat → Nat → Prop} {M : Nat} (hM : 0 < M) : ∀ K, ct_n (fun c => Q (c / M) (c % M)) (K * M) = sm_ (fun k => ct_n (Q k) M) K
  | 0 => by rw [Nat.zero_mul]; rfl
  | K + 1 => by
    rw [Nat.succ_mul, ct_split, ct_prod hM K]
    simp only [sm_]
    congr 1
    refine ct_eq fun i hi => ?_
    rw [Nat.mul_comm K M, Nat.mul_add_div hM, Nat.div_eq_of_lt hi, Nat.mul_add_mod, Nat.mod_eq_of_lt hi, Nat.add_zero]
def gd_ : Nat → Nat → (Nat → Nat) → Nat → Nat → Nat
  | 0, _, g, _ => g
  | d + 1, j, g, c => gd_ d (j + 1) (fu_ g j (c / 16 ^ d)) (c % 16 ^ d)
def ok_ (P : Nat → Prop) (A B : Nat → Nat) : Nat → Nat → (Nat → Nat) → Nat → Prop
  | 0, j, g, _ => ac_ j (fun v => oe_ A B (g v) v)
  | d + 1, j, g, c => tc_ A B P (c / 16 ^ d) j ∧ ok_ P A B d (j + 1) (fu_ g j (c / 16 ^ d)) (c % 16 ^ d)
theorem p16 (d : Nat) : 0 < 16 ^ d := Nat.pow_pos (by decide)
theorem nn_ct {P : Nat → Prop} {A B : Nat → Nat} : ∀ (d j : Nat) (g : Nat → Nat), nn_ P A B d j g = ct_n (ok_ P A B d j g) (16 ^ d)
  | 0, j, g => by
    show ct_b _ = 0 + ct_b (ok_ P A B 0 j g 0)
    rw [Nat.zero_add]; rfl
  | d + 1, j, g => by
    show sm_ _ 16 = ct_n (fun c => tc_ A B P (c / 16 ^ d) j ∧ ok_ P A B d (j + 1) (fu_ g j (c / 16 ^ d)) (c % 16 ^ d)) (16 ^ (d + 1))
    rw [Nat.pow_succ, Nat.mul_comm, ct_prod (Q := fun k c => tc_ A B P k j ∧ ok_ P A B d (j + 1) (fu_ g j k) c) (p16 d)]
    refine sm_eq fun k _ => ?_
    rw [nn_ct d (j + 1)]
    rcases Classical.em (tc_ A B P k j) with z | z
    · rw [ct_bt z, Nat.one_mul]
      exact ct_eq fun c _ => ⟨fun q => ⟨z, q⟩, fun q => q.2⟩
    · rw [ct_bf z, Nat.zero_mul, ct_zero (fun c _ q => z q.1)]
theorem gd_lo : ∀ (d j : Nat) (g : Nat → Nat) (c v : Nat), v < j → gd_ d j g c v = g v
  | 0, _, _, _, _, _ => rfl
  | d + 1, j, g, c, v, h => by
    show gd_ d (j + 1) (fu_ g j (c / 16 ^ d)) (c % 16 ^ d) v = g v
    rw [gd_lo d (j + 1) _ _ v (by omega), fu_n (by omega)]
theorem ok_gd {P : Nat → Prop} {A B : Nat → Nat} : ∀ (d j : Nat) (g : Nat → Nat) (c : Nat), ok_ P A B d j g c ↔ (∀ v, j ≤ v → v < j + d → tc_ A B P (gd_ d j g c v) v) ∧ ac_ (j + d) (fun v => oe_ A B (gd_ d j g c v) v)
  | 0, j, g, c => ⟨fun h => ⟨fun v h1 h2 => by omega, h⟩, fun h => h.2⟩
  | d + 1, j, g, c => by
    show (tc_ A B P (c / 16 ^ d) j ∧ ok_ P A B d (j + 1) (fu_ g j (c / 16 ^ d)) (c % 16 ^ d)) ↔ _
    rw [ok_gd d (j + 1), show j + (d + 1) = j + 1 + d by omega]
    have e : gd_ (d + 1) j g c j = c / 16 ^ d := by
      show gd_ d (j + 1) (fu_ g j (c / 16 ^ d)) (c % 16 ^ d) j = _
      rw [gd_lo d (j + 1) _ _ j (by omega), fu_s]
    constructor
    · rintro ⟨a, b, c'⟩
      refine ⟨fun v h1 h2 => ?_, c'⟩
      rcases Classical.em (v = j) with z | z
      · subst z; rw [e]; exact a
      · exact b v (by omega) h2
    · rintro ⟨a, c'⟩
      exact ⟨by have := a j (Nat.le_refl _) (by omega); rw [e] at this; exact this, fun v h1 h2 => a v (by omega) h2, c'⟩
theorem gd_inj : ∀ (d j : Nat) (g : Nat → Nat) (c c' : Nat), c < 16 ^ d → c' < 16 ^ d → (∀ v, j ≤ v → v < j + d → gd_ d j g c v = gd_ d j g c' v) → c = c'
  | 0, j, g, c, c', h, h', _ => by
    rw [Nat.pow_zero] at h h'; omega
  | d + 1, j, g, c, c', h, h', e => by
    have top : ∀ c, gd_ (d + 1) j g c j = c / 16 ^ d := fun c => by
      show gd_ d (j + 1) (fu_ g j (c / 16 ^ d)) (c % 16 ^ d) j = _
      rw [gd_lo d (j + 1) _ _ j (by omega), fu_s]
    have a := e j (Nat.le_refl _) (by omega)
    rw [top, top] at a
    have b := gd_inj d (j + 1) (fu_ g j (c / 16 ^ d)) (c % 16 ^ d) (c' % 16 ^ d) (Nat.mod_lt _ (p16 d)) (Nat.mod_lt _ (p16 d)) (fun v h1 h2 => by
      have := e v (by omega) (by omega)
      show gd_ d (j + 1) (fu_ g j (c / 16 ^ d)) (c % 16 ^ d) v = gd_ d (j + 1) (fu_ g j (c / 16 ^ d)) (c' % 16 ^ d) v
      have t : gd_ d (j + 1) (fu_ g j (c / 16 ^ d)) (c % 16 ^ d) v = gd_ d (j + 1) (fu_ g j (c' / 16 ^ d)) (c' % 16 ^ d) v := this
      rw [t, a])
    rw [← Nat.div_add_mod c (16 ^ d), ← Nat.div_add_mod c' (16 ^ d), a, b]
theorem gd_sur : ∀ (d j : Nat) (g h : Nat → Nat), (∀ v, j ≤ v → v < j + d → h v < 16) → ∃ c, c < 16 ^ d ∧ ∀ v, j ≤ v → v < j + d → gd_ d j g c v = h v
  | 0, j, g, h, _ => ⟨0, by decide, fun v h1 h2 => by omega⟩
  | d + 1, j, g, h, hh => by
    obtain ⟨c, hc, e⟩ := gd_sur d (j + 1) (fu_ g j (h j)) h (fun v h1 h2 => hh v (by omega) (by omega))
    have hj := hh j (Nat.le_refl _) (by omega)
    have q : (h j * 16 ^ d + c) / 16 ^ d = h j := by
      rw [Nat.mul_comm, Nat.mul_add_div (p16 d), Nat.div_eq_of_lt hc, Nat.add_zero]
    have r : (h j * 16 ^ d + c) % 16 ^ d = c := by
      rw [Nat.mul_comm, Nat.mul_add_mod, Nat.mod_eq_of_lt hc]
    refine ⟨h j * 16 ^ d + c, ?_, fun v h1 h2 => ?_⟩
    · have : (h j + 1) * 16 ^ d ≤ 16 * 16 ^ d := Nat.mul_le_mul_right _ (by omega)
      rw [Nat.succ_mul] at this
      rw [Nat.pow_succ, Nat.mul_comm (16 ^ d) 16]; omega
    · show gd_ d (j + 1) (fu_ g j ((h j * 16 ^ d + c) / 16 ^ d)) ((h j * 16 ^ d + c) % 16 ^ d) v = h v
      rw [q, r]
      rcases Classical.em (v = j) with z | z
      · subst z; rw [gd_lo d (v + 1) _ _ v (by omega), fu_s]
      · exact e v (by omega) (by omega)
end
section
/-! ===== trees of lines and maps that lead to the last point ===== -/
def ts_ (n : Nat) (P : Nat → Prop) (A B : Nat → Nat) (s : Nat) : Prop := (∀ k, s.testBit k = true → P k) ∧ ct_n (fun k => s.testBit k = true) 16 = n - 1 ∧ ∀ v, v < n → gc A B (fun k => s.testBit k = true) (fun x => x < n) 0 v
def gv_ (P : Nat → Prop) (A B : Nat → Nat) (m : Nat) (g : Nat → Nat) : Prop := (∀ v, v < m → tc_ A B P (g v) v) ∧ ac_ m (fun v => oe_ A B (g v) v)
def im_ (g : Nat → Nat) (m k : Nat) : Prop := ∃ v, v < m ∧ g v = k
theorem ct_true : ∀ N, ct_n (fun _ => True) N = N
  | 0 => rfl
  | N + 1 => by simp only [ct_n]; rw [ct_true N, ct_bt trivial]
theorem ac_ext {m : Nat} {t t' : Nat → Nat} (e : ∀ v, v < m → t v = t' v) (h : ac_ m t) : ac_ m t' := by
  have key : ∀ i v, m ≤ up_ t i v → ∃ j, m ≤ up_ t' j v := by
    intro i
    induction i with
    | zero => intro v h; exact ⟨0, h⟩
    | succ i ih =>
      intro v h
      rcases Nat.lt_or_ge v m with z | z
      · have h : m ≤ up_ t i (t v) := h
        rw [e v z] at h
        obtain ⟨j, hj⟩ := ih _ h
        exact ⟨j + 1, hj⟩
      · exact ⟨0, z⟩
  intro v hv
  obtain ⟨i, hi⟩ := h v hv
  exact key i v hi
section
variable {n m : Nat} {P : Nat → Prop} {A B g g' : Nat → Nat}
theorem oe_n (hg : gr_ n P A B) {k v : Nat} (h : tc_ A B P k v) : v < n ∧ oe_ A B k v < n ∧ oe_ A B k v ≠ v := by
  have q := hg.2 k h.1
  rcases oe_jn h with ⟨e1, e2⟩ | ⟨e1, e2⟩
  · rw [← e2, ← e1]; exact ⟨q.2.1, q.2.2.1, fun e => q.2.2.2 e.symm⟩
  · rw [← e1, ← e2]; exact ⟨q.2.2.1, q.2.1, q.2.2.2⟩
theorem tc_two (hg : gr_ n P A B) {k v w : Nat} (hv : tc_ A B P k v) (hw : tc_ A B P k w) (ne : w ≠ v) : oe_ A B k v = w := by
  refine oe_of (hg.2 k hv.1).2.2.2 ?_
  rcases hv.2 with a | a
  · rcases hw.2 with b | b
    · exact absurd (b.symm.trans a) ne
    · exact Or.inl ⟨a, b⟩
  · rcases hw.2 with b | b
    · exact Or.inr ⟨b, a⟩
    · exact absurd (b.symm.trans a) ne
theorem gv_inj (hg : gr_ n P A B) (h : gv_ P A B m g) {v w : Nat} (hv : v < m) (hw : w < m) (e : g v = g w) : v = w := by
  apply Classical.byContradiction
  intro ne
  have a : oe_ A B (g v) v = w := tc_two hg (h.1 v hv) (e ▸ h.1 w hw) (fun q => ne q.symm)
  have b : oe_ A B (g w) w = v := tc_two hg (h.1 w hw) (e ▸ h.1 v hv) ne
  have stay : ∀ i, (up_ (fun v => oe_ A B (g v) v) i v = v ∨ up_ (fun v => oe_ A B (g v) v) i v = w) := by
    have both : ∀ i, (up_ (fun v => oe_ A B (g v) v) i v = v ∨ up_ (fun v => oe_ A B (g v) v) i v = w) ∧ (up_ (fun v => oe_ A B (g v) v) i w = v ∨ up_ (fun v => oe_ A B (g v) v) i w = w) := by
      intro i
      induction i with
      | zero => exact ⟨Or.inl rfl, Or.inr rfl⟩
      | succ i ih =>
        refine ⟨?_, ?_⟩
        · show up_ _ i (oe_ A B (g v) v) = v ∨ up_ _ i (oe_ A B (g v) v) = w
          rw [a]; exact ih.2
        · show up_ _ i (oe_ A B (g w) w) = v ∨ up_ _ i (oe_ A B (g w) w) = w
          rw [b]; exact ih.1
    exact fun i => (both i).1
  obtain ⟨i, hi⟩ := h.2 v hv
  rcases stay i with q | q <;> omega
theorem gv_ct (hg : gr_ n P A B) (h : gv_ P A B m g) : ct_n (im_ g m) 16 = m := by
  apply Nat.le_antisymm
  · have := ct_rel (Q := im_ g m) (R := fun _ => True) (M := m) (m := 16) (F := fun k v => g v = k) (fun k _ ⟨v, hv, e⟩ => ⟨v, hv, trivial, e⟩) (fun k k' i _ _ _ _ e e' => e.symm.trans e')
    rw [ct_true] at this; exact this
  · have := ct_rel (Q := fun v => v < m) (R := im_ g m) (M := 16) (m := m) (F := fun v k => g v = k) (fun v hv _ => ⟨g v, (hg.2 _ (h.1 v hv).1).1, ⟨v, hv, rfl⟩, rfl⟩) (fun v v' i hv hv' _ _ e e' => gv_inj hg h hv hv' (e.trans e'.symm))
    rw [ct_eq (Q := fun _ => True) (fun v hv => ⟨fun _ => trivial, fun _ => hv⟩), ct_true] at this; exact this
theorem gv_con (hg : gr_ n P A B) (hm : n = m + 1) (h : gv_ P A B m g) {L : Nat → Prop} (hL : ∀ k, im_ g m k → L k) : ∀ v, v < n → gc A B L (fun x => x < n) v m := by
  have key : ∀ i v, v < n → m ≤ up_ (fun v => oe_ A B (g v) v) i v → gc A B L (fun x => x < n) v m := by
    intro i
    induction i with
    | zero =>
      intro v hv h
      have h : m ≤ v := h
      have e : v = m := by omega
      rw [e]; exact gc_r _
    | succ i ih =>
      intro v hv q
      rcases Nat.lt_or_ge v m with z | z
      · have t := h.1 v z
        have o := oe_n hg t
        exact gc_t (jn_gc (hL _ ⟨v, z, rfl⟩) hv o.2.1 (oe_jn t)) (ih _ o.2.1 q)
      · have e : v = m := by omega
        rw [e]; exact gc_r _
  intro v hv
  rcases Nat.lt_or_ge v m with z | z
  · obtain ⟨i, hi⟩ := h.2 v z
    exact key i v hv hi
  · have e : v = m := by omega
    rw [e]; exact gc_r _
/-- a map that leads out gives a tree -/
theorem gv_ts (hg : gr_ n P A B) (hm : n = m + 1) (h : gv_ P A B m g) : ts_ n P A B (mk_n (im_ g m) 16) := by
  have k16 : ∀ k, im_ g m k → k < 16 := fun k ⟨v, hv, e⟩ => e ▸ (hg.2 _ (h.1 v hv).1).1
  have e : (fun k => (mk_n (im_ g m) 16).testBit k = true) = im_ g m := funext fun k => propext ((mk_nb _ 16 k).trans ⟨fun z => z.2, fun z => ⟨k16 k z, z⟩⟩)
  refine ⟨fun k z => ?_, by rw [e, gv_ct hg h]; omega, fun v hv => ?_⟩
  · obtain ⟨_, v, hv, q⟩ := (mk_nb _ 16 k).mp z
    exact q ▸ (h.1 v hv).1
  · rw [e]
    exact gc_t (gv_con hg hm h (fun k z => z) 0 (by omega)) (gc_s (gv_con hg hm h (fun k z => z) v hv))
/-- every tree comes of such a map -/
theorem ts_gv (hg : gr_ n P A B) (hm : n = m + 1) {s : Nat} (h : ts_ n P A B s) : ∃ g, gv_ P A B m g ∧ ∀ k, im_ g m k ↔ s.testBit k = true := by
  have mn : m < n := by omega
  have con : ∀ v, v < n → gc A B (fun k => s.testBit k = true) (fun x => x < n) m v := fun v hv => gc_t (gc_s (h.2.2 m mn)) (h.2.2 v hv)
  have pick : ∀ v, ∃ k, v < m → (s.testBit k = true ∧ tc_ A B P k v ∧ ∃ r, bl_ A B (fun k => s.testBit k = true) (fun x => x < n) m r (oe_ A B k v) ∧ ∀ q, q ≤ r → ¬ bl_ A B (fun k => s.testBit k = true) (fun x => x < n) m q v) := by
    intro v
    rcases Nat.lt_or_ge v m with z | z
    · obtain ⟨r, hr, lr⟩ := pk_least _ ((bl_gc mn v).mpr (con v (by omega)))
      cases r with
      | zero => have hr : v = m := hr; omega
      | succ r =>
        obtain ⟨vn, w | ⟨k, lk, ⟨w, e⟩ | ⟨w, e⟩⟩⟩ := hr
        · exact absurd w (lr r (by omega))
        · have pk := h.1 k lk
          refine ⟨k, fun _ => ⟨lk, ⟨pk, Or.inr e.symm⟩, r, ?_, fun q hq => lr q (by omega)⟩⟩
          rw [oe_of (hg.2 k pk).2.2.2 (Or.inr ⟨rfl, e.symm⟩)]; exact w
        · have pk := h.1 k lk
          refine ⟨k, fun _ => ⟨lk, ⟨pk, Or.inl e.symm⟩, r, ?_, fun q hq => lr q (by omega)⟩⟩
          rw [oe_of (hg.2 k pk).2.2.2 (Or.inl ⟨e.symm, rfl⟩)]; exact w
    · exact ⟨0, fun q => by omega⟩
  obtain ⟨g, hgv⟩ : ∃ g : Nat → Nat, ∀ v, v < m → (s.testBit (g v) = true ∧ tc_ A B P (g v) v ∧ ∃ r, bl_ A B (fun k => s.testBit k = true) (fun x => x < n) m r (oe_ A B (g v) v) ∧ ∀ q, q ≤ r → ¬ bl_ A B (fun k => s.testBit k = true) (fun x => x < n) m q v) := ⟨fun v => (pick v).choose, fun v => (pick v).choose_spec⟩
  have V : gv_ P A B m g := by
    refine ⟨fun v hv => (hgv v hv).2.1, fun v hv => ?_⟩
    have key : ∀ N r v, r < N → v < n → bl_ A B (fun k => s.testBit k = true) (fun x => x < n) m r v → ∃ i, m ≤ up_ (fun v => oe_ A B (g v) v) i v := by
      intro N
      induction N with
      | zero => intro r v h; omega
      | succ N ih =>
        intro r v hr hv b
        rcases Nat.lt_or_ge v m with z | z
        · obtain ⟨_, t, r', b', nb⟩ := hgv v z
          have lt : r' < r := Nat.lt_of_not_le fun q => nb r q b
          obtain ⟨i, hi⟩ := ih r' _ (by omega) (oe_n hg t).2.1 b'
          exact ⟨i + 1, hi⟩
        · exact ⟨0, z⟩
    obtain ⟨r, hr⟩ := (bl_gc mn v).mpr (con v (by omega))
    exact key (r + 1) r v (by omega) (by omega) hr
  refine ⟨g, V, fun k => ⟨fun ⟨v, hv, e⟩ => e ▸ (hgv v hv).1, fun z => ?_⟩⟩
  apply Classical.byContradiction
  intro no
  have := ct_lt (P := im_ g m) (Q := fun k => s.testBit k = true) no z (N := 16) (fun k _ ⟨v, hv, e⟩ => e ▸ (hgv v hv).1) (hg.2 k (h.1 k z)).1
  rw [gv_ct hg V, h.2.1] at this
  omega
/-- and of one only -/
theorem gv_uq (hg : gr_ n P A B) (h : gv_ P A B m g) (h' : gv_ P A B m g') (e : ∀ k, im_ g m k ↔ im_ g' m k) : ∀ v, v < m → g v = g' v := by
  have key : ∀ i v, v < m → g v ≠ g' v → up_ (fun v => oe_ A B (g v) v) i v < m := by
    intro i
    induction i with
    | zero => intro v hv _; exact hv
    | succ i ih =>
      intro v hv ne
      obtain ⟨w, hw, q⟩ := (e (g v)).mp ⟨v, hv, rfl⟩
      have wv : w ≠ v := fun z => ne (by rw [← z, q, z])
      have o : oe_ A B (g v) v = w := tc_two hg (h.1 v hv) (q ▸ h'.1 w hw) wv
      show up_ _ i (oe_ A B (g v) v) < m
      rw [o]
      refine ih w hw fun z => wv ?_
      exact gv_inj hg h hw hv (z.trans q)
  intro v hv
  apply Classical.byContradiction
  intro ne
  obtain ⟨i, hi⟩ := h.2 v hv
  have := key i v hv ne
  omega
theorem ok_gv (c : Nat) : ok_ P A B m 0 (fun _ => 0) c ↔ gv_ P A B m (gd_ m 0 (fun _ => 0) c) := by
  rw [ok_gd, Nat.zero_add]
  exact ⟨fun z => ⟨fun v hv => z.1 v (by omega) (by omega), z.2⟩, fun z => ⟨fun v _ hv => z.1 v (by omega), z.2⟩⟩
theorem gv_code (hg : gr_ n P A B) (h : gv_ P A B m g) : ∃ c, c < 16 ^ m ∧ ok_ P A B m 0 (fun _ => 0) c ∧ ∀ v, v < m → gd_ m 0 (fun _ => 0) c v = g v := by
  obtain ⟨c, hc, e⟩ := gd_sur m 0 (fun _ => 0) g (fun v _ hv => (hg.2 _ (h.1 v (by omega)).1).1)
  have e' : ∀ v, v < m → gd_ m 0 (fun _ => 0) c v = g v := fun v hv => e v (by omega) (by omega)
  refine ⟨c, hc, (ok_gv c).mpr ⟨fun v hv => by rw [e' v hv]; exact h.1 v hv, ac_ext (fun v hv => by rw [e' v hv]) h.2⟩, e'⟩
theorem tree_ct (hg : gr_ n P A B) (hm : n = m + 1) : ct_n (ok_ P A B m 0 (fun _ => 0)) (16 ^ m) = ct_n (ts_ n P A B) 65536 := by
  apply Nat.le_antisymm
  · refine ct_rel (F := fun c s => s = mk_n (im_ (gd_ m 0 (fun _ => 0) c) m) 16) (fun c hc q => ⟨_, mk_nlt _ 16, gv_ts hg hm ((ok_gv c).mp q), rfl⟩) (fun c c' s hc hc' q q' e e' => ?_)
    have V := (ok_gv c).mp q
    have V' := (ok_gv c').mp q'
    refine gd_inj m 0 (fun _ => 0) c c' hc hc' (fun v _ hv => gv_uq hg V V' (fun k => ?_) v (by omega))
    have b : ∀ {g}, gv_ P A B m g → (im_ g m k ↔ (mk_n (im_ g m) 16).testBit k = true) := fun {g} V => ((mk_nb _ 16 k).trans ⟨fun z => z.2, fun z => ⟨by obtain ⟨v, hv, e⟩ := z; exact e ▸ (hg.2 _ (V.1 v hv).1).1, z⟩⟩).symm
    rw [b V, b V', ← e, ← e']
  · refine ct_rel (F := fun s c => ∀ k, im_ (gd_ m 0 (fun _ => 0) c) m k ↔ s.testBit k = true) (fun s hs q => ?_) (fun s s' c hs hs' q q' e e' => ?_)
    · obtain ⟨g, V, im⟩ := ts_gv hg hm q
      obtain ⟨c, hc, ok, e⟩ := gv_code hg V
      refine ⟨c, hc, ok, fun k => ?_⟩
      rw [← im k]
      exact ⟨fun ⟨v, hv, z⟩ => ⟨v, hv, by rw [← e v hv]; exact z⟩, fun ⟨v, hv, z⟩ => ⟨v, hv, by rw [e v hv]; exact z⟩⟩
    · apply Nat.eq_of_testBit_eq
      intro k
      have := (e k).symm.trans (e' k)
      cases a : s.testBit k <;> cases b : s'.testBit k <;> simp_all
/-- with a tree every leading determinant counts something -/
theorem ts_lead (hg : gr_ n P A B) (hm : n = m + 1) {s : Nat} (h : ts_ n P A B s) {c : Nat} (hc : c ≤ m) : 1 ≤ nn_ P A B c 0 (fun _ => 0) := by
  obtain ⟨g, V, _⟩ := ts_gv hg hm h
  have V' : gv_ P A B c g := ⟨fun v hv => V.1 v (by omega), fun v hv => by obtain ⟨i, hi⟩ := V.2 v (by omega); exact ⟨i, by omega⟩⟩
  obtain ⟨x, hx, ok, _⟩ := gv_code hg V'
  rw [nn_ct]
  exact ct_pos ok hx
end
end
section
/-! ===== elimination in whole numbers ===== -/
theorem dt_extc : ∀ (m : Nat) {A B : Nat → Nat → Rat}, (∀ r c, r < m → c < m → A r c = B r c) → dt_ m A = dt_ m B
  | 0, _, _, _ => rfl
  | m + 1, A, B, h => by
    simp only [dt_]
    refine sq_eq fun i hi => ?_
    rw [h i 0 hi (by omega), dt_extc m (A := mi_ A i) (B := mi_ B i) fun r c hr hc => ?_]
    show A (ms_i i r) (c + 1) = B (ms_i i r) (c + 1)
    refine h _ _ ?_ (by omega)
    unfold ms_i
    by_cases z : r < i
    · rw [if_pos z]; omega
    · rw [if_neg z]; omega
def es_ : Nat → (Nat → Nat → Rat) → Nat → Nat → Rat
  | 0, A => A
  | c + 1, A => es_ c (el_ A)
def dd_ : Nat → (Nat → Nat → Rat) → Rat
  | 0, _ => 1
  | c + 1, A => A 0 0 * dd_ c (el_ A)
theorem es_s : ∀ (c : Nat) (A : Nat → Nat → Rat), es_ (c + 1) A = el_ (es_ c A)
  | 0, _ => rfl
  | c + 1, A => es_s c (el_ A)
theorem dd_s : ∀ (c : Nat) (A : Nat → Nat → Rat), dd_ (c + 1) A = dd_ c A * es_ c A 0 0
  | 0, A => by show A 0 0 * 1 = 1 * A 0 0; grind
  | c + 1, A => by
    show A 0 0 * dd_ (c + 1) (el_ A) = A 0 0 * dd_ c (el_ A) * es_ c (el_ A) 0 0
    rw [dd_s c (el_ A)]; grind
def bx_ (c i r : Nat) : Nat := if r < c then r else i
def bd_ (A : Nat → Nat → Rat) (c i j : Nat) : Nat → Nat → Rat := fun r s => A (bx_ c i r) (bx_ c j s)
theorem bm_ : ∀ (c : Nat) (A : Nat → Nat → Rat) (i j : Nat), (∀ k, k < c → es_ k A 0 0 ≠ 0) → c ≤ i → c ≤ j → dt_ (c + 1) (bd_ A c i j) = dd_ c A * es_ c A (i - c) (j - c)
  | 0, A, i, j, _, _, _ => by
    show 0 + 1 * A i j * 1 = 1 * A i j
    grind
  | c + 1, A, i, j, h, hi, hj => by
    have a0 : bd_ A (c + 1) i j 0 0 = A 0 0 := by
      unfold bd_ bx_; rw [if_pos (by omega), if_pos (by omega)]
    have p := h 0 (by omega)
    rw [dt_el _ _ (by rw [a0]; exact p), a0, dt_ext (c + 1) (B := bd_ (el_ A) c (i - 1) (j - 1)) (fun r s hr => ?_)]
    · rw [bm_ c (el_ A) (i - 1) (j - 1) (fun k hk => h (k + 1) (by omega)) (by omega) (by omega)]
      rw [show i - 1 - c = i - (c + 1) by omega, show j - 1 - c = j - (c + 1) by omega]
      show _ = A 0 0 * dd_ c (el_ A) * es_ c (el_ A) (i - (c + 1)) (j - (c + 1))
      grind
    · have e1 : ∀ k x, 1 ≤ k → bx_ (c + 1) k (x + 1) = bx_ c (k - 1) x + 1 := by
        intro k x hk
        unfold bx_
        by_cases z : x < c
        · rw [if_pos z, if_pos (by omega)]
        · rw [if_neg z, if_neg (by omega)]; omega
      have e0 : ∀ k, bx_ (c + 1) k 0 = 0 := fun k => by unfold bx_; rw [if_pos (by omega)]
      show bd_ A (c + 1) i j (r + 1) (s + 1) - bd_ A (c + 1) i j (r + 1) 0 / bd_ A (c + 1) i j 0 0 * bd_ A (c + 1) i j 0 (s + 1) = el_ A (bx_ c (i - 1) r) (bx_ c (j - 1) s)
      unfold bd_ el_
      rw [e1 i r (by omega), e1 j s (by omega), e0, e0]
/-! whole numbers -/
def sz_ (f : Nat → Int) : Nat → Int
  | 0 => 0
  | k + 1 => sz_ f k + f k
def sgz : Nat → Int
  | 0 => 1
  | k + 1 => - sgz k
def miz (A : Nat → Nat → Int) (i : Nat) : Nat → Nat → Int := fun r c => A (ms_i i r) (c + 1)
def dz_ : Nat → (Nat → Nat → Int) → Int
  | 0, _ => 1
  | m + 1, A => sz_ (fun i => sgz i * A i 0 * dz_ m (miz A i)) (m + 1)
theorem sz_q (f : Nat → Int) : ∀ N, ((sz_ f N : Int) : Rat) = sq_ (fun k => ((f k : Int) : Rat)) N
  | 0 => rfl
  | N + 1 => by simp only [sz_, sq_]; rw [Rat.intCast_add, sz_q f N]
theorem sgz_q : ∀ k, ((sgz k : Int) : Rat) = sg_ k
  | 0 => rfl
  | k + 1 => by simp only [sgz, sg_]; rw [Rat.intCast_neg, sgz_q k]
theorem dz_q : ∀ (m : Nat) (A : Nat → Nat → Int), ((dz_ m A : Int) : Rat) = dt_ m (fun r c => ((A r c : Int) : Rat))
  | 0, _ => rfl
  | m + 1, A => by
    simp only [dz_, dt_]
    rw [sz_q]
    refine sq_eq fun i _ => ?_
    rw [Rat.intCast_mul, Rat.intCast_mul, sgz_q, dz_q m (miz A i)]
    rfl
theorem sgz_a : ∀ k, (sgz k).natAbs = 1
  | 0 => rfl
  | k + 1 => by simp only [sgz]; rw [Int.natAbs_neg, sgz_a k]
theorem sz_a (f : Nat → Int) : ∀ N, (sz_ f N).natAbs ≤ sm_ (fun k => (f k).natAbs) N
  | 0 => Nat.le_refl _
  | N + 1 => by
    have a := sz_a f N
    have b := Int.natAbs_add_le (sz_ f N) (f N)
    simp only [sz_, sm_]; omega
theorem sm_mul (f : Nat → Nat) (K : Nat) : ∀ N, sm_ (fun k => f k * K) N = sm_ f N * K
  | 0 => by show 0 = 0 * K; rw [Nat.zero_mul]
  | N + 1 => by simp only [sm_]; rw [sm_mul f K N, Nat.add_mul]
theorem sm_skip (f : Nat → Nat) (i : Nat) : ∀ m, i ≤ m → sm_ (fun r => f (ms_i i r)) m ≤ sm_ f (m + 1)
  | 0, _ => Nat.zero_le _
  | m + 1, h => by
    rcases Nat.lt_or_ge m i with z | z
    · have e : sm_ (fun r => f (ms_i i r)) (m + 1) = sm_ f (m + 1) := sm_eq fun k hk => by rw [ms_lt (by omega)]
      rw [e]
      show sm_ f (m + 1) ≤ sm_ f (m + 1) + f (m + 1)
      omega
    · have ih := sm_skip f i m z
      show sm_ (fun r => f (ms_i i r)) m + f (ms_i i m) ≤ sm_ f (m + 1) + f (m + 1)
      rw [ms_ge (by omega)]; omega
theorem dz_le {K : Nat} : ∀ (m : Nat) (A : Nat → Nat → Int), (∀ s, s < m → sm_ (fun r => (A r s).natAbs) m ≤ K) → (dz_ m A).natAbs ≤ K ^ m
  | 0, _, _ => Nat.le_refl _
  | m + 1, A, h => by
    have a : (dz_ (m + 1) A).natAbs ≤ sm_ (fun i => (A i 0).natAbs * K ^ m) (m + 1) := by
      refine Nat.le_trans (sz_a _ _) (sm_le fun i hi => ?_)
      rw [Int.natAbs_mul, Int.natAbs_mul, sgz_a, Nat.one_mul]
      refine Nat.mul_le_mul_left _ (dz_le m _ fun s hs => ?_)
      exact Nat.le_trans (sm_skip (fun r => (A r (s + 1)).natAbs) i m (by omega)) (h (s + 1) (by omega))
    rw [sm_mul] at a
    have b := h 0 (by omega)
    refine Nat.le_trans a ?_
    rw [Nat.pow_succ, Nat.mul_comm (K ^ m) K]
    exact Nat.mul_le_mul_right _ b
/-- the numbers that elimination goes through -/
def zz_ (L : Nat → Nat → Int) (c i j : Nat) : Int := dz_ (c + 1) (fun r s => L (bx_ c i r) (bx_ c j s))
def zd_ (L : Nat → Nat → Int) : Nat → Int
  | 0 => 1
  | c + 1 => zz_ L c c c
section
variable {L : Nat → Nat → Int}
theorem zz_q (c i j : Nat) : ((zz_ L c i j : Int) : Rat) = dt_ (c + 1) (bd_ (fun r s => ((L r s : Int) : Rat)) c i j) := dz_q _ _
theorem cast0 {z : Int} (h : z ≠ 0) : ((z : Int) : Rat) ≠ 0 := fun e => h (Rat.intCast_inj.mp e)
theorem zz_pv (c : Nat) (h : ∀ k, k < c → zz_ L k k k ≠ 0) : (∀ k, k < c → es_ k (fun r s => ((L r s : Int) : Rat)) 0 0 ≠ 0) ∧ ∀ k, k ≤ c → ((zd_ L k : Int) : Rat) = dd_ k (fun r s => ((L r s : Int) : Rat)) := by
  induction c with
  | zero =>
    refine ⟨fun k hk => by omega, fun k hk => ?_⟩
    have e : k = 0 := by omega
    subst e; rfl
  | succ c ih =>
    obtain ⟨a, b⟩ := ih (fun k hk => h k (by omega))
    have m := bm_ c _ c c a (Nat.le_refl _) (Nat.le_refl _)
    rw [← zz_q, Nat.sub_self] at m
    refine ⟨fun k hk => ?_, fun k hk => ?_⟩
    · rcases Nat.lt_or_ge k c with z | z
      · exact a k z
      · have e : k = c := by omega
        subst e
        intro w
        rw [w] at m
        exact cast0 (h k (by omega)) (by rw [m]; grind)
    · rcases Nat.lt_or_ge c k with z | z
      · have e : k = c + 1 := by omega
        subst e
        rw [dd_s]
        exact m
      · exact b k (by omega)
theorem zz_step {c i j : Nat} (h : ∀ k, k < c + 1 → zz_ L k k k ≠ 0) (hi : c + 1 ≤ i) (hj : c + 1 ≤ j) : zz_ L c i j * zz_ L c c c - zz_ L c i c * zz_ L c c j = zz_ L (c + 1) i j * zd_ L c := by
  obtain ⟨p, d⟩ := zz_pv (c + 1) h
  have pc : ∀ k, k < c → es_ k (fun r s => ((L r s : Int) : Rat)) 0 0 ≠ 0 := fun k hk => p k (by omega)
  have e := p c (by omega)
  have m1 := bm_ c _ i j pc (by omega) (by omega)
  have m2 := bm_ c _ c c pc (by omega) (by omega)
  have m3 := bm_ c _ i c pc (by omega) (by omega)
  have m4 := bm_ c _ c j pc (by omega) (by omega)
  have m5 := bm_ (c + 1) _ i j p hi hj
  rw [← zz_q] at m1 m2 m3 m4 m5
  rw [Nat.sub_self] at m2 m3 m4
  rw [dd_s, es_s] at m5
  have m6 := d c (by omega)
  have f : el_ (es_ c (fun r s => ((L r s : Int) : Rat))) (i - (c + 1)) (j - (c + 1)) = es_ c (fun r s => ((L r s : Int) : Rat)) (i - c) (j - c) - es_ c (fun r s => ((L r s : Int) : Rat)) (i - c) 0 / es_ c (fun r s => ((L r s : Int) : Rat)) 0 0 * es_ c (fun r s => ((L r s : Int) : Rat)) 0 (j - c) := by
    unfold el_
    rw [show i - (c + 1) + 1 = i - c by omega, show j - (c + 1) + 1 = j - c by omega]
  rw [f] at m5
  apply Rat.intCast_inj.mp
  rw [Rat.intCast_sub, Rat.intCast_mul, Rat.intCast_mul, Rat.intCast_mul, m1, m2, m3, m4, m5, m6]
  generalize es_ c (fun r s => ((L r s : Int) : Rat)) 0 0 = x at *
  generalize es_ c (fun r s => ((L r s : Int) : Rat)) (i - c) (j - c) = y
  generalize es_ c (fun r s => ((L r s : Int) : Rat)) (i - c) 0 = u
  generalize es_ c (fun r s => ((L r s : Int) : Rat)) 0 (j - c) = v
  generalize dd_ c (fun r s => ((L r s : Int) : Rat)) = D
  have q : u / x * x = u := Rat.div_mul_cancel e
  generalize u / x = w at q ⊢
  subst q
  grind
theorem zz_col (c i : Nat) (hi : c ≤ i) : zz_ L c i c * zz_ L c c c - zz_ L c i c * zz_ L c c c = 0 := by omega
end
end
section
/-! ===== the lines' matrix in whole numbers ===== -/
noncomputable def lz_ (P : Nat → Prop) (A B : Nat → Nat) (i j : Nat) : Int := ((if j = i then ct_n (fun k => tc_ A B P k i) 16 else 0 : Nat) : Int) - ((ct_n (fun k => tc_ A B P k i ∧ j = oe_ A B k i) 16 : Nat) : Int)
theorem la_part (P : Nat → Prop) (A B : Nat → Nat) (v c : Nat) : ∀ K, sq_ (fun k => ((ct_b (tc_ A B P k v) : Nat) : Rat) * f1_ v (oe_ A B k v) c) K = (if c = v then 1 else 0) * ((ct_n (fun k => tc_ A B P k v) K : Nat) : Rat) - ((ct_n (fun k => tc_ A B P k v ∧ c = oe_ A B k v) K : Nat) : Rat)
  | 0 => by
    show (0 : Rat) = _ * ((0 : Nat) : Rat) - ((0 : Nat) : Rat)
    grind
  | K + 1 => by
    have ih := la_part P A B v c K
    simp only [sq_, ct_n]
    rw [ih, Rat.natCast_add, Rat.natCast_add]
    rcases Classical.em (tc_ A B P K v) with z | z
    · rw [ct_bt z]
      unfold f1_
      rcases Classical.em (c = oe_ A B K v) with w | w
      · rw [ct_bt (P := tc_ A B P K v ∧ c = oe_ A B K v) ⟨z, w⟩, if_pos w]; grind
      · rw [ct_bf (P := tc_ A B P K v ∧ c = oe_ A B K v) (fun q => w q.2), if_neg w]; grind
    · rw [ct_bf z, ct_bf (P := tc_ A B P K v ∧ c = oe_ A B K v) (fun q => z q.1)]; grind
theorem la_lz (P : Nat → Prop) (A B : Nat → Nat) (i j : Nat) : la_ P A B i j = ((lz_ P A B i j : Int) : Rat) := by
  unfold la_ lz_
  rw [la_part, Rat.intCast_sub, Rat.intCast_natCast, Rat.intCast_natCast]
  by_cases z : j = i
  · rw [if_pos z, if_pos z]; grind
  · rw [if_neg z, if_neg z]; grind
theorem lz_lead (P : Nat → Prop) (A B : Nat → Nat) : ∀ c, zd_ (lz_ P A B) c = ((nn_ P A B c 0 (fun _ => 0) : Nat) : Int)
  | 0 => by
    have := nn_la P A B 0
    apply Rat.intCast_inj.mp
    rw [Rat.intCast_natCast, ← this]; rfl
  | c + 1 => by
    apply Rat.intCast_inj.mp
    rw [Rat.intCast_natCast, ← nn_la P A B (c + 1)]
    show ((zz_ (lz_ P A B) c c c : Int) : Rat) = _
    rw [zz_q]
    refine dt_extc _ fun r s hr hs => ?_
    unfold bd_ bx_
    rw [la_lz]
    by_cases z : r < c
    · rw [if_pos z]
      by_cases w : s < c
      · rw [if_pos w]
      · rw [if_neg w, show s = c by omega]
    · rw [if_neg z, show r = c by omega]
      by_cases w : s < c
      · rw [if_pos w]
      · rw [if_neg w, show s = c by omega]
theorem sm_disj {Q : Nat → Nat → Prop} {M : Nat} : ∀ {N : Nat}, (∀ r r' k, Q r k → Q r' k → r = r') → sm_ (fun r => ct_n (Q r) M) N = ct_n (fun k => ∃ r, r < N ∧ Q r k) M
  | 0, _ => by
    rw [ct_zero (fun k _ => by rintro ⟨r, h, _⟩; omega)]; rfl
  | N + 1, h => by
    simp only [sm_]
    rw [sm_disj h, ← ct_or (fun k _ ⟨r, hr, q⟩ w => by have := h r N k q w; omega)]
    refine ct_eq fun k _ => ⟨?_, ?_⟩
    · rintro (⟨r, hr, q⟩ | q)
      · exact ⟨r, by omega, q⟩
      · exact ⟨N, by omega, q⟩
    · rintro ⟨r, hr, q⟩
      rcases Nat.lt_or_ge r N with z | z
      · exact Or.inl ⟨r, z, q⟩
      · have e : r = N := by omega
        subst e; exact Or.inr q
theorem sm_add (f g : Nat → Nat) : ∀ N, sm_ (fun k => f k + g k) N = sm_ f N + sm_ g N
  | 0 => rfl
  | N + 1 => by simp only [sm_]; rw [sm_add f g N]; omega
theorem sm_pick (f : Nat → Nat) (s : Nat) : ∀ N, sm_ (fun r => if s = r then f r else 0) N ≤ f s
  | 0 => Nat.zero_le _
  | N + 1 => by
    have ih := sm_pick f s N
    simp only [sm_]
    by_cases z : s = N
    · rw [if_pos z]
      have e : sm_ (fun r => if s = r then f r else 0) N = sm_ (fun _ => 0) N := sm_eq fun k hk => if_neg (by omega)
      have e0 : ∀ N, sm_ (fun _ => 0) N = 0 := by
        intro N
        induction N with
        | zero => rfl
        | succ N ih => simp only [sm_]; rw [ih]
      rw [e, e0, z]; omega
    · rw [if_neg z]; exact ih
theorem sm_part (f : Nat → Nat) {c i : Nat} (h : c ≤ i) : ∀ {n}, i < n → sm_ f c + f i ≤ sm_ f n
  | 0, h => by omega
  | n + 1, hn => by
    simp only [sm_]
    rcases Nat.lt_or_ge i n with z | z
    · have := sm_part f h z; omega
    · have e : i = n := by omega
      subst e
      have mono : ∀ a b, a ≤ b → sm_ f a ≤ sm_ f b := by
        intro a b hab
        induction b with
        | zero => have e : a = 0 := by omega
                  rw [e]; exact Nat.le_refl _
        | succ b ih =>
          rcases Nat.lt_or_ge b a with w | w
          · have e : a = b + 1 := by omega
            rw [e]; exact Nat.le_refl _
          · have := ih w
            simp only [sm_]; omega
      have := mono c i h
      omega
section
variable {n : Nat} {P : Nat → Prop} {A B : Nat → Nat}
theorem lz_col (hg : gr_ n P A B) (s : Nat) : sm_ (fun r => (lz_ P A B r s).natAbs) n ≤ 32 := by
  have le : ∀ r, (lz_ P A B r s).natAbs ≤ (if s = r then ct_n (fun k => tc_ A B P k r) 16 else 0) + ct_n (fun k => tc_ A B P k r ∧ s = oe_ A B k r) 16 := by
    intro r
    unfold lz_
    omega
  have a := sm_le (N := n) (fun r _ => le r)
  rw [sm_add, sm_disj (Q := fun r k => tc_ A B P k r ∧ s = oe_ A B k r)] at a
  · have b := sm_pick (fun r => ct_n (fun k => tc_ A B P k r) 16) s n
    have c := ct_le (fun k => tc_ A B P k s) 16
    have d := ct_le (fun k => ∃ r, r < n ∧ tc_ A B P k r ∧ s = oe_ A B k r) 16
    omega
  · rintro r r' k ⟨t, e⟩ ⟨t', e'⟩
    apply Classical.byContradiction
    intro ne
    have o := tc_two hg t t' (fun q => ne q.symm)
    have o' := (oe_n hg t').2.2
    rw [← e'] at o'
    rw [← e] at o
    exact o' o
theorem zz_le (hg : gr_ n P A B) {c i j : Nat} (hi : c ≤ i) (hin : i < n) : (zz_ (lz_ P A B) c i j).natAbs ≤ 32 ^ (c + 1) := by
  refine dz_le (c + 1) _ fun s hs => ?_
  have e : sm_ (fun r => (lz_ P A B (bx_ c i r) (bx_ c j s)).natAbs) (c + 1) = sm_ (fun r => (lz_ P A B r (bx_ c j s)).natAbs) c + (lz_ P A B i (bx_ c j s)).natAbs := by
    simp only [sm_]
    rw [sm_eq (g := fun r => (lz_ P A B r (bx_ c j s)).natAbs) (fun k hk => by unfold bx_; rw [if_pos hk])]
    congr 1
    unfold bx_
    rw [if_neg (by omega)]
  rw [e]
  exact Nat.le_trans (sm_part (fun r => (lz_ P A B r (bx_ c j s)).natAbs) hi hin) (lz_col hg _)
/-- the entries, by the lines between points -/
theorem lz_off (hg : gr_ n P A B) {i j : Nat} (ne : j ≠ i) (h8 : j < 8) : lz_ P A B i j = -((bw_ P A B 16 (i * 8 + j) : Nat) : Int) := by
  unfold lz_ bw_
  rw [if_neg ne, show (i * 8 + j) / 8 = i by omega, show (i * 8 + j) % 8 = j by omega]
  rw [ct_eq (P := fun k => tc_ A B P k i ∧ j = oe_ A B k i) (Q := fun k => P k ∧ jn_ A B k i j) (fun k _ => ⟨fun ⟨t, e⟩ => ⟨t.1, e ▸ oe_jn t⟩, fun ⟨p, q⟩ => ⟨jn_tc p q, (oe_of (hg.2 k p).2.2.2 q).symm⟩⟩)]
  omega
theorem lz_diag (hg : gr_ n P A B) (i : Nat) : lz_ P A B i i = ((sm_ (fun j => bw_ P A B 16 (i * 8 + j)) n : Nat) : Int) := by
  have n8 := hg.1.2
  have e : sm_ (fun j => bw_ P A B 16 (i * 8 + j)) n = ct_n (fun k => tc_ A B P k i) 16 := by
    rw [sm_eq (g := fun j => ct_n (fun k => P k ∧ jn_ A B k i j) 16) (fun j hj => by unfold bw_; rw [show (i * 8 + j) / 8 = i by omega, show (i * 8 + j) % 8 = j by omega]), sm_disj (Q := fun j k => P k ∧ jn_ A B k i j)]
    · refine ct_eq fun k _ => ⟨fun ⟨j, _, p, q⟩ => jn_tc p q, fun t => ⟨_, (oe_n hg t).2.1, t.1, oe_jn t⟩⟩
    · rintro r r' k ⟨p, q⟩ ⟨_, q'⟩
      rw [← oe_of (hg.2 k p).2.2.2 q, ← oe_of (hg.2 k p).2.2.2 q']
  unfold lz_
  rw [if_pos rfl, e, ct_zero (P := fun k => tc_ A B P k i ∧ i = oe_ A B k i) (fun k _ z => (oe_n hg z.1).2.2 z.2.symm)]
  omega
theorem lz_deg (hg : gr_ n P A B) (i : Nat) : sm_ (fun j => bw_ P A B 16 (i * 8 + j)) n ≤ 16 := by
  have a := lz_diag hg i
  unfold lz_ at a
  rw [if_pos rfl] at a
  have := ct_le (fun k => tc_ A B P k i) 16
  omega
end
end
section
/-! ===== the component's determinant ===== -/
theorem li_n : ∀ d, d < 17 → (nI d).toInt64 = Int64.ofInt (d : Int) := by decide +kernel
theorem li_m : ∀ d, d < 17 → (-(nI d)).toInt64 = Int64.ofInt (-(d : Int)) := by decide +kernel
theorem li_0 {z : Int} (h : z.natAbs < 2 ^ 62) : Int64.ofInt z = 0 ↔ z = 0 := by
  constructor
  · intro e
    have : (Int64.ofInt z).toInt = (0 : Int64).toInt := by rw [e]
    rw [Int64.toInt_ofInt_of_le (by omega) (by omega)] at this
    rw [this]; decide
  · intro e; rw [e]; decide
theorem li_div {q d : Int} (hd : d ≠ 0) (h1 : (q * d).natAbs < 2 ^ 62) (h2 : d.natAbs < 2 ^ 62) : Int64.ofInt (q * d) / Int64.ofInt d = Int64.ofInt q := by
  have a1 : Int64.minValue.toInt = -2 ^ 63 := by decide
  have a2 : Int64.maxValue.toInt = 2 ^ 63 - 1 := by decide
  rw [← Int64.ofInt_tdiv (by rw [a1]; omega) (by rw [a2]; omega) (by rw [a1]; omega) (by rw [a2]; omega), Int.mul_tdiv_cancel _ hd]
theorem li_sq {a b c d : Int} {K : Nat} (ha : a.natAbs ≤ K) (hb : b.natAbs ≤ K) (hc : c.natAbs ≤ K) (hd : d.natAbs ≤ K) : (a * b - c * d).natAbs ≤ 2 * (K * K) := by
  have e1 : (a * b).natAbs ≤ K * K := by rw [Int.natAbs_mul]; exact Nat.mul_le_mul ha hb
  have e2 : (c * d).natAbs ≤ K * K := by rw [Int.natAbs_mul]; exact Nat.mul_le_mul hc hd
  omega
theorem zz_0 (L : Nat → Nat → Int) (i j : Nat) : zz_ L 0 i j = L i j := by
  show 0 + 1 * L i j * 1 = L i j
  omega
theorem p32 {c : Nat} (h : c ≤ 5) : 32 ^ (c + 1) ≤ 1073741824 := Nat.le_trans (Nat.pow_le_pow_right (by decide) (show c + 1 ≤ 6 by omega)) (by decide)
section
variable {n : Nat} {P : Nat → Prop} {A B : Nat → Nat}
variable {f_present : Int32} {f_groupCount : Int32} {f_bridgeSet : Int32} {f_hingeSet : Int32} {f_walked : Int32} {a_endA : Nat → Int32} {a_endB : Nat → Int32} {a_number : Nat → Int32} {a_walkPoint : Nat → Int32} {a_parent : Nat → Int32} {a_parentLine : Nat → Int32} {a_lowest : Nat → Int32} {a_nextLine : Nat → Int32} {a_stack : Nat → Int32} {a_marked : Nat → Int32} {a_pointRoot : Nat → Int32} {a_lineRoot : Nat → Int32} {a_between : Nat → Int32} {a_melted : Nat → Int32} {a_pull : Nat → Int32} {a_left : Nat → Int32} {a_cameFrom : Nat → Int32} {a_queue : Nat → Int32} {a_dist : Nat → Int32}
theorem xj_56 (hX : xg_ n P A B f_present a_endA a_endB) (hw : rp_n 64 (bw_ P A B 16) a_between) {m i : Nat} (hm : n = m + 1) (im : i < m) {post : SX → Prop} {J : Int32 → (Nat → Int32) → (Nat → Int32) → (Nat → Int32) → (Nat → Int32) → (Nat → Int32) → (Nat → Int32) → (Nat → Int32) → (Nat → Int32) → (Nat → Int32) → (Nat → Int32) → (Nat → Int32) → (Nat → Int32) → (Nat → Int32) → (Nat → Int32) → (Nat → Int32) → (Nat → Int32) → (Nat → Int32) → (Nat → Int32) → (Nat → Int64) → (Nat → Int32) → Prop}
    (h : ∀ a_matrix, (∀ r s, r < i + 1 → s < m → a_matrix (r * 7 + s) = Int64.ofInt (lz_ P A B r s)) → J (nI (i + 1)) a_endA a_endB a_number a_walkPoint a_parent a_parentLine a_lowest a_nextLine a_stack a_marked a_pointRoot a_lineRoot a_between a_melted a_pull a_left a_cameFrom a_queue a_matrix a_dist) :
    ∀ d j a_matrix, j + d = m → (∀ r s, r < i → s < m → a_matrix (r * 7 + s) = Int64.ofInt (lz_ P A B r s)) → (∀ s, s < j → a_matrix (i * 7 + s) = Int64.ofInt (lz_ P A B i s)) → wX_layMatrix_56 post J (nI m) (nI i) (nI (sm_ (fun j => bw_ P A B 16 (i * 8 + j)) n)) (nI n) f_present f_groupCount f_bridgeSet f_hingeSet f_walked (d + 1) (nI j) a_endA a_endB a_number a_walkPoint a_parent a_parentLine a_lowest a_nextLine a_stack a_marked a_pointRoot a_lineRoot a_between a_melted a_pull a_left a_cameFrom a_queue a_matrix a_dist
  | 0, j, a_matrix, hj, H1, H2 => by
    have n8 := hX.1.1.2
    have e : j = m := by omega
    subst e
    refine br_t (nI_le (Nat.le_refl _) (by omega)) (nm_r (nI_1 i) (h _ fun r s hr hs => ?_))
    rcases Nat.lt_or_ge r i with z | z
    · exact H1 r s z hs
    · have e : r = i := by omega
      subst e; exact H2 s hs
  | d + 1, j, a_matrix, hj, H1, H2 => by
    have n8 := hX.1.1.2
    have jm : j < m := by omega
    have i7 : vp_in (nI i * 7 + nI j) 49 := by rw [ix_7]; exact vp_in_nI (by omega) (by decide)
    have i8 : vp_in (nI i * 8 + nI j) 64 := by rw [ix_8]; exact vp_in_nI (by omega) (by decide)
    have C : (nI i * 7 + nI j).toNatClampNeg = i * 7 + j := by rw [ix_7]; exact nI_clamp (by omega)
    have go : ∀ x, x = Int64.ofInt (lz_ P A B i j) → wX_layMatrix_56 post J (nI m) (nI i) (nI (sm_ (fun j => bw_ P A B 16 (i * 8 + j)) n)) (nI n) f_present f_groupCount f_bridgeSet f_hingeSet f_walked (d + 1) (nI (j + 1)) a_endA a_endB a_number a_walkPoint a_parent a_parentLine a_lowest a_nextLine a_stack a_marked a_pointRoot a_lineRoot a_between a_melted a_pull a_left a_cameFrom a_queue (vp_updL a_matrix (i * 7 + j) x) a_dist := by
      intro x hx
      refine xj_56 hX hw hm im h d (j + 1) _ (by omega) (fun r s hr hs => ?_) (fun s hs => ?_)
      · rw [pk_uLn (by omega)]; exact H1 r s hr hs
      · rcases Classical.em (s = j) with z | z
        · subst z; rw [pk_uLs]; exact hx
        · rw [pk_uLn (by omega)]; exact H2 s (by omega)
    have dg := lz_deg hX.1 i
    have bl : bw_ P A B 16 (i * 8 + j) ≤ 16 := ct_le _ _
    refine br_f (nI_ge jm (by omega)) (pk_eq i j (fun e => ⟨i7, nm_r (e' := vp_updL a_matrix (i * 7 + j) (Int64.ofInt (lz_ P A B i j))) ?_ (nm_r (nI_1 j) (go _ rfl))⟩) (fun e => ⟨i8, i7, nm_r (e' := vp_updL a_matrix (i * 7 + j) (Int64.ofInt (lz_ P A B i j))) ?_ (nm_r (nI_1 j) (go _ rfl))⟩))
    · rw [C, li_n _ (by omega), ← e, lz_diag hX.1]
    · rw [C, ix_8, nI_clamp (show i * 8 + j < 2 ^ 31 by omega), hw _ (by omega), li_m _ (by omega), lz_off hX.1 (fun q => e q.symm) (by omega)]
end
section
variable {n : Nat} {P : Nat → Prop} {A B : Nat → Nat}
variable {f_present : Int32} {f_groupCount : Int32} {f_bridgeSet : Int32} {f_hingeSet : Int32} {f_walked : Int32} {a_endA : Nat → Int32} {a_endB : Nat → Int32} {a_number : Nat → Int32} {a_walkPoint : Nat → Int32} {a_parent : Nat → Int32} {a_parentLine : Nat → Int32} {a_lowest : Nat → Int32} {a_nextLine : Nat → Int32} {a_stack : Nat → Int32} {a_marked : Nat → Int32} {a_pointRoot : Nat → Int32} {a_lineRoot : Nat → Int32} {a_between : Nat → Int32} {a_melted : Nat → Int32} {a_pull : Nat → Int32} {a_left : Nat → Int32} {a_cameFrom : Nat → Int32} {a_queue : Nat → Int32} {a_matrix : Nat → Int64} {a_dist : Nat → Int32}
theorem xj_23 (hX : xg_ n P A B f_present a_endA a_endB) (hw : rp_n 64 (bw_ P A B 16) a_between) {m i : Nat} (hm : n = m + 1) (im : i < m) {post : SX → Prop} {J : Int32 → (Nat → Int32) → (Nat → Int32) → (Nat → Int32) → (Nat → Int32) → (Nat → Int32) → (Nat → Int32) → (Nat → Int32) → (Nat → Int32) → (Nat → Int32) → (Nat → Int32) → (Nat → Int32) → (Nat → Int32) → (Nat → Int32) → (Nat → Int32) → (Nat → Int32) → (Nat → Int32) → (Nat → Int32) → (Nat → Int32) → (Nat → Int64) → (Nat → Int32) → Prop}
    (H1 : ∀ r s, r < i → s < m → a_matrix (r * 7 + s) = Int64.ofInt (lz_ P A B r s))
    (h : ∀ a_matrix, (∀ r s, r < i + 1 → s < m → a_matrix (r * 7 + s) = Int64.ofInt (lz_ P A B r s)) → J (nI (i + 1)) a_endA a_endB a_number a_walkPoint a_parent a_parentLine a_lowest a_nextLine a_stack a_marked a_pointRoot a_lineRoot a_between a_melted a_pull a_left a_cameFrom a_queue a_matrix a_dist) :
    ∀ d j, j + d = n → wX_layMatrix_23 post J (nI m) (nI i) (nI n) f_present f_groupCount f_bridgeSet f_hingeSet f_walked a_endA a_endB a_number a_walkPoint a_parent a_parentLine a_lowest a_nextLine a_stack a_marked a_pointRoot a_lineRoot a_between a_melted a_pull a_left a_cameFrom a_queue a_matrix a_dist (d + 1) (nI (sm_ (fun j => bw_ P A B 16 (i * 8 + j)) j)) (nI j)
  | 0, j, hj => by
    have n8 := hX.1.1.2
    have e : j = n := by omega
    subst e
    exact br_t (nI_le (Nat.le_refl _) (by omega)) ⟨m + 1, xj_56 hX hw hm im h m 0 _ (by omega) H1 (fun s hs => absurd hs (by omega))⟩
  | d + 1, j, hj => by
    have n8 := hX.1.1.2
    have jn : j < n := by omega
    have i8 : vp_in (nI i * 8 + nI j) 64 := by rw [ix_8]; exact vp_in_nI (by omega) (by decide)
    refine br_f (nI_ge jn (by omega)) ⟨i8, nm_r (e' := nI (sm_ (fun j => bw_ P A B 16 (i * 8 + j)) (j + 1))) ?_ (nm_r (nI_1 j) (xj_23 hX hw hm im H1 h d (j + 1) (by omega)))⟩
    rw [ix_8, nI_clamp (show i * 8 + j < 2 ^ 31 by omega), hw _ (by omega), nI_add]; rfl
end
section
variable {n : Nat} {P : Nat → Prop} {A B : Nat → Nat}
variable {f_present : Int32} {f_groupCount : Int32} {f_bridgeSet : Int32} {f_hingeSet : Int32} {f_walked : Int32} {a_endA : Nat → Int32} {a_endB : Nat → Int32} {a_number : Nat → Int32} {a_walkPoint : Nat → Int32} {a_parent : Nat → Int32} {a_parentLine : Nat → Int32} {a_lowest : Nat → Int32} {a_nextLine : Nat → Int32} {a_stack : Nat → Int32} {a_marked : Nat → Int32} {a_pointRoot : Nat → Int32} {a_lineRoot : Nat → Int32} {a_between : Nat → Int32} {a_melted : Nat → Int32} {a_pull : Nat → Int32} {a_left : Nat → Int32} {a_cameFrom : Nat → Int32} {a_queue : Nat → Int32} {a_dist : Nat → Int32}
theorem xj_13 (hX : xg_ n P A B f_present a_endA a_endB) (hw : rp_n 64 (bw_ P A B 16) a_between) {m : Nat} (hm : n = m + 1) {post : SX → Prop}
    (h : ∀ a_matrix, (∀ r s, r < m → s < m → a_matrix (r * 7 + s) = Int64.ofInt (lz_ P A B r s)) → post (nI n, f_present, f_groupCount, f_bridgeSet, f_hingeSet, f_walked, a_endA, a_endB, a_number, a_walkPoint, a_parent, a_parentLine, a_lowest, a_nextLine, a_stack, a_marked, a_pointRoot, a_lineRoot, a_between, a_melted, a_pull, a_left, a_cameFrom, a_queue, a_matrix, a_dist)) :
    ∀ d i a_matrix, i + d = m → (∀ r s, r < i → s < m → a_matrix (r * 7 + s) = Int64.ofInt (lz_ P A B r s)) → wX_layMatrix_13 post (nI m) (nI n) f_present f_groupCount f_bridgeSet f_hingeSet f_walked (d + 1) (nI i) a_endA a_endB a_number a_walkPoint a_parent a_parentLine a_lowest a_nextLine a_stack a_marked a_pointRoot a_lineRoot a_between a_melted a_pull a_left a_cameFrom a_queue a_matrix a_dist
  | 0, i, a_matrix, hi, H1 => by
    have n8 := hX.1.1.2
    have e : i = m := by omega
    subst e
    exact br_t (nI_le (Nat.le_refl _) (by omega)) (h _ H1)
  | d + 1, i, a_matrix, hi, H1 => by
    have n8 := hX.1.1.2
    exact br_f (nI_ge (b := m) (by omega) (by omega)) ⟨n + 1, xj_23 hX hw hm (by omega) H1 (fun a_matrix H => xj_13 hX hw hm h d (i + 1) _ (by omega) H) n 0 (by omega)⟩
/-- the entry (r, s) is done when rows are worked on up to (i, j) -/
def xd_o (c i j r s : Nat) : Prop := c < r ∧ (r < i ∨ (r = i ∧ s < j))
def xd_M (L : Nat → Nat → Int) (m c i j : Nat) (a : Nat → Int64) : Prop := ∀ r s, c ≤ r → r < m → c ≤ s → s < m → (xd_o c i j r s → c < s → a (r * 7 + s) = Int64.ofInt (zz_ L (c + 1) r s)) ∧ (¬ xd_o c i j r s → a (r * 7 + s) = Int64.ofInt (zz_ L c r s))
theorem xj_50 (hX : xg_ n P A B f_present a_endA a_endB) {m c i : Nat} (hm : n = m + 1) (ci : c < i) (im : i < m) (hp : ∀ k, k < c + 1 → zz_ (lz_ P A B) k k k ≠ 0) (zd0 : zd_ (lz_ P A B) c ≠ 0) (zdb : (zd_ (lz_ P A B) c).natAbs < 2 ^ 62) {post : SX → Prop} {J : Int32 → (Nat → Int32) → (Nat → Int32) → (Nat → Int32) → (Nat → Int32) → (Nat → Int32) → (Nat → Int32) → (Nat → Int32) → (Nat → Int32) → (Nat → Int32) → (Nat → Int32) → (Nat → Int32) → (Nat → Int32) → (Nat → Int32) → (Nat → Int32) → (Nat → Int32) → (Nat → Int32) → (Nat → Int32) → (Nat → Int32) → (Nat → Int64) → (Nat → Int32) → Prop}
    (h : ∀ a_matrix, xd_M (lz_ P A B) m c (i + 1) c a_matrix → J (nI (i + 1)) a_endA a_endB a_number a_walkPoint a_parent a_parentLine a_lowest a_nextLine a_stack a_marked a_pointRoot a_lineRoot a_between a_melted a_pull a_left a_cameFrom a_queue a_matrix a_dist) :
    ∀ d j a_matrix, j + d = m → c ≤ j → xd_M (lz_ P A B) m c i j a_matrix → wX_clearColumn_50 post J (nI c) (Int64.ofInt (zd_ (lz_ P A B) c)) (nI m) (Int64.ofInt (zz_ (lz_ P A B) c c c)) (nI i) (Int64.ofInt (zz_ (lz_ P A B) c i c)) (nI n) f_present f_groupCount f_bridgeSet f_hingeSet f_walked (d + 1) (nI j) a_endA a_endB a_number a_walkPoint a_parent a_parentLine a_lowest a_nextLine a_stack a_marked a_pointRoot a_lineRoot a_between a_melted a_pull a_left a_cameFrom a_queue a_matrix a_dist
  | 0, j, a_matrix, hj, cj, H => by
    have n8 := hX.1.1.2
    have e : j = m := by omega
    subst e
    refine br_t (nI_le (Nat.le_refl _) (by omega)) (nm_r (nI_1 i) (h _ fun r s r1 r2 s1 s2 => ?_))
    have q := H r s r1 r2 s1 s2
    have eq : xd_o c (i + 1) c r s ↔ xd_o c i j r s := by unfold xd_o; omega
    exact ⟨fun w => q.1 (eq.mp w), fun w => q.2 (fun y => w (eq.mpr y))⟩
  | d + 1, j, a_matrix, hj, cj, H => by
    have n8 := hX.1.1.2
    have jm : j < m := by omega
    have i1 : vp_in (nI i * 7 + nI j) 49 := by rw [ix_7]; exact vp_in_nI (by omega) (by decide)
    have i2 : vp_in (nI c * 7 + nI j) 49 := by rw [ix_7]; exact vp_in_nI (by omega) (by decide)
    have C1 : (nI i * 7 + nI j).toNatClampNeg = i * 7 + j := by rw [ix_7]; exact nI_clamp (by omega)
    have C2 : (nI c * 7 + nI j).toNatClampNeg = c * 7 + j := by rw [ix_7]; exact nI_clamp (by omega)
    have v1 : a_matrix (i * 7 + j) = Int64.ofInt (zz_ (lz_ P A B) c i j) := (H i j (by omega) im cj jm).2 (by unfold xd_o; omega)
    have v2 : a_matrix (c * 7 + j) = Int64.ofInt (zz_ (lz_ P A B) c c j) := (H c j (Nat.le_refl _) (by omega) cj jm).2 (by unfold xd_o; omega)
    refine br_f (nI_ge jm (by omega)) ⟨i1, i2, nm_r (e' := Int64.ofInt (zz_ (lz_ P A B) c i j * zz_ (lz_ P A B) c c c - zz_ (lz_ P A B) c i c * zz_ (lz_ P A B) c c j)) ?_ (br_f (fun w => zd0 ((li_0 zdb).mp w)) ⟨fun w => zd0 ((li_0 zdb).mp w), i1, nm_e (nm_r (nI_1 j) ?_)⟩)⟩
    · rw [C1, C2, v1, v2, Int64.ofInt_sub, Int64.ofInt_mul, Int64.ofInt_mul]
    · rw [C1]
      refine xj_50 hX hm ci im hp zd0 zdb h d (j + 1) _ (by omega) (by omega) fun r s r1 r2 s1 s2 => ?_
      have q := H r s r1 r2 s1 s2
      rcases Classical.em (r = i ∧ s = j) with ⟨e1, e2⟩ | ne
      · subst e1
        subst e2
        refine ⟨fun _ cs => ?_, fun w => absurd (show xd_o c r (s + 1) r s from ⟨ci, Or.inr ⟨rfl, by omega⟩⟩) w⟩
        rw [pk_uLs]
        have st := zz_step (L := lz_ P A B) (c := c) (i := r) (j := s) hp (by omega) (by omega)
        rw [st]
        refine li_div zd0 ?_ zdb
        rw [← st]
        have K := p32 (c := c) (by omega)
        have b1 := zz_le (j := s) hX.1 (c := c) (i := r) (by omega) (by omega)
        have b2 := zz_le (j := c) hX.1 (c := c) (i := c) (Nat.le_refl _) (by omega)
        have b3 := zz_le (j := c) hX.1 (c := c) (i := r) (by omega) (by omega)
        have b4 := zz_le (j := s) hX.1 (c := c) (i := c) (Nat.le_refl _) (by omega)
        have := li_sq (K := 1073741824) (Nat.le_trans b1 K) (Nat.le_trans b2 K) (Nat.le_trans b3 K) (Nat.le_trans b4 K)
        omega
      · rw [pk_uLn (by omega)]
        have eq : xd_o c i (j + 1) r s ↔ xd_o c i j r s := by unfold xd_o; omega
        exact ⟨fun w => q.1 (eq.mp w), fun w => q.2 (fun y => w (eq.mpr y))⟩
theorem xj_26 (hX : xg_ n P A B f_present a_endA a_endB) {m c : Nat} (hm : n = m + 1) (cm : c < m) (hp : ∀ k, k < c + 1 → zz_ (lz_ P A B) k k k ≠ 0) (zd0 : zd_ (lz_ P A B) c ≠ 0) (zdb : (zd_ (lz_ P A B) c).natAbs < 2 ^ 62) {post : SX → Prop}
    (h : ∀ a_matrix, xd_M (lz_ P A B) m c m c a_matrix → post (nI n, f_present, f_groupCount, f_bridgeSet, f_hingeSet, f_walked, a_endA, a_endB, a_number, a_walkPoint, a_parent, a_parentLine, a_lowest, a_nextLine, a_stack, a_marked, a_pointRoot, a_lineRoot, a_between, a_melted, a_pull, a_left, a_cameFrom, a_queue, a_matrix, a_dist)) :
    ∀ d i a_matrix, i + d = m → c < i → xd_M (lz_ P A B) m c i c a_matrix → wX_clearColumn_26 post (nI c) (Int64.ofInt (zd_ (lz_ P A B) c)) (nI m) (Int64.ofInt (zz_ (lz_ P A B) c c c)) (nI n) f_present f_groupCount f_bridgeSet f_hingeSet f_walked (d + 1) (nI i) a_endA a_endB a_number a_walkPoint a_parent a_parentLine a_lowest a_nextLine a_stack a_marked a_pointRoot a_lineRoot a_between a_melted a_pull a_left a_cameFrom a_queue a_matrix a_dist
  | 0, i, a_matrix, hi, ci, H => by
    have n8 := hX.1.1.2
    have e : i = m := by omega
    subst e
    exact br_t (nI_le (Nat.le_refl _) (by omega)) (h _ H)
  | d + 1, i, a_matrix, hi, ci, H => by
    have n8 := hX.1.1.2
    have i1 : vp_in (nI i * 7 + nI c) 49 := by rw [ix_7]; exact vp_in_nI (by omega) (by decide)
    have v1 : a_matrix (nI i * 7 + nI c).toNatClampNeg = Int64.ofInt (zz_ (lz_ P A B) c i c) := by
      rw [ix_7, nI_clamp (show i * 7 + c < 2 ^ 31 by omega)]
      exact (H i c (by omega) (by omega) (Nat.le_refl _) cm).2 (by unfold xd_o; omega)
    exact br_f (nI_ge (b := m) (by omega) (by omega)) ⟨i1, nm_r v1 ⟨m - c + 1, xj_50 hX hm ci (by omega) hp zd0 zdb (fun a_matrix H => xj_26 hX hm cm hp zd0 zdb h d (i + 1) _ (by omega) (by omega) H) (m - c) c _ (by omega) (Nat.le_refl _) H⟩⟩
theorem xj_8 (hX : xg_ n P A B f_present a_endA a_endB) {m : Nat} (hm : n = m + 1) {post : Int32 → SX → Prop} (h : ∀ a_matrix, post (nI (ct_n (ts_ n P A B) 65536)) (nI n, f_present, f_groupCount, f_bridgeSet, f_hingeSet, f_walked, a_endA, a_endB, a_number, a_walkPoint, a_parent, a_parentLine, a_lowest, a_nextLine, a_stack, a_marked, a_pointRoot, a_lineRoot, a_between, a_melted, a_pull, a_left, a_cameFrom, a_queue, a_matrix, a_dist)) :
    ∀ d c a_matrix, c + d = m → (∀ k, k < c → zz_ (lz_ P A B) k k k ≠ 0) → (∀ r s, c ≤ r → r < m → c ≤ s → s < m → a_matrix (r * 7 + s) = Int64.ofInt (zz_ (lz_ P A B) c r s)) → wX_trees_8 post (d + 1) (Int64.ofInt (zd_ (lz_ P A B) c)) (nI c) (nI n) f_present f_groupCount f_bridgeSet f_hingeSet f_walked a_endA a_endB a_number a_walkPoint a_parent a_parentLine a_lowest a_nextLine a_stack a_marked a_pointRoot a_lineRoot a_between a_melted a_pull a_left a_cameFrom a_queue a_matrix a_dist
  | 0, c, a_matrix, hc, hp, H => by
    have n8 := hX.1.1.2
    have e : c = m := by omega
    subst e
    refine br_t ?_ ?_
    · rw [show nI n - 1 = nI (n - 1) from pk_sub (b := 1) (by omega)]; exact nI_le (by omega) (by omega)
    · rw [lz_lead, Int64.toInt32_ofInt, Int32.ofInt_eq_ofNat, nn_ct, tree_ct hX.1 hm]
      exact h _
  | d + 1, c, a_matrix, hc, hp, H => by
    have n8 := hX.1.1.2
    have cm : c < m := by omega
    have i1 : vp_in (nI c * 7 + nI c) 49 := by rw [ix_7]; exact vp_in_nI (by omega) (by decide)
    have C1 : (nI c * 7 + nI c).toNatClampNeg = c * 7 + c := by rw [ix_7]; exact nI_clamp (by omega)
    have v1 : a_matrix (nI c * 7 + nI c).toNatClampNeg = Int64.ofInt (zz_ (lz_ P A B) c c c) := by rw [C1]; exact H c c (Nat.le_refl _) cm (Nat.le_refl _) cm
    have bnd : ∀ k, k ≤ 6 → k < n → (zz_ (lz_ P A B) k k k).natAbs < 2 ^ 62 := by
      intro k hk kn
      have a := zz_le (j := k) hX.1 (c := k) (i := k) (Nat.le_refl _) kn
      have b : 32 ^ (k + 1) ≤ 32 ^ 7 := Nat.pow_le_pow_right (by decide) (by omega)
      have e : (32 : Nat) ^ 7 = 34359738368 := by decide
      omega
    have en : nI n - 1 = nI m := by rw [show nI n - 1 = nI (n - 1) from pk_sub (b := 1) (by omega), show n - 1 = m by omega]
    refine br_f (by rw [en]; exact nI_ge cm (by omega)) ⟨i1, ?_⟩
    rw [v1]
    have lead := lz_lead P A B (c + 1)
    have lead : zz_ (lz_ P A B) c c c = ((nn_ P A B (c + 1) 0 (fun _ => 0) : Nat) : Int) := lead
    rcases Classical.em (zz_ (lz_ P A B) c c c = 0) with z | z
    · refine br_t (by rw [z]; decide) ?_
      have t0 : ct_n (ts_ n P A B) 65536 = 0 := ct_zero fun s _ q => by
        have := ts_lead hX.1 hm q (c := c + 1) (by omega)
        omega
      have := h a_matrix
      rw [t0] at this
      exact this
    · have b := bnd c (by omega) (by omega)
      have hp' : ∀ k, k < c + 1 → zz_ (lz_ P A B) k k k ≠ 0 := by
        intro k hk
        rcases Nat.lt_or_ge k c with w | w
        · exact hp k w
        · have e : k = c := by omega
          subst e; exact z
      have zd0 : zd_ (lz_ P A B) c ≠ 0 ∧ (zd_ (lz_ P A B) c).natAbs < 2 ^ 62 := by
        cases c with
        | zero => exact ⟨show (1 : Int) ≠ 0 by decide, show (1 : Int).natAbs < 2 ^ 62 by decide⟩
        | succ c => exact ⟨hp c (by omega), bnd c (by omega) (by omega)⟩
      refine br_f (fun w => z ((li_0 b).mp w)) ?_
      unfold wpX_clearColumn
      dsimp only
      refine nm_r en ⟨i1, nm_r v1 (nm_r (nI_1 c) ⟨d + 1, xj_26 hX hm cm hp' zd0.1 zd0.2 (fun a_matrix H' => ?_) d (c + 1) _ (by omega) (by omega) (fun r s r1 r2 s1 s2 => ⟨fun w => ?_, fun _ => H r s r1 r2 s1 s2⟩)⟩)⟩
      · have v2 : a_matrix (nI c * 7 + nI c).toNatClampNeg = Int64.ofInt (zd_ (lz_ P A B) (c + 1)) := by
          rw [C1]
          exact (H' c c (Nat.le_refl _) cm (Nat.le_refl _) cm).2 (by unfold xd_o; omega)
        refine ⟨i1, nm_r v2 (nm_r (nI_1 c) (xj_8 hX hm h d (c + 1) _ (by omega) hp' (fun r s r1 r2 s1 s2 => ?_)))⟩
        exact (H' r s (by omega) r2 (by omega) s2).1 ⟨by omega, Or.inl r2⟩ (by omega)
      · unfold xd_o at w; omega
theorem xj_trees (hX : xg_ n P A B f_present a_endA a_endB) {a_matrix : Nat → Int64} {post : Int32 → SX → Prop} (h : ∀ a_between a_matrix, post (nI (ct_n (ts_ n P A B) 65536)) (nI n, f_present, f_groupCount, f_bridgeSet, f_hingeSet, f_walked, a_endA, a_endB, a_number, a_walkPoint, a_parent, a_parentLine, a_lowest, a_nextLine, a_stack, a_marked, a_pointRoot, a_lineRoot, a_between, a_melted, a_pull, a_left, a_cameFrom, a_queue, a_matrix, a_dist)) : wpX_trees post (nI n, f_present, f_groupCount, f_bridgeSet, f_hingeSet, f_walked, a_endA, a_endB, a_number, a_walkPoint, a_parent, a_parentLine, a_lowest, a_nextLine, a_stack, a_marked, a_pointRoot, a_lineRoot, a_between, a_melted, a_pull, a_left, a_cameFrom, a_queue, a_matrix, a_dist) := by
  have n1 := hX.1.1.1
  have n8 := hX.1.1.2
  obtain ⟨m, hm⟩ : ∃ m, n = m + 1 := ⟨n - 1, by omega⟩
  unfold wpX_trees wpX_layMatrix
  dsimp only
  refine xf_ hX fun a_between hw => nm_r (e' := nI m) (by rw [show nI n - 1 = nI (n - 1) from pk_sub (b := 1) n1, show n - 1 = m by omega]) ⟨m + 1, xj_13 hX hw hm (fun a_matrix H => ⟨m + 1, xj_8 hX hm (fun a_matrix => h _ _) m 0 _ (by omega) (fun k hk => absurd hk (by omega)) (fun r s _ r2 _ s2 => ?_)⟩) m 0 _ (by omega) (fun r s hr => absurd hr (by omega))⟩
  rw [zz_0]; exact H r s r2 s2
end
end
section
/-! ===== trees in the reference ===== -/
section
variable {a_there a_as a_bs : Nat → Int32} {A B : Nat → Nat} {n : Nat} {P : Nat → Prop} {M : Int32}
theorem yx_loop (hg : gr_ n P A B) (hE : yg_ends A B a_as a_bs) (hM : ∀ v, bt M v = true ↔ P v) {post : Int32 → Prop} (h : post (nI (ct_n (ts_ n P A B) 65536))) :
    ∀ d s, s + d = 65536 → wY_trees_9 post M (nI n) a_there a_as a_bs (d + 1) (nI (ct_n (ts_ n P A B) s)) (nI s)
  | 0, s, hs => by
    have e : s = 65536 := by omega
    rw [e]
    exact br_t (nI_le (a := 65536) (Nat.le_refl _) (by omega)) h
  | d + 1, s, hs => by
    have n8 := hg.1.2
    have n1 := hg.1.1
    have s16 : s < 65536 := by omega
    have ih := yx_loop (post := post) hg hE hM h d (s + 1) (by omega)
    have b16 : ∀ k, s.testBit k = true → k < 16 := fun k z => tb_lt (n := 16) (by omega) z
    have no : ¬ ts_ n P A B s → wY_trees_58 post (wY_trees_9 post M (nI n) a_there a_as a_bs (d + 1)) (nI (ct_n (ts_ n P A B) s)) M (nI s) (nI n) a_there a_as a_bs := by
      intro z
      rw [show ct_n (ts_ n P A B) (s + 1) = ct_n (ts_ n P A B) s from by show _ + ct_b _ = _; rw [ct_bf z]; rfl] at ih
      exact br_t rfl (nm_r (nI_1 s) ih)
    have yes : ts_ n P A B s → wY_trees_59 post (wY_trees_9 post M (nI n) a_there a_as a_bs (d + 1)) (nI (ct_n (ts_ n P A B) s)) M (nI s) 1 (nI n) a_there a_as a_bs := by
      intro z
      rw [show ct_n (ts_ n P A B) (s + 1) = ct_n (ts_ n P A B) s + 1 from by show _ + ct_b _ = _; rw [ct_bt z]] at ih
      exact br_f bb_10 (nm_r (nI_1 _) (nm_r (nI_1 s) ih))
    have sub : (nI s &&& (M ^^^ (-1))) = 0 ↔ ∀ k, s.testBit k = true → P k := by
      rw [bb_eq0]
      constructor
      · intro z k q
        apply Classical.byContradiction
        intro np
        have k32 : k < 32 := by have := b16 k q; omega
        exact z k k32 (bb_and.mpr ⟨by rw [bt_n (by omega)]; exact q, (bb_not k32).mpr fun w => np ((hM k).mp w)⟩)
      · intro z v hv q
        obtain ⟨q1, q2⟩ := bb_and.mp q
        rw [bt_n (by omega)] at q1
        exact (bb_not hv).mp q2 ((hM v).mpr (z v q1))
    refine br_f (nI_ge (b := 65536) s16 (by decide)) (br_c (fun z => yo_ ?_) (fun z => no fun w => z (sub.mpr w.1)))
    have sP := sub.mp z
    have ones : ct_n (fun v => bt (nI s) v = true) 16 = ct_n (fun k => s.testBit k = true) 16 := ct_eq fun v _ => by rw [bt_n (by omega)]
    rw [ones]
    have c16 : ct_n (fun k => s.testBit k = true) 16 ≤ 16 := ct_le _ _
    refine pk_eq (ct_n (fun k => s.testBit k = true) 16) (n - 1) (fun e => ?_) (fun e => no fun w => e w.2.1) rfl (pk_sub (b := 1) n1)
    refine yj_ hE (L := fun k => s.testBit k = true) (S := fun x => x < n) (fun v _ => by rw [bt_n (by omega)]) (fun v => al_b n8) b16 (fun v q => Nat.lt_of_lt_of_le q n8) (fun r hr => ?_)
    have key : ∀ v, bt r v = true ↔ gc A B (fun k => s.testBit k = true) (fun x => x < n) 0 v := by
      intro v
      rw [hr v]
      constructor
      · rintro ⟨u, ⟨bu, _⟩, g⟩
        have := bb_1 u (bb_lt bu)
        rw [this, decide_eq_true_iff] at bu
        exact bu ▸ g
      · intro g
        exact ⟨0, ⟨by rw [bb_1 0 (by decide)]; decide, by omega⟩, g⟩
    have full : r = al_ n ↔ ∀ v, v < n → gc A B (fun k => s.testBit k = true) (fun x => x < n) 0 v := by
      constructor
      · intro q v hv
        rw [← key v, q]; exact (al_b n8).mpr hv
      · intro q
        refine bb_ext fun v _ => ?_
        rw [key v]
        have ab : bt (al_ n) v = true ↔ v < n := al_b n8
        rw [ab]
        exact ⟨fun g => gc_inS (S := fun x => x < n) g (show 0 < n by omega), q v⟩
    exact br_c (fun q => yes ⟨sP, e, full.mp q⟩) (fun q => no fun w => q (full.mpr w.2.2))
theorem yx_trees (hg : gr_ n P A B) (hT : yg_th P a_there) (hE : yg_ends A B a_as a_bs) (hM : ∀ v, bt M v = true ↔ P v) {post : Int32 → Prop} (h : post (nI (ct_n (ts_ n P A B) 65536))) : wpY_trees post (nI n, a_there, a_as, a_bs) := by
  unfold wpY_trees
  dsimp only
  exact yl_ hT hM (fun k z => (hg.2 k z).1) ⟨65537, yx_loop hg hE hM h 65536 0 rfl⟩
end
end
section
/-! ===== begin, add, remove: both sides ===== -/
section
variable {n : Nat} {P : Nat → Prop} {A B : Nat → Nat}
theorem gr_begin (h : 1 ≤ n ∧ n ≤ 8) : gr_ n (fun _ => False) A B := ⟨h, fun k z => z.elim⟩
theorem gr_put (hg : gr_ n P A B) {k a b : Nat} (hk : k < 16) (ha : a < n) (hb : b < n) (ab : a ≠ b) : gr_ n (fun j => P j ∨ j = k) (fu_ A k a) (fu_ B k b) := by
  refine ⟨hg.1, fun j z => ?_⟩
  rcases Classical.em (j = k) with e | e
  · subst e; rw [fu_s, fu_s]; exact ⟨hk, ha, hb, ab⟩
  · rw [fu_n e, fu_n e]; exact hg.2 j (z.resolve_right e)
theorem gr_del (hg : gr_ n P A B) {k : Nat} : gr_ n (fun j => P j ∧ j ≠ k) A B := ⟨hg.1, fun j z => hg.2 j z.1⟩
theorem ye_put {a b : Nat → Int32} (h : yg_ends A B a b) {k x y : Nat} (hx : x < 8) (hy : y < 8) : yg_ends (fu_ A k x) (fu_ B k y) (upd a k (nI x)) (upd b k (nI y)) := by
  intro j hj
  rcases Classical.em (j = k) with e | e
  · subst e; rw [fu_s, fu_s, pk_us, pk_us]; exact ⟨⟨rfl, hx⟩, rfl, hy⟩
  · rw [fu_n e, fu_n e, pk_un e, pk_un e]; exact h j hj
theorem yt_put {a : Nat → Int32} (h : yg_th P a) {k : Nat} : yg_th (fun j => P j ∨ j = k) (upd a k 1) := by
  intro j hj
  rcases Classical.em (j = k) with e | e
  · subst e; rw [pk_us]; exact Or.inl ⟨Or.inr rfl, rfl⟩
  · rw [pk_un e]
    rcases h j hj with ⟨p, q⟩ | ⟨p, q⟩
    · exact Or.inl ⟨Or.inl p, q⟩
    · exact Or.inr ⟨fun w => w.elim p e, q⟩
theorem yt_del {a : Nat → Int32} (h : yg_th P a) {k : Nat} : yg_th (fun j => P j ∧ j ≠ k) (upd a k 0) := by
  intro j hj
  rcases Classical.em (j = k) with e | e
  · subst e; rw [pk_us]; exact Or.inr ⟨fun w => w.2 rfl, rfl⟩
  · rw [pk_un e]
    rcases h j hj with ⟨p, q⟩ | ⟨p, q⟩
    · exact Or.inl ⟨⟨p, e⟩, q⟩
    · exact Or.inr ⟨fun w => p w.1, q⟩
variable {a_there a_as a_bs : Nat → Int32}
theorem yn_begin {post : Int32 → SY → Prop} {f : Int32} (h : ∀ a_there, yg_th (fun _ => False) a_there → post 1 (f, a_there, a_as, a_bs)) :
    ∀ d k a_there, k + d = 16 → (∀ j, j < k → a_there j = 0) → wY_begin_20 post f (d + 1) (nI k) a_there a_as a_bs
  | 0, k, a_there, hk, I => by
    have e : k = 16 := by omega
    subst e
    exact br_t (show (16 : Int32) ≤ nI 16 from by decide) (h _ fun j hj => Or.inr ⟨id, I j hj⟩)
  | d + 1, k, a_there, hk, I => by
    have hk16 : k < 16 := by omega
    refine br_f (nI_ge (b := 16) hk16 (by decide)) ⟨vp_in_nI hk16 (by decide), nm_e (nm_r (nI_1 k) (yn_begin h d (k + 1) _ (by omega) fun j hj => ?_))⟩
    rw [nI_clamp (by omega), by_b0]
    rcases Classical.em (j = k) with z | z
    · subst z; rw [pk_us]
    · rw [pk_un z]; exact I j (by omega)
theorem yn_add (hT : yg_th P a_there) {f x1 x2 : Int32} {post : Int32 → SY → Prop} (h1 : ∀ k, k < 16 → ¬ P k → (∀ j, j < k → P j) → post (nI k) (f, upd a_there k 1, upd a_as k x1, upd a_bs k x2)) (h0 : (∀ j, j < 16 → P j) → post (-2) (f, a_there, a_as, a_bs)) :
    ∀ d k, k + d = 16 → (∀ j, j < k → P j) → wY_add_25 post x1 x2 f a_there a_as a_bs (d + 1) (nI k)
  | 0, k, hk, I => by
    have e : k = 16 := by omega
    subst e
    exact br_t (show (16 : Int32) ≤ nI 16 from by decide) (h0 I)
  | d + 1, k, hk, I => by
    have hk16 : k < 16 := by omega
    have i16 : vp_in (nI k) 16 := vp_in_nI hk16 (by decide)
    refine br_f (nI_ge (b := 16) hk16 (by decide)) ⟨i16, yg_br hT hk16 (fun t => ?_) (fun t => nm_r (nI_1 k) (yn_add hT h1 h0 d (k + 1) (by omega) fun j hj => ?_))⟩
    · rw [nI_clamp (show k < 2 ^ 31 by omega), by_b1]
      exact ⟨i16, nm_e ⟨i16, nm_e ⟨i16, nm_e (h1 k hk16 t I)⟩⟩⟩
    · rcases Nat.lt_or_ge j k with w | w
      · exact I j w
      · have e : j = k := by omega
        subst e; exact t
end
section
variable {n : Nat} {P : Nat → Prop} {A B : Nat → Nat}
variable {f_present : Int32} {f_groupCount : Int32} {f_bridgeSet : Int32} {f_hingeSet : Int32} {f_walked : Int32} {a_endA : Nat → Int32} {a_endB : Nat → Int32} {a_number : Nat → Int32} {a_walkPoint : Nat → Int32} {a_parent : Nat → Int32} {a_parentLine : Nat → Int32} {a_lowest : Nat → Int32} {a_nextLine : Nat → Int32} {a_stack : Nat → Int32} {a_marked : Nat → Int32} {a_pointRoot : Nat → Int32} {a_lineRoot : Nat → Int32} {a_between : Nat → Int32} {a_melted : Nat → Int32} {a_pull : Nat → Int32} {a_left : Nat → Int32} {a_cameFrom : Nat → Int32} {a_queue : Nat → Int32} {a_matrix : Nat → Int64} {a_dist : Nat → Int32}
theorem xn_add (hX : xg_ n P A B f_present a_endA a_endB) {a b : Nat} (ha : a < 8) (hb : b < 8) {post : Int32 → SX → Prop} (h1 : ∀ k, k < 16 → ¬ P k → (∀ j, j < k → P j) → post (nI k) (nI n, f_present ||| ((1 : Int32) <<< (nI k &&& 31)), f_groupCount, f_bridgeSet, f_hingeSet, f_walked, upd a_endA k (nI a), upd a_endB k (nI b), a_number, a_walkPoint, a_parent, a_parentLine, a_lowest, a_nextLine, a_stack, a_marked, a_pointRoot, a_lineRoot, a_between, a_melted, a_pull, a_left, a_cameFrom, a_queue, a_matrix, a_dist)) (h0 : (∀ j, j < 16 → P j) → post (-2) (nI n, f_present, f_groupCount, f_bridgeSet, f_hingeSet, f_walked, a_endA, a_endB, a_number, a_walkPoint, a_parent, a_parentLine, a_lowest, a_nextLine, a_stack, a_marked, a_pointRoot, a_lineRoot, a_between, a_melted, a_pull, a_left, a_cameFrom, a_queue, a_matrix, a_dist)) :
    ∀ d k, k + d = 16 → (∀ j, j < k → P j) → wX_add_25 post (nI a) (nI b) (nI n) f_present f_groupCount f_bridgeSet f_hingeSet f_walked a_endA a_endB a_number a_walkPoint a_parent a_parentLine a_lowest a_nextLine a_stack a_marked a_pointRoot a_lineRoot a_between a_melted a_pull a_left a_cameFrom a_queue a_matrix a_dist (d + 1) (nI k)
  | 0, k, hk, I => by
    have e : k = 16 := by omega
    subst e
    exact br_t (show (16 : Int32) ≤ nI 16 from by decide) (h0 I)
  | d + 1, k, hk, I => by
    have hk16 : k < 16 := by omega
    have i16 : vp_in (nI k) 16 := vp_in_nI hk16 (by decide)
    refine br_f (nI_ge (b := 16) hk16 (by decide)) (xh_ hX hk16 (fun t => br_f bb_10 (nm_r (nI_1 k) (xn_add hX ha hb h1 h0 d (k + 1) (by omega) fun j hj => ?_))) (fun t => br_t rfl ?_))
    · rcases Nat.lt_or_ge j k with w | w
      · exact I j w
      · have e : j = k := by omega
        subst e; exact t
    · rw [nI_clamp (show k < 2 ^ 31 by omega), by_c (show a < 128 by omega), by_c (show b < 128 by omega)]
      exact nm_e ⟨i16, nm_e ⟨i16, nm_e (h1 k hk16 t I)⟩⟩
theorem xg_put (hX : xg_ n P A B f_present a_endA a_endB) {k a b : Nat} (hk : k < 16) (ha : a < n) (hb : b < n) (ab : a ≠ b) : xg_ n (fun j => P j ∨ j = k) (fu_ A k a) (fu_ B k b) (f_present ||| ((1 : Int32) <<< (nI k &&& 31))) (upd a_endA k (nI a)) (upd a_endB k (nI b)) := by
  have n8 := hX.1.1.2
  refine ⟨gr_put hX.1 hk ha hb ab, fun v => ?_, ye_put hX.2.2 (by omega) (by omega)⟩
  rcases Nat.lt_or_ge v 32 with z | z
  · rw [bb_or1 rfl (by omega) z, hX.2.1 v]
  · refine ⟨fun q => absurd (bb_lt q) (by omega), fun q => ?_⟩
    rcases q with q | q
    · have := (hX.1.2 v q).1; omega
    · omega
theorem xg_del (hX : xg_ n P A B f_present a_endA a_endB) {k : Nat} (hk : k < 16) : xg_ n (fun j => P j ∧ j ≠ k) A B (f_present &&& (((1 : Int32) <<< (nI k &&& 31)) ^^^ (-1))) a_endA a_endB := by
  refine ⟨gr_del hX.1, fun v => ?_, hX.2.2⟩
  rcases Nat.lt_or_ge v 32 with z | z
  · rw [bb_del rfl (by omega) z, hX.2.1 v]
  · exact ⟨fun q => absurd (bb_lt q) (by omega), fun q => by have := (hX.1.2 v q.1).1; omega⟩
end
/-! ===== the relation ===== -/
def i_Rel (k : Nat) (u : SX) (v : SY) : Prop := ∃ (n : Nat) (P : Nat → Prop) (A B : Nat → Nat), u.1 = nI n ∧ v.1 = nI n ∧ xg_ n P A B u.2.1 u.2.2.2.2.2.2.1 u.2.2.2.2.2.2.2.1 ∧ yg_th P v.2.1 ∧ yg_ends A B v.2.2.1 v.2.2.2
theorem i_up {k : Nat} {u : SX} {v : SY} (h : i_Rel k u v) : i_Rel (k + 3) u v := h
theorem zz_el {Q : SX → SY → Prop} (h : ∀ (n : Nat) (P : Nat → Prop) (A B : Nat → Nat) (f_present : Int32) (f_groupCount : Int32) (f_bridgeSet : Int32) (f_hingeSet : Int32) (f_walked : Int32) (a_endA : Nat → Int32) (a_endB : Nat → Int32) (a_number : Nat → Int32) (a_walkPoint : Nat → Int32) (a_parent : Nat → Int32) (a_parentLine : Nat → Int32) (a_lowest : Nat → Int32) (a_nextLine : Nat → Int32) (a_stack : Nat → Int32) (a_marked : Nat → Int32) (a_pointRoot : Nat → Int32) (a_lineRoot : Nat → Int32) (a_between : Nat → Int32) (a_melted : Nat → Int32) (a_pull : Nat → Int32) (a_left : Nat → Int32) (a_cameFrom : Nat → Int32) (a_queue : Nat → Int32) (a_matrix : Nat → Int64) (a_dist : Nat → Int32) (a_there a_as a_bs : Nat → Int32), xg_ n P A B f_present a_endA a_endB → yg_th P a_there → yg_ends A B a_as a_bs → Q (nI n, f_present, f_groupCount, f_bridgeSet, f_hingeSet, f_walked, a_endA, a_endB, a_number, a_walkPoint, a_parent, a_parentLine, a_lowest, a_nextLine, a_stack, a_marked, a_pointRoot, a_lineRoot, a_between, a_melted, a_pull, a_left, a_cameFrom, a_queue, a_matrix, a_dist) (nI n, a_there, a_as, a_bs)) {k : Nat} {u : SX} {v : SY} (I : i_Rel k u v) : Q u v := by
  obtain ⟨n, P, A, B, e1, e2, h1, h2, h3⟩ := I
  obtain ⟨f_n, u⟩ := u
  obtain ⟨f_size, a_there, a_as, a_bs⟩ := v
  dsimp only at e1 e2
  subst e1
  subst e2
  exact h n P A B _ _ _ _ _ _ _ _ _ _ _ _ _ _ _ _ _ _ _ _ _ _ _ _ _ _ _ _ h1 h2 h3
section
variable {n : Nat} {P : Nat → Prop} {A B : Nat → Nat} {a_there a_as a_bs : Nat → Int32}
variable {f_present : Int32} {f_groupCount : Int32} {f_bridgeSet : Int32} {f_hingeSet : Int32} {f_walked : Int32} {a_endA : Nat → Int32} {a_endB : Nat → Int32} {a_number : Nat → Int32} {a_walkPoint : Nat → Int32} {a_parent : Nat → Int32} {a_parentLine : Nat → Int32} {a_lowest : Nat → Int32} {a_nextLine : Nat → Int32} {a_stack : Nat → Int32} {a_marked : Nat → Int32} {a_pointRoot : Nat → Int32} {a_lineRoot : Nat → Int32} {a_between : Nat → Int32} {a_melted : Nat → Int32} {a_pull : Nat → Int32} {a_left : Nat → Int32} {a_cameFrom : Nat → Int32} {a_queue : Nat → Int32} {a_matrix : Nat → Int64} {a_dist : Nat → Int32}
theorem zz_in {k : Nat} (h1 : xg_ n P A B f_present a_endA a_endB) (h2 : yg_th P a_there) (h3 : yg_ends A B a_as a_bs) : i_Rel k (nI n, f_present, f_groupCount, f_bridgeSet, f_hingeSet, f_walked, a_endA, a_endB, a_number, a_walkPoint, a_parent, a_parentLine, a_lowest, a_nextLine, a_stack, a_marked, a_pointRoot, a_lineRoot, a_between, a_melted, a_pull, a_left, a_cameFrom, a_queue, a_matrix, a_dist) (nI n, a_there, a_as, a_bs) := ⟨n, P, A, B, rfl, rfl, h1, h2, h3⟩
end
end
section
section
variable {a_there a_as a_bs : Nat → Int32} {n : Nat}
theorem yn_addP (n8 : n ≤ 8) {a b : Nat} (ha : a < n) (hb : b < n) {post : Int32 → SY → Prop} (q1 : a = b → post (-1) (nI n, a_there, a_as, a_bs)) (q2 : a ≠ b → ∃ n25, wY_add_25 post (nI a) (nI b) (nI n) a_there a_as a_bs n25 0) : wpY_add post (nI n, a_there, a_as, a_bs) (nI a) (nI b) := by
  unfold wpY_add
  dsimp only
  exact yp_ (by omega) rfl (fun _ _ _ => br_f bb_10 (yp_ (by omega) rfl (fun _ _ _ => br_f bb_10 (pk_eq a b q1 q2)) (fun z => (z b hb rfl).elim))) (fun z => (z a ha rfl).elim)
theorem yn_addN (n8 : n ≤ 8) {x y : Int32} (no : ¬ ((∃ a, a < n ∧ x = nI a) ∧ ∃ b, b < n ∧ y = nI b)) {post : Int32 → SY → Prop} (q : post (-1) (nI n, a_there, a_as, a_bs)) : wpY_add post (nI n, a_there, a_as, a_bs) x y := by
  unfold wpY_add
  dsimp only
  exact yp_ (by omega) rfl (fun a ha ea => br_f bb_10 (yp_ (by omega) rfl (fun b hb eb => absurd ⟨⟨a, ha, ea⟩, b, hb, eb⟩ no) (fun _ => br_t rfl q))) (fun _ => br_t rfl q)
end
end
section
/-! ===== what is owed ===== -/
theorem i_vc0 : wpX_init (fun u => wpY_init (fun v => i_Rel 0 u v)) := by
  refine ⟨1, fun _ => False, fun _ => 0, fun _ => 0, rfl, rfl, ⟨gr_begin ⟨by decide, by decide⟩, fun v => ⟨fun z => absurd z (bb_0 v), fun z => z.elim⟩, fun k _ => ⟨⟨rfl, Nat.zero_lt_succ 7⟩, rfl, Nat.zero_lt_succ 7⟩⟩, fun k _ => Or.inr ⟨id, rfl⟩, fun k _ => ⟨⟨rfl, Nat.zero_lt_succ 7⟩, rfl, Nat.zero_lt_succ 7⟩⟩
theorem i_vc_begin {k : Nat} {u : SX} {v : SY} (I : i_Rel k u v) (hk : k + 3 ≤ 1536) (v1 : Int32) : wpX_begin (fun r u' => wpY_begin (fun r' v' => r' = r ∧ i_Rel (k + 3) u' v') v v1) u v1 := by
  refine zz_el (Q := fun u v => wpX_begin (fun r u' => wpY_begin (fun r' v' => r' = r ∧ i_Rel (k + 3) u' v') v v1) u v1) ?_ I
  intro n P A B f_present f_groupCount f_bridgeSet f_hingeSet f_walked a_endA a_endB a_number a_walkPoint a_parent a_parentLine a_lowest a_nextLine a_stack a_marked a_pointRoot a_lineRoot a_between a_melted a_pull a_left a_cameFrom a_queue a_matrix a_dist a_there a_as a_bs hX hT hE
  by_cases h1 : v1 < 1
  · exact br_t h1 (br_t h1 ⟨rfl, zz_in hX hT hE⟩)
  · by_cases h8 : v1 ≤ 8
    · refine br_f h1 (br_t h8 (br_f h1 (br_t h8 ⟨17, yn_begin (fun a_there hT => ⟨rfl, ?_⟩) 16 0 _ rfl (fun j hj => absurd hj (by omega))⟩)))
      have p : ¬ v1 < 0 := fun z => h1 (Int32.lt_trans z (by decide))
      obtain ⟨m, hm, rfl⟩ := nI_of p
      have m1 : 1 ≤ m := by
        rcases Nat.eq_zero_or_pos m with z | z
        · subst z; exact absurd (by decide) h1
        · exact z
      have m8 : m ≤ 8 := (nI_leI (b := 8) hm (by decide)).mp h8
      exact zz_in (P := fun _ => False) ⟨gr_begin ⟨m1, m8⟩, fun v => ⟨fun z => absurd z (bb_0 v), fun z => z.elim⟩, hX.2.2⟩ hT hE
    · exact br_f h1 (br_f h8 (br_f h1 (br_f h8 ⟨rfl, zz_in hX hT hE⟩)))
theorem i_vc_add {k : Nat} {u : SX} {v : SY} (I : i_Rel k u v) (hk : k + 3 ≤ 1536) (v1 : Int32) (v2 : Int32) : wpX_add (fun r u' => wpY_add (fun r' v' => r' = r ∧ i_Rel (k + 3) u' v') v v1 v2) u v1 v2 := by
  refine zz_el (Q := fun u v => wpX_add (fun r u' => wpY_add (fun r' v' => r' = r ∧ i_Rel (k + 3) u' v') v v1 v2) u v1 v2) ?_ I
  intro n P A B f_present f_groupCount f_bridgeSet f_hingeSet f_walked a_endA a_endB a_number a_walkPoint a_parent a_parentLine a_lowest a_nextLine a_stack a_marked a_pointRoot a_lineRoot a_between a_melted a_pull a_left a_cameFrom a_queue a_matrix a_dist a_there a_as a_bs hX hT hE
  have n8 := hX.1.1.2
  have R : i_Rel (k + 3) (nI n, f_present, f_groupCount, f_bridgeSet, f_hingeSet, f_walked, a_endA, a_endB, a_number, a_walkPoint, a_parent, a_parentLine, a_lowest, a_nextLine, a_stack, a_marked, a_pointRoot, a_lineRoot, a_between, a_melted, a_pull, a_left, a_cameFrom, a_queue, a_matrix, a_dist) (nI n, a_there, a_as, a_bs) := zz_in hX hT hE
  unfold wpX_add
  dsimp only
  refine xp_i n8 (fun a ha ea => br_f bb_10 (xp_i n8 (fun b hb eb => br_f bb_10 ?_) (fun nb => br_t rfl (yn_addN n8 (fun z => z.2.elim fun b hb => nb b hb.1 hb.2) ⟨rfl, R⟩)))) (fun na => br_t rfl (yn_addN n8 (fun z => z.1.elim fun a ha => na a ha.1 ha.2) ⟨rfl, R⟩))
  subst ea
  subst eb
  refine pk_eq a b (fun e => yn_addP n8 ha hb (fun _ => ⟨rfl, R⟩) (fun z => absurd e z)) (fun ab => ?_)
  refine ⟨17, xn_add hX (by omega) (by omega) (fun j hj nj lj => yn_addP n8 ha hb (fun z => absurd z ab) (fun _ => ⟨17, yn_add hT (fun i hi ni li => ?_) (fun all => absurd (all j hj) nj) 16 0 rfl (fun i hi => absurd hi (by omega))⟩)) (fun all => yn_addP n8 ha hb (fun z => absurd z ab) (fun _ => ⟨17, yn_add hT (fun i hi ni _ => absurd (all i hi) ni) (fun _ => ⟨rfl, R⟩) 16 0 rfl (fun i hi => absurd hi (by omega))⟩)) 16 0 rfl (fun i hi => absurd hi (by omega))⟩
  have e : i = j := by
    rcases Nat.lt_or_ge i j with z | z
    · exact absurd (lj i z) ni
    · rcases Nat.lt_or_ge j i with w | w
      · exact absurd (li j w) nj
      · omega
  subst e
  exact ⟨rfl, zz_in (xg_put hX hi ha hb ab) (yt_put hT) (ye_put hE (by omega) (by omega))⟩
theorem i_vc_remove {k : Nat} {u : SX} {v : SY} (I : i_Rel k u v) (hk : k + 3 ≤ 1536) (v1 : Int32) : wpX_remove (fun r u' => wpY_remove (fun r' v' => r' = r ∧ i_Rel (k + 3) u' v') v v1) u v1 := by
  refine zz_el (Q := fun u v => wpX_remove (fun r u' => wpY_remove (fun r' v' => r' = r ∧ i_Rel (k + 3) u' v') v v1) u v1) ?_ I
  intro n P A B f_present f_groupCount f_bridgeSet f_hingeSet f_walked a_endA a_endB a_number a_walkPoint a_parent a_parentLine a_lowest a_nextLine a_stack a_marked a_pointRoot a_lineRoot a_between a_melted a_pull a_left a_cameFrom a_queue a_matrix a_dist a_there a_as a_bs hX hT hE
  unfold wpX_remove wpY_remove
  dsimp only
  refine xh_i hX (fun j hj e pj => br_f bb_10 (nm_e (yi_ hT (fun i hi e' pi => br_f bb_10 ⟨by rw [e]; exact vp_in_nI hj (by decide), nm_e ⟨rfl, ?_⟩⟩) (fun z => absurd pj (z j hj e))))) (fun z => br_t rfl (yi_ hT (fun j hj e pj => absurd pj (z j hj e)) (fun _ => br_t rfl ⟨rfl, zz_in hX hT hE⟩)))
  subst e
  rw [nI_clamp (show j < 2 ^ 31 by omega), by_b0]
  exact zz_in (xg_del hX hj) (yt_del hT) hE
theorem i_vc_lines {k : Nat} {u : SX} {v : SY} (I : i_Rel k u v) (hk : k + 3 ≤ 1536) : wpX_lines (fun r => wpY_lines (fun r' => r' = r ∧ i_Rel (k + 3) u v) v) u := by
  refine zz_el (Q := fun u v => wpX_lines (fun r => wpY_lines (fun r' => r' = r ∧ i_Rel (k + 3) u v) v) u) ?_ I
  intro n P A B f_present f_groupCount f_bridgeSet f_hingeSet f_walked a_endA a_endB a_number a_walkPoint a_parent a_parentLine a_lowest a_nextLine a_stack a_marked a_pointRoot a_lineRoot a_between a_melted a_pull a_left a_cameFrom a_queue a_matrix a_dist a_there a_as a_bs hX hT hE
  exact yl_ hT hX.2.1 (fun k z => (hX.1.2 k z).1) ⟨rfl, zz_in hX hT hE⟩
theorem i_vc_groups {k : Nat} {u : SX} {v : SY} (I : i_Rel k u v) (hk : k + 3 ≤ 1536) (v1 : Int32) : wpX_groups (fun r u' => wpY_groups (fun r' => r' = r ∧ i_Rel (k + 3) u' v) v v1) u v1 := by
  refine zz_el (Q := fun u v => wpX_groups (fun r u' => wpY_groups (fun r' => r' = r ∧ i_Rel (k + 3) u' v) v v1) u v1) ?_ I
  intro n P A B f_present f_groupCount f_bridgeSet f_hingeSet f_walked a_endA a_endB a_number a_walkPoint a_parent a_parentLine a_lowest a_nextLine a_stack a_marked a_pointRoot a_lineRoot a_between a_melted a_pull a_left a_cameFrom a_queue a_matrix a_dist a_there a_as a_bs hX hT hE
  unfold wpX_groups
  dsimp only
  refine xe_ (fun he => br_f bb_10 (xq_solve hX he fun _ _ _ _ _ _ _ _ _ _ _ _ _ _ _ => yb_groups hX.1 hT hE hX.2.1 (fun _ => ⟨rfl, zz_in hX hT hE⟩) (fun z => absurd he z))) (fun he => br_t rfl (yb_groups hX.1 hT hE hX.2.1 (fun z => absurd z he) (fun _ => ⟨rfl, zz_in hX hT hE⟩)))
theorem i_vc_bridges {k : Nat} {u : SX} {v : SY} (I : i_Rel k u v) (hk : k + 3 ≤ 1536) (v1 : Int32) : wpX_bridges (fun r u' => wpY_bridges (fun r' => r' = r ∧ i_Rel (k + 3) u' v) v v1) u v1 := by
  refine zz_el (Q := fun u v => wpX_bridges (fun r u' => wpY_bridges (fun r' => r' = r ∧ i_Rel (k + 3) u' v) v v1) u v1) ?_ I
  intro n P A B f_present f_groupCount f_bridgeSet f_hingeSet f_walked a_endA a_endB a_number a_walkPoint a_parent a_parentLine a_lowest a_nextLine a_stack a_marked a_pointRoot a_lineRoot a_between a_melted a_pull a_left a_cameFrom a_queue a_matrix a_dist a_there a_as a_bs hX hT hE
  unfold wpX_bridges
  dsimp only
  refine xe_ (fun he => br_f bb_10 (xq_solve hX he fun _ _ _ _ _ _ _ _ _ _ _ _ _ H1 _ => yb_bridges hX.1 hT hE hX.2.1 fun r hr => ⟨fun _ => ⟨bb_ext fun i _ => (hr i).trans (H1 i).symm, zz_in hX hT hE⟩, fun z => absurd he z⟩)) (fun he => br_t rfl (yb_bridges hX.1 hT hE hX.2.1 fun r hr => ⟨fun z => absurd z he, fun _ => ⟨rfl, zz_in hX hT hE⟩⟩))
theorem i_vc_hinges {k : Nat} {u : SX} {v : SY} (I : i_Rel k u v) (hk : k + 3 ≤ 1536) (v1 : Int32) : wpX_hinges (fun r u' => wpY_hinges (fun r' => r' = r ∧ i_Rel (k + 3) u' v) v v1) u v1 := by
  refine zz_el (Q := fun u v => wpX_hinges (fun r u' => wpY_hinges (fun r' => r' = r ∧ i_Rel (k + 3) u' v) v v1) u v1) ?_ I
  intro n P A B f_present f_groupCount f_bridgeSet f_hingeSet f_walked a_endA a_endB a_number a_walkPoint a_parent a_parentLine a_lowest a_nextLine a_stack a_marked a_pointRoot a_lineRoot a_between a_melted a_pull a_left a_cameFrom a_queue a_matrix a_dist a_there a_as a_bs hX hT hE
  unfold wpX_hinges
  dsimp only
  refine xe_ (fun he => br_f bb_10 (xq_solve hX he fun _ _ _ _ _ _ _ _ _ _ _ _ _ _ H2 => yb_hinges hX.1 hT hE hX.2.1 fun r hr => ⟨fun _ => ⟨bb_ext fun i _ => (hr i).trans (H2 i).symm, zz_in hX hT hE⟩, fun z => absurd he z⟩)) (fun he => br_t rfl (yb_hinges hX.1 hT hE hX.2.1 fun r hr => ⟨fun z => absurd z he, fun _ => ⟨rfl, zz_in hX hT hE⟩⟩))
theorem i_vc_agree {k : Nat} {u : SX} {v : SY} (I : i_Rel k u v) (hk : k + 3 ≤ 1536) (v1 : Int32) (v2 : Int32) : wpX_agree (fun r u' => wpY_agree (fun r' => r' = r ∧ i_Rel (k + 3) u' v) v v1 v2) u v1 v2 := by
  refine zz_el (Q := fun u v => wpX_agree (fun r u' => wpY_agree (fun r' => r' = r ∧ i_Rel (k + 3) u' v) v v1 v2) u v1 v2) ?_ I
  intro n P A B f_present f_groupCount f_bridgeSet f_hingeSet f_walked a_endA a_endB a_number a_walkPoint a_parent a_parentLine a_lowest a_nextLine a_stack a_marked a_pointRoot a_lineRoot a_between a_melted a_pull a_left a_cameFrom a_queue a_matrix a_dist a_there a_as a_bs hX hT hE
  unfold wpX_agree wpY_agree
  dsimp only
  refine xe_ (fun he => br_f bb_10 (xe_ (fun he' => br_f bb_10 (xq_solve hX he fun _ _ _ _ _ _ _ _ _ _ _ _ _ H1 H2 => xq_solve hX he' fun _ _ _ _ _ _ _ _ _ _ _ _ _ H3 H4 => br_t rfl (br_t (bb_ext fun i _ => (H1 i).trans (H3 i).symm) (br_t (bb_ext fun i _ => (H2 i).trans (H4 i).symm) (ye_ (fun _ => br_f bb_10 (ye_ (fun _ => br_f bb_10 ⟨rfl, zz_in hX hT hE⟩) (fun z => absurd he' z))) (fun z => absurd he z)))))) (fun he' => br_t rfl (ye_ (fun _ => br_f bb_10 (ye_ (fun z => absurd z he') (fun _ => br_t rfl ⟨rfl, zz_in hX hT hE⟩))) (fun z => absurd he z))))) (fun he => br_t rfl (ye_ (fun z => absurd z he) (fun _ => br_t rfl ⟨rfl, zz_in hX hT hE⟩)))
theorem i_vc_block {k : Nat} {u : SX} {v : SY} (I : i_Rel k u v) (hk : k + 3 ≤ 1536) (v1 : Int32) : wpX_block (fun r u' => wpY_block (fun r' => r' = r ∧ i_Rel (k + 3) u' v) v v1) u v1 := by
  refine zz_el (Q := fun u v => wpX_block (fun r u' => wpY_block (fun r' => r' = r ∧ i_Rel (k + 3) u' v) v v1) u v1) ?_ I
  intro n P A B f_present f_groupCount f_bridgeSet f_hingeSet f_walked a_endA a_endB a_number a_walkPoint a_parent a_parentLine a_lowest a_nextLine a_stack a_marked a_pointRoot a_lineRoot a_between a_melted a_pull a_left a_cameFrom a_queue a_matrix a_dist a_there a_as a_bs hX hT hE
  refine xq_block hX (fun j m _ _ _ _ _ _ e pj hm => yk_ hX.1 hT hE hX.2.1 (fun i r e' pi hr => ?_) (fun z => absurd pj (z j (hX.1.2 j pj).1 e))) (fun z => yk_ hX.1 hT hE hX.2.1 (fun j r e pj _ => absurd pj (z j (hX.1.2 j pj).1 e)) (fun _ => ⟨rfl, zz_in hX hT hE⟩))
  have ij : i = j := (nI_eq (by have := (hX.1.2 i pi).1; omega) (by have := (hX.1.2 j pj).1; omega)).mp (e'.symm.trans e)
  subst ij
  exact ⟨bb_ext fun v _ => (hr v).trans (hm v).symm, zz_in hX hT hE⟩
theorem i_vc_island {k : Nat} {u : SX} {v : SY} (I : i_Rel k u v) (hk : k + 3 ≤ 1536) (v1 : Int32) : wpX_island (fun r u' => wpY_island (fun r' => r' = r ∧ i_Rel (k + 3) u' v) v v1) u v1 := by
  refine zz_el (Q := fun u v => wpX_island (fun r u' => wpY_island (fun r' => r' = r ∧ i_Rel (k + 3) u' v) v v1) u v1) ?_ I
  intro n P A B f_present f_groupCount f_bridgeSet f_hingeSet f_walked a_endA a_endB a_number a_walkPoint a_parent a_parentLine a_lowest a_nextLine a_stack a_marked a_pointRoot a_lineRoot a_between a_melted a_pull a_left a_cameFrom a_queue a_matrix a_dist a_there a_as a_bs hX hT hE
  have n8 := hX.1.1.2
  refine xd_island hX (fun j m _ _ _ _ _ _ _ _ _ _ _ _ _ e hj hm => yq_ hX.1 hT hE hX.2.1 (fun i r e' hi hr => ?_) (fun z => (z j hj e).elim)) (fun z => yq_ hX.1 hT hE hX.2.1 (fun j r e hj _ => (z j hj e).elim) (fun _ => ⟨rfl, zz_in hX hT hE⟩))
  have ij : i = j := (nI_eq (by omega) (by omega)).mp (e'.symm.trans e)
  subst ij
  exact ⟨bb_ext fun v _ => (hr v).trans (hm v).symm, zz_in hX hT hE⟩
theorem i_vc_weakest {k : Nat} {u : SX} {v : SY} (I : i_Rel k u v) (hk : k + 3 ≤ 1536) : wpX_weakest (fun r u' => wpY_weakest (fun r' => r' = r ∧ i_Rel (k + 3) u' v) v) u := by
  refine zz_el (Q := fun u v => wpX_weakest (fun r u' => wpY_weakest (fun r' => r' = r ∧ i_Rel (k + 3) u' v) v) u) ?_ I
  intro n P A B f_present f_groupCount f_bridgeSet f_hingeSet f_walked a_endA a_endB a_number a_walkPoint a_parent a_parentLine a_lowest a_nextLine a_stack a_marked a_pointRoot a_lineRoot a_between a_melted a_pull a_left a_cameFrom a_queue a_matrix a_dist a_there a_as a_bs hX hT hE
  exact xg_weak hX (fun b _ _ _ _ _ _ _ _ _ _ _ _ _ _ _ _ n2 c1 hb => yf_weak hX.1 hT hE hX.2.1 (fun b' _ _ hb' => ⟨by rw [mc_uq hb' hb], zz_in hX hT hE⟩) (fun z => absurd ⟨n2, c1⟩ z)) (fun _ _ _ _ _ _ _ _ _ _ _ _ _ no => yf_weak hX.1 hT hE hX.2.1 (fun b' n2 c1 _ => absurd ⟨n2, c1⟩ no) (fun _ => ⟨rfl, zz_in hX hT hE⟩))
theorem i_vc_fragile {k : Nat} {u : SX} {v : SY} (I : i_Rel k u v) (hk : k + 3 ≤ 1536) : wpX_fragile (fun r u' => wpY_fragile (fun r' => r' = r ∧ i_Rel (k + 3) u' v) v) u := by
  refine zz_el (Q := fun u v => wpX_fragile (fun r u' => wpY_fragile (fun r' => r' = r ∧ i_Rel (k + 3) u' v) v) u) ?_ I
  intro n P A B f_present f_groupCount f_bridgeSet f_hingeSet f_walked a_endA a_endB a_number a_walkPoint a_parent a_parentLine a_lowest a_nextLine a_stack a_marked a_pointRoot a_lineRoot a_between a_melted a_pull a_left a_cameFrom a_queue a_matrix a_dist a_there a_as a_bs hX hT hE
  exact xy_frag hX (fun b _ _ _ _ _ _ _ _ _ _ _ _ _ _ _ _ _ n2 c1 hb => yr_frag hX.1 hT hE hX.2.1 (fun b' _ _ hb' => ⟨by rw [fr_uq hb' hb], zz_in hX hT hE⟩) (fun z => absurd ⟨n2, c1⟩ z)) (fun _ _ _ _ _ _ _ _ _ _ _ _ _ no => yr_frag hX.1 hT hE hX.2.1 (fun b' n2 c1 _ => absurd ⟨n2, c1⟩ no) (fun _ => ⟨rfl, zz_in hX hT hE⟩))
theorem i_vc_trees {k : Nat} {u : SX} {v : SY} (I : i_Rel k u v) (hk : k + 3 ≤ 1536) : wpX_trees (fun r u' => wpY_trees (fun r' => r' = r ∧ i_Rel (k + 3) u' v) v) u := by
  refine zz_el (Q := fun u v => wpX_trees (fun r u' => wpY_trees (fun r' => r' = r ∧ i_Rel (k + 3) u' v) v) u) ?_ I
  intro n P A B f_present f_groupCount f_bridgeSet f_hingeSet f_walked a_endA a_endB a_number a_walkPoint a_parent a_parentLine a_lowest a_nextLine a_stack a_marked a_pointRoot a_lineRoot a_between a_melted a_pull a_left a_cameFrom a_queue a_matrix a_dist a_there a_as a_bs hX hT hE
  exact xj_trees hX fun a_between a_matrix => yx_trees hX.1 hT hE hX.2.1 ⟨rfl, zz_in hX hT hE⟩
theorem i_vc_shortest {k : Nat} {u : SX} {v : SY} (I : i_Rel k u v) (hk : k + 3 ≤ 1536) : wpX_shortest (fun r u' => wpY_shortest (fun r' => r' = r ∧ i_Rel (k + 3) u' v) v) u := by
  refine zz_el (Q := fun u v => wpX_shortest (fun r u' => wpY_shortest (fun r' => r' = r ∧ i_Rel (k + 3) u' v) v) u) ?_ I
  intro n P A B f_present f_groupCount f_bridgeSet f_hingeSet f_walked a_endA a_endB a_number a_walkPoint a_parent a_parentLine a_lowest a_nextLine a_stack a_marked a_pointRoot a_lineRoot a_between a_melted a_pull a_left a_cameFrom a_queue a_matrix a_dist a_there a_as a_bs hX hT hE
  exact ⟨17, xz_short hX sh_0 sh_1 sh_2 (sh_R n P A B) (fun _ _ => rfl) sh_R2 (fun a_dist => ⟨17, yz_short hX.1 hT hE hX.2.1 sh_0 sh_1 sh_2 (sh_R n P A B) (fun _ _ => rfl) sh_R2 ⟨rfl, zz_in hX hT hE⟩ 16 0 rfl⟩) 16 0 _ rfl⟩
theorem i_vc_around {k : Nat} {u : SX} {v : SY} (I : i_Rel k u v) (hk : k + 3 ≤ 1536) (v1 : Int32) : wpX_around (fun r u' => wpY_around (fun r' => r' = r ∧ i_Rel (k + 3) u' v) v v1) u v1 := by
  refine zz_el (Q := fun u v => wpX_around (fun r u' => wpY_around (fun r' => r' = r ∧ i_Rel (k + 3) u' v) v v1) u v1) ?_ I
  intro n P A B f_present f_groupCount f_bridgeSet f_hingeSet f_walked a_endA a_endB a_number a_walkPoint a_parent a_parentLine a_lowest a_nextLine a_stack a_marked a_pointRoot a_lineRoot a_between a_melted a_pull a_left a_cameFrom a_queue a_matrix a_dist a_there a_as a_bs hX hT hE
  refine xz_ hX (fun j m a_dist e pj hm => yz_ hX.1 hT hE hX.2.1 (fun i r e' pi hr => ?_) (fun z => absurd pj (z j (hX.1.2 j pj).1 e))) (fun z => yz_ hX.1 hT hE hX.2.1 (fun j r e pj _ => absurd pj (z j (hX.1.2 j pj).1 e)) (fun _ => ⟨rfl, zz_in hX hT hE⟩))
  have ij : i = j := (nI_eq (by have := (hX.1.2 i pi).1; omega) (by have := (hX.1.2 j pj).1; omega)).mp (e'.symm.trans e)
  subst ij
  exact ⟨ar_uq hr hm, zz_in hX hT hE⟩
theorem i_vc_sides {k : Nat} {u : SX} {v : SY} (I : i_Rel k u v) (hk : k + 3 ≤ 1536) : wpX_sides (fun r u' => wpY_sides (fun r' => r' = r ∧ i_Rel (k + 3) u' v) v) u := by
  refine zz_el (Q := fun u v => wpX_sides (fun r u' => wpY_sides (fun r' => r' = r ∧ i_Rel (k + 3) u' v) v) u) ?_ I
  intro n P A B f_present f_groupCount f_bridgeSet f_hingeSet f_walked a_endA a_endB a_number a_walkPoint a_parent a_parentLine a_lowest a_nextLine a_stack a_marked a_pointRoot a_lineRoot a_between a_melted a_pull a_left a_cameFrom a_queue a_matrix a_dist a_there a_as a_bs hX hT hE
  have n8 := hX.1.1.2
  have hm : ∀ v, bt (nI (mk_n (sd_ n P A B n) n)) v = true ↔ sd_ n P A B n v := by
    intro v
    have lt := mk_nlt (sd_ n P A B n) n
    have p8 : 2 ^ n ≤ 2 ^ 8 := Nat.pow_le_pow_right (by decide) n8
    rw [bt_n (by omega), mk_nb]
    exact ⟨fun z => z.2, fun z => ⟨by obtain ⟨q, a, b, c⟩ := z; exact ev_n b.1 c, z⟩⟩
  exact xv_sides hX hm (fun a_dist h => yv_sides hX.1 hT hE hX.2.1 hm (fun _ => ⟨rfl, zz_in hX hT hE⟩) (fun ⟨k, pk, w⟩ => absurd w (h k pk))) (fun a_dist ⟨k, pk, w⟩ => yv_sides hX.1 hT hE hX.2.1 hm (fun h => absurd w (h k pk)) (fun _ => ⟨rfl, zz_in hX hT hE⟩))
end
