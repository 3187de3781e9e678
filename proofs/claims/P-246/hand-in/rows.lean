section
/-! pure rows to paste: stores, nI and lN arithmetic, masks, shifts, narrowing, branches by naturals (pk_le, pk_lt, pk_eq), loops (lp1 .. lp16: the measure of the state; rp1 ..: recursion), negatives. Take what you need -/
theorem pk_us {f : Nat → Int32} {k : Nat} {x : Int32} : upd f k x k = x := if_pos rfl
theorem pk_un {f : Nat → Int32} {k j : Nat} {x : Int32} (h : j ≠ k) : upd f k x j = f j := if_neg h
theorem pk_uLs {f : Nat → Int64} {k : Nat} {x : Int64} : vp_updL f k x k = x := if_pos rfl
theorem pk_uLn {f : Nat → Int64} {k j : Nat} {x : Int64} (h : j ≠ k) : vp_updL f k x j = f j := if_neg h
theorem pk_sub {a b : Nat} (h : b ≤ a) : nI a - nI b = nI (a - b) := by
  obtain ⟨c, rfl⟩ : ∃ c, a = c + b := ⟨a - b, by omega⟩
  rw [← nI_add, Int32.add_sub_cancel, Nat.add_sub_cancel]
theorem pk_m1 (n : Nat) : nI (n + 1) + (-1) = nI n := by
  rw [← nI_1, Int32.add_assoc, show (1 : Int32) + (-1) = 0 from rfl, Int32.add_zero]
theorem pk_mul (a b : Nat) : nI a * nI b = nI (a * b) := (Int32.ofNat_mul a b).symm
theorem pk_div {a d : Nat} (ha : a < 2 ^ 31) (h0 : 0 < d) (hd : d < 2 ^ 31) : nI a / nI d = nI (a / d) := by
  apply Int32.toInt_inj.mp
  rw [lg_idiv_nonneg (by rw [nI_toInt ha]; omega) (by rw [nI_toInt hd]; omega), nI_toInt ha, nI_toInt hd, nI_toInt (Nat.lt_of_le_of_lt (Nat.div_le_self a d) ha)]
  first | rfl | exact (Int.natCast_ediv _ _).symm
theorem pk_rem {a d : Nat} (ha : a < 2 ^ 31) (h0 : 0 < d) (hd : d < 2 ^ 31) : nI a - nI a / nI d * nI d = nI (a % d) := by
  rw [pk_div ha h0 hd, pk_mul, pk_sub (Nat.div_mul_le_self a d)]
  exact congrArg nI (by have := Nat.div_add_mod' a d; omega)
theorem pk_sub_toInt {a b : Nat} (ha : a < 2 ^ 30) (hb : b < 2 ^ 30) : (nI a - nI b).toInt = (a : Int) - b := by
  rw [Int32.toInt_sub, nI_toInt (by omega), nI_toInt (by omega)]
  exact Int.bmod_eq_of_le (by omega) (by omega)
theorem pk_sneg {a b : Nat} (hb : b < 2 ^ 30) (h : a < b) : nI a - nI b < 0 := by
  rw [Int32.lt_iff_toInt_lt, pk_sub_toInt (by omega) hb, show (0 : Int32).toInt = 0 from by decide]
  omega
theorem pk_ix (x : Int32) {n : Nat} (hn : n < 2 ^ 31) : x < 0 ∨ nI n ≤ x ∨ ∃ j : Nat, j < n ∧ x = nI j := by
  by_cases h : x < 0
  · exact Or.inl h
  · obtain ⟨j, hj, rfl⟩ := nI_of h
    by_cases h2 : j < n
    · exact Or.inr (Or.inr ⟨j, h2, rfl⟩)
    · exact Or.inr (Or.inl (nI_le (by omega) hj))
theorem pk_le {x y : Int32} {A B : Prop} (a b : Nat) (f : a ≤ b → A) (g : b < a → B) (hx : x = nI a := by rfl) (hy : y = nI b := by rfl) (ha : a < 2 ^ 31 := by omega) (hb : b < 2 ^ 31 := by omega) : (x ≤ y → A) ∧ (¬ x ≤ y → B) := by
  subst hx hy
  rw [nI_leI ha hb]
  exact ⟨f, fun z => g (by omega)⟩
theorem pk_lt {x y : Int32} {A B : Prop} (a b : Nat) (f : a < b → A) (g : b ≤ a → B) (hx : x = nI a := by rfl) (hy : y = nI b := by rfl) (ha : a < 2 ^ 31 := by omega) (hb : b < 2 ^ 31 := by omega) : (x < y → A) ∧ (¬ x < y → B) := by
  subst hx hy
  rw [nI_ltI ha hb]
  exact ⟨f, fun z => g (by omega)⟩
theorem pk_eq {x y : Int32} {A B : Prop} (a b : Nat) (f : a = b → A) (g : a ≠ b → B) (hx : x = nI a := by rfl) (hy : y = nI b := by rfl) (ha : a < 2 ^ 31 := by omega) (hb : b < 2 ^ 31 := by omega) : (x = y → A) ∧ (¬ x = y → B) := by
  subst hx hy
  rw [nI_eq ha hb]
  exact ⟨f, g⟩
theorem pk_in {x : Int32} (n N : Nat) (h : n < N) (hx : x = nI n := by rfl) (hN : N < 2 ^ 31 := by omega) : vp_in x N := by
  subst hx
  exact vp_in_nI h hN
theorem pk_cl {x : Int32} (n : Nat) (hx : x = nI n := by rfl) (h : n < 2 ^ 31 := by omega) : x.toNatClampNeg = n := by
  subst hx
  exact nI_clamp h
theorem pk_tn {n : Nat} (h : n < 2 ^ 32) : (nI n).toBitVec.toNat = n := Nat.mod_eq_of_lt h
theorem pk_and (x : Int32) {m : Int32} (k : Nat) (hm : m.toBitVec.toNat = 2 ^ k - 1) : x &&& m = nI (x.toBitVec.toNat % 2 ^ k) := by
  apply Int32.toBitVec_inj.mp
  apply BitVec.eq_of_toNat_eq
  rw [Int32.toBitVec_and, BitVec.toNat_and, hm, Nat.and_two_pow_sub_one_eq_mod]
  show _ = (BitVec.ofNat 32 _).toNat
  rw [BitVec.toNat_ofNat]
  exact (Nat.mod_eq_of_lt (Nat.lt_of_le_of_lt (Nat.mod_le _ _) x.toBitVec.isLt)).symm
theorem pk_andN {n : Nat} (h : n < 2 ^ 32) {m : Int32} (k : Nat) (hm : m.toBitVec.toNat = 2 ^ k - 1) : nI n &&& m = nI (n % 2 ^ k) := by
  rw [pk_and _ k hm, pk_tn h]
theorem pk_andE (x : Int32) {m : Int32} (k : Nat) (hm : m.toBitVec.toNat = 2 ^ k - 1) : ∃ j : Nat, j < 2 ^ k ∧ x &&& m = nI j := ⟨_, Nat.mod_lt _ (Nat.two_pow_pos k), pk_and x k hm⟩
theorem pk_andIn (x : Int32) {m : Int32} (k : Nat) (hm : m.toBitVec.toNat = 2 ^ k - 1) (hk : k ≤ 30) : vp_in (x &&& m) (2 ^ k) := by
  obtain ⟨j, hj, e⟩ := pk_andE x k hm
  rw [e]
  exact vp_in_nI hj (Nat.lt_of_le_of_lt (Nat.pow_le_pow_right (by decide) hk) (by decide))
theorem pk_shl (a s : Int32) (k : Nat) (hs : (s.toBitVec.smod 32).toNat = k) : (a <<< s).toBitVec.toNat = a.toBitVec.toNat * 2 ^ k % 2 ^ 32 := by
  show (a.toBitVec <<< (s.toBitVec.smod 32).toNat).toNat = _
  rw [hs, BitVec.toNat_shiftLeft, Nat.shiftLeft_eq]
theorem pk_shlN {n : Nat} (s : Int32) (k : Nat) (hs : (s.toBitVec.smod 32).toNat = k) (h : n * 2 ^ k < 2 ^ 32) : nI n <<< s = nI (n * 2 ^ k) := by
  apply Int32.toBitVec_inj.mp
  apply BitVec.eq_of_toNat_eq
  have hn : n < 2 ^ 32 := Nat.lt_of_le_of_lt (Nat.le_mul_of_pos_right n (Nat.two_pow_pos k)) h
  rw [pk_shl _ _ k hs, pk_tn hn, pk_tn h, Nat.mod_eq_of_lt h]
theorem pk_shr (a s : Int32) (k : Nat) (hs : (s.toBitVec.smod 32).toNat = k) : (a >>> s).toInt = a.toInt >>> k := by
  show (a.toBitVec.sshiftRight (s.toBitVec.smod 32).toNat).toInt = _
  rw [hs, BitVec.toInt_sshiftRight]
  rfl
theorem pk_shrN {n : Nat} (h : n < 2 ^ 31) (s : Int32) (k : Nat) (hs : (s.toBitVec.smod 32).toNat = k) : nI n >>> s = nI (n / 2 ^ k) := by
  apply Int32.toInt_inj.mp
  have h2 : n / 2 ^ k ≤ n := Nat.div_le_self _ _
  rw [pk_shr _ _ k hs, nI_toInt h, nI_toInt (by omega), Int.shiftRight_eq_div_pow]
  rfl
theorem pk_ushr (x s : Int32) (k : Nat) (hs : ((s.toUInt32 &&& Int32.toUInt32 31).toBitVec % 32).toNat = k) : (x.toUInt32 >>> (s.toUInt32 &&& Int32.toUInt32 31)).toInt32.toBitVec.toNat = x.toBitVec.toNat / 2 ^ k := by
  have e : (x.toUInt32 >>> (s.toUInt32 &&& Int32.toUInt32 31)).toInt32.toBitVec = x.toBitVec >>> k := by
    rw [← hs]
    exact UInt32.toBitVec_shiftRight _ _
  rw [e, BitVec.toNat_ushiftRight, Nat.shiftRight_eq_div_pow]
theorem pk_ushrN {n : Nat} (hn : n < 2 ^ 32) (s : Int32) (k : Nat) (hs : ((s.toUInt32 &&& Int32.toUInt32 31).toBitVec % 32).toNat = k) : ((nI n).toUInt32 >>> (s.toUInt32 &&& Int32.toUInt32 31)).toInt32 = nI (n / 2 ^ k) := by
  apply Int32.toBitVec_inj.mp
  apply BitVec.eq_of_toNat_eq
  rw [pk_ushr _ s k hs, pk_tn hn, pk_tn (Nat.lt_of_le_of_lt (Nat.div_le_self _ _) hn)]
theorem pk_nb (z : Int32) : narrow .byte (.int z.toInt8.toInt32) = .int z.toInt8.toInt32 := congrArg Value.int (by simp)
theorem pk_ns (z : Int32) : narrow .short (.int z.toInt16.toInt32) = .int z.toInt16.toInt32 := congrArg Value.int (by simp)
theorem pk_fb (r : Int32) : fits .byte (.int r.toInt8.toInt32) = true := by
  have ⟨a, b⟩ := lg_i2b_range r
  have h1 : (-128 : Int32).toInt = -128 := by decide
  have h2 : (127 : Int32).toInt = 127 := by decide
  simp only [fits, Bool.and_eq_true, decide_eq_true_eq, Int32.le_iff_toInt_le, h1, h2]
  omega
theorem pk_fs (r : Int32) : fits .short (.int r.toInt16.toInt32) = true := by
  have ⟨a, b⟩ := lg_i2s_range r
  have h1 : (-32768 : Int32).toInt = -32768 := by decide
  have h2 : (32767 : Int32).toInt = 32767 := by decide
  simp only [fits, Bool.and_eq_true, decide_eq_true_eq, Int32.le_iff_toInt_le, h1, h2]
  omega
theorem pk_charN {q : Nat} (hq : q < 65536) : narrow .char (.int (nI q)) = .int (nI q) ∧ fits .char (.int (nI q)) = true := by
  constructor
  · have e : (nI q).toUInt32.toUInt16.toUInt32.toInt32 = nI q := by
      apply Int32.toBitVec_inj.mp
      apply BitVec.eq_of_toNat_eq
      show (nI q).toUInt32.toUInt16.toUInt32.toNat = q % 2 ^ 32
      rw [UInt16.toNat_toUInt32, UInt32.toNat_toUInt16, show (nI q).toUInt32.toNat = q % 2 ^ 32 from rfl]
      omega
    exact congrArg Value.int e
  · have a : (0 : Int32) ≤ nI q := nI_pos' (by omega)
    have b : nI q ≤ 65535 := nI_le (b := 65535) (by omega) (by decide)
    show (decide ((0 : Int32) ≤ nI q) && decide (nI q ≤ 65535)) = true
    rw [decide_eq_true a, decide_eq_true b]
    rfl
theorem pk_char (x : Int32) : (x.toUInt32 % 65536).toInt32 = nI (x.toBitVec.toNat % 65536) := by
  apply Int32.toBitVec_inj.mp
  apply BitVec.eq_of_toNat_eq
  rw [pk_tn (by omega)]
  show (x.toUInt32 % 65536).toNat = _
  rw [UInt32.toNat_mod]
  rfl
theorem pk_nc (x : Int32) : narrow .char (.int (x.toUInt32 % 65536).toInt32) = .int (x.toUInt32 % 65536).toInt32 := by
  rw [pk_char]
  exact (pk_charN (Nat.mod_lt _ (by decide))).1
theorem pk_fc (x : Int32) : fits .char (.int (x.toUInt32 % 65536).toInt32) = true := by
  rw [pk_char]
  exact (pk_charN (Nat.mod_lt _ (by decide))).2
theorem pk_vb (z : Int32) : vp_nar .byte z.toInt8.toInt32 = z.toInt8.toInt32 := by rw [vp_nar_byte]; simp
theorem pk_vs (z : Int32) : vp_nar .short z.toInt16.toInt32 = z.toInt16.toInt32 := by rw [vp_nar_short]; simp
theorem pk_vc (z : Int32) : vp_nar .char (z.toUInt32 % 65536).toInt32 = (z.toUInt32 % 65536).toInt32 := Value.int.inj (pk_nc z)
theorem pk_lT {n : Nat} (h : n < 2 ^ 63) : (lN n).toInt = (n : Int) := lg_ofNat_toInt h
theorem pk_lLT {a b : Nat} (ha : a < 2 ^ 63) (hb : b < 2 ^ 63) : lN a < lN b ↔ a < b := by
  rw [Int64.lt_iff_toInt_lt, pk_lT ha, pk_lT hb]; omega
theorem pk_lLE {a b : Nat} (ha : a < 2 ^ 63) (hb : b < 2 ^ 63) : lN a ≤ lN b ↔ a ≤ b := by
  rw [Int64.le_iff_toInt_le, pk_lT ha, pk_lT hb]; omega
theorem pk_lEQ {a b : Nat} (ha : a < 2 ^ 63) (hb : b < 2 ^ 63) : lN a = lN b ↔ a = b := by
  rw [← Int64.toInt_inj, pk_lT ha, pk_lT hb]; omega
theorem pk_lOf {x : Int64} (h : ¬ x < 0) : ∃ k : Nat, k < 2 ^ 63 ∧ x = lN k := by
  rw [Int64.lt_iff_toInt_lt] at h
  have h0 : (0 : Int64).toInt = 0 := by decide
  have hx := Int64.toInt_lt x
  refine ⟨x.toInt.toNat, by omega, Int64.toInt_inj.mp ?_⟩
  rw [pk_lT (by omega)]
  omega
theorem pk_lDiv {a b : Nat} (ha : a < 2 ^ 63) (h0 : 0 < b) (hb : b < 2 ^ 63) : lN a / lN b = lN (a / b) := by
  apply Int64.toInt_inj.mp
  rw [lg_ldiv_nonneg (by rw [pk_lT ha]; omega) (by rw [pk_lT hb]; omega), pk_lT ha, pk_lT hb, pk_lT (Nat.lt_of_le_of_lt (Nat.div_le_self a b) ha)]
  rfl
theorem pk_lRem {a b : Nat} (ha : a < 2 ^ 63) (h0 : 0 < b) (hb : b < 2 ^ 63) : lN a - lN a / lN b * lN b = lN (a % b) := by
  rw [pk_lDiv ha h0 hb, lN_mul, lN_sub (Nat.div_mul_le_self a b)]
  exact congrArg lN (by have := Nat.div_add_mod' a b; omega)
theorem pk_loop {σ : Type} (W : Nat → Nat → σ → Prop) (I : Nat → σ → Prop) (e i0 : Nat) (s : σ) (hi : i0 ≤ e) (h0 : I i0 s) (hx : ∀ n s, I e s → W (n + 1) e s)
    (hs : ∀ n i s, i < e → I i s → (∀ s', I (i + 1) s' → W n (i + 1) s') → W (n + 1) i s) : ∃ n, W n i0 s :=
  ⟨e + 1, loop_i W I e hx hs (e + 1) i0 s hi (by omega) h0⟩
theorem pk_loopD {σ : Type} (W : Nat → Nat → σ → Prop) (I : Nat → σ → Prop) (hx : ∀ n s, I 0 s → W (n + 1) 0 s)
    (hs : ∀ n i s, I (i + 1) s → (∀ s', I i s' → W n i s') → W (n + 1) (i + 1) s) : ∀ (e : Nat) (s : σ), I e s → W (e + 1) e s := by
  intro e
  induction e with
  | zero => exact fun s h => hx 0 s h
  | succ e ih => exact fun s h => hs (e + 1) e s h (fun s' h' => ih s' h')
end
section
/-! the plain law: counts, the base of the relation, the order of use -/
abbrev pc_lv (x : Int32) : Prop := x = 1 ∨ x = 2 ∨ x = 3
def pc_b (x : Int32) : Nat := if pc_lv x then 1 else 0
def pc_by (x : Int32) : Nat := if x = 0 then 0 else 1
def pc_cn (f : Int32 → Nat) (a : Nat → Int32) : Nat → Nat
  | 0 => 0
  | n + 1 => pc_cn f a n + f (a n)
def pc_hm (k : Int64) : Nat := ((k ^^^ ((k.toUInt64 >>> ((32 : Int32).toInt64.toUInt64 &&& Int64.toUInt64 63)).toInt64)).toInt32).toBitVec.toNat % 2 ^ 2
def pc_ch (t : Int64) (j : Nat) : Int32 := (((((t.toUInt64 >>> ((16 * nI j).toInt64.toUInt64 &&& Int64.toUInt64 63)).toInt64).toInt32).toUInt32 % 65536).toInt32)
theorem pc_hm4 (k : Int64) : pc_hm k < 4 := Nat.mod_lt _ (by decide)
theorem pc_nz {x : Int32} (h : pc_lv x) : x ≠ 0 := by
  rcases h with rfl | rfl | rfl <;> decide
theorem pc_n4 {x : Int32} (h : pc_lv x) : x ≠ 4 := by
  rcases h with rfl | rfl | rfl <;> decide
theorem pc_l0 : ¬ pc_lv 0 := by decide
theorem pc_l4 : ¬ pc_lv 4 := by decide
theorem pc_cn4 (f : Int32 → Nat) (a : Nat → Int32) : pc_cn f a 4 = f (a 0) + f (a 1) + f (a 2) + f (a 3) := by
  simp [pc_cn]
theorem pc_cnp {f : Int32 → Nat} {a b : Nat → Int32} {s : Nat} (hs : s < 4) (h : ∀ j, j ≠ s → b j = a j) : pc_cn f b 4 + f (a s) = pc_cn f a 4 + f (b s) := by
  rw [pc_cn4, pc_cn4]
  have c : s = 0 ∨ s = 1 ∨ s = 2 ∨ s = 3 := by omega
  rcases c with rfl | rfl | rfl | rfl
  · rw [h 1 (by decide), h 2 (by decide), h 3 (by decide)]; omega
  · rw [h 0 (by decide), h 2 (by decide), h 3 (by decide)]; omega
  · rw [h 0 (by decide), h 1 (by decide), h 3 (by decide)]; omega
  · rw [h 0 (by decide), h 1 (by decide), h 2 (by decide)]; omega
theorem pc_cne {f : Int32 → Nat} {a b : Nat → Int32} (h : ∀ j, j < 4 → f (b j) = f (a j)) : pc_cn f b 4 = pc_cn f a 4 := by
  rw [pc_cn4, pc_cn4, h 0 (by decide), h 1 (by decide), h 2 (by decide), h 3 (by decide)]
theorem pc_b1 {x : Int32} (h : pc_lv x) : pc_b x = 1 := if_pos h
theorem pc_b0 {x : Int32} (h : ¬ pc_lv x) : pc_b x = 0 := if_neg h
theorem pc_y1 {x : Int32} (h : x ≠ 0) : pc_by x = 1 := if_neg h
theorem pc_y0 {x : Int32} (h : x = 0) : pc_by x = 0 := if_pos h
theorem pc_ble (x : Int32) : pc_b x ≤ 1 := by
  unfold pc_b; split <;> omega
theorem pc_le4 (st : Nat → Int32) : pc_cn pc_b st 4 ≤ 4 := by
  rw [pc_cn4]
  have h0 := pc_ble (st 0)
  have h1 := pc_ble (st 1)
  have h2 := pc_ble (st 2)
  have h3 := pc_ble (st 3)
  omega
theorem pc_fr {st : Nat → Int32} (h : pc_cn pc_b st 4 < 4) : ∃ s, s < 4 ∧ ¬ pc_lv (st s) := by
  apply Classical.byContradiction
  intro hn
  have a : ∀ s, s < 4 → pc_b (st s) = 1 := fun s hs => pc_b1 (Classical.byContradiction fun z => hn ⟨s, hs, z⟩)
  rw [pc_cn4, a 0 (by decide), a 1 (by decide), a 2 (by decide), a 3 (by decide)] at h
  exact absurd h (by decide)
theorem pc_fry {sy : Nat → Int32} (h : pc_cn pc_by sy 4 < 4) : ∃ s, s < 4 ∧ sy s = 0 := by
  apply Classical.byContradiction
  intro hn
  have a : ∀ s, s < 4 → pc_by (sy s) = 1 := fun s hs => pc_y1 (fun z => hn ⟨s, hs, z⟩)
  rw [pc_cn4, a 0 (by decide), a 1 (by decide), a 2 (by decide), a 3 (by decide)] at h
  exact absurd h (by decide)
/-- the base: M s i says that slot s of the component and row i of the reference hold the same plan -/
def pc_B (n : Nat) (M : Nat → Nat → Prop) (pk : Nat → Int64) (tx ru se cv st : Nat → Int32) (ky : Nat → Int64) (ty ry sz ve sy : Nat → Int32) : Prop :=
  (∀ s, s < 4 → st s = 0 ∨ st s = 4 ∨ pc_lv (st s)) ∧
  (∀ s, s < 4 → pc_lv (st s) → ∃ i, M s i) ∧
  (∀ i, i < 4 → sy i ≠ 0 → ∃ s, M s i) ∧
  (∀ s i, M s i → s < 4 ∧ i < 4 ∧ pc_lv (st s) ∧ sy i = st s ∧ pk s = ky i ∧ ru s = ry i ∧ se s = sz i ∧ cv s = ve i ∧ ∀ j, j < 4 → tx (s * 4 + j) = ty (i * 4 + j)) ∧
  (∀ s i s' i', M s i → M s' i' → (s = s' ↔ i = i')) ∧
  (∀ s i s' i', M s i → M s' i' → pk s = pk s' → (∀ j, j < 4 → tx (s * 4 + j) = tx (s' * 4 + j)) → s = s') ∧
  (∀ s i, M s i → ∃ e, e < 4 ∧ s = (pc_hm (pk s) + e) % 4 ∧ ∀ f, f < e → st ((pc_hm (pk s) + f) % 4) ≠ 0) ∧
  pc_cn pc_b st 4 = n ∧ pc_cn pc_by sy 4 = n
section
variable {n : Nat} {M : Nat → Nat → Prop} {pk pk' : Nat → Int64} {tx ru se cv st tx' ru' se' cv' st' : Nat → Int32} {ky ky' : Nat → Int64} {ty ry sz ve sy ty' ry' sz' ve' sy' : Nat → Int32} {s0 i0 : Nat}
theorem pc_Bset (B : pc_B n M pk tx ru se cv st ky ty ry sz ve sy) (m : M s0 i0)
    (hx : ∀ j, j ≠ s0 → ru' j = ru j ∧ se' j = se j ∧ cv' j = cv j ∧ st' j = st j)
    (hy : ∀ j, j ≠ i0 → ry' j = ry j ∧ sz' j = sz j ∧ ve' j = ve j ∧ sy' j = sy j)
    (h0 : ru' s0 = ry' i0 ∧ se' s0 = sz' i0 ∧ cv' s0 = ve' i0 ∧ sy' i0 = st' s0) (hl : pc_lv (st' s0)) :
    pc_B n M pk tx ru' se' cv' st' ky ty ry' sz' ve' sy' := by
  obtain ⟨b1, b2, b3, b4, b5, b6, b7, b8, b9⟩ := B
  obtain ⟨m1, m2, m3, m4, _⟩ := b4 s0 i0 m
  refine ⟨?_, ?_, ?_, ?_, b5, b6, ?_, ?_, ?_⟩
  · intro s hs
    by_cases e : s = s0
    · rw [e]; exact Or.inr (Or.inr hl)
    · rw [(hx s e).2.2.2]; exact b1 s hs
  · intro s hs h
    by_cases e : s = s0
    · rw [e]; exact ⟨i0, m⟩
    · rw [(hx s e).2.2.2] at h; exact b2 s hs h
  · intro i hi h
    by_cases e : i = i0
    · rw [e]; exact ⟨s0, m⟩
    · rw [(hy i e).2.2.2] at h; exact b3 i hi h
  · intro s i h
    obtain ⟨c1, c2, c3, c4, c5, c6, c7, c8, c9⟩ := b4 s i h
    by_cases e : s = s0
    · have e' : i = i0 := (b5 s i s0 i0 h m).mp e
      subst e e'
      exact ⟨c1, c2, hl, h0.2.2.2, c5, h0.1, h0.2.1, h0.2.2.1, c9⟩
    · have e' : i ≠ i0 := fun z => e ((b5 s i s0 i0 h m).mpr z)
      obtain ⟨x1, x2, x3, x4⟩ := hx s e
      obtain ⟨y1, y2, y3, y4⟩ := hy i e'
      rw [x1, x2, x3, x4, y1, y2, y3, y4]
      exact ⟨c1, c2, c3, c4, c5, c6, c7, c8, c9⟩
  · intro s i h
    obtain ⟨e, he, h1, h2⟩ := b7 s i h
    refine ⟨e, he, h1, fun f hf => ?_⟩
    by_cases z : (pc_hm (pk s) + f) % 4 = s0
    · rw [z]; exact pc_nz hl
    · rw [(hx _ z).2.2.2]; exact h2 f hf
  · rw [← b8]
    refine pc_cne fun j hj => ?_
    by_cases e : j = s0
    · rw [e, pc_b1 hl, pc_b1 m3]
    · rw [(hx j e).2.2.2]
  · rw [← b9]
    refine pc_cne fun j hj => ?_
    by_cases e : j = i0
    · rw [e, pc_y1 (x := sy' i0) (by rw [h0.2.2.2]; exact pc_nz hl), pc_y1 (x := sy i0) (by rw [m4]; exact pc_nz m3)]
    · rw [(hy j e).2.2.2]
theorem pc_Bdel (B : pc_B n M pk tx ru se cv st ky ty ry sz ve sy) (m : M s0 i0)
    (hx : ∀ j, j ≠ s0 → st' j = st j) (h4 : st' s0 = 4)
    (hy : ∀ j, j ≠ i0 → ky' j = ky j ∧ sy' j = sy j) (hz : sy' i0 = 0) :
    pc_B (n - 1) (fun s i => M s i ∧ s ≠ s0) pk tx ru se cv st' ky' ty ry sz ve sy' := by
  obtain ⟨b1, b2, b3, b4, b5, b6, b7, b8, b9⟩ := B
  obtain ⟨m1, m2, m3, m4, _⟩ := b4 s0 i0 m
  refine ⟨?_, ?_, ?_, ?_, ?_, ?_, ?_, ?_, ?_⟩
  · intro s hs
    by_cases e : s = s0
    · rw [e]; exact Or.inr (Or.inl h4)
    · rw [hx s e]; exact b1 s hs
  · intro s hs h
    by_cases e : s = s0
    · rw [e, h4] at h; exact absurd h pc_l4
    · rw [hx s e] at h
      obtain ⟨i, hi⟩ := b2 s hs h
      exact ⟨i, hi, e⟩
  · intro i hi h
    by_cases e : i = i0
    · rw [e] at h; exact absurd hz h
    · rw [(hy i e).2] at h
      obtain ⟨s, hs⟩ := b3 i hi h
      exact ⟨s, hs, fun z => e ((b5 s i s0 i0 hs m).mp z)⟩
  · intro s i h
    obtain ⟨c1, c2, c3, c4, c5, c6, c7, c8, c9⟩ := b4 s i h.1
    have e' : i ≠ i0 := fun z => h.2 ((b5 s i s0 i0 h.1 m).mpr z)
    rw [hx s h.2, (hy i e').1, (hy i e').2]
    exact ⟨c1, c2, c3, c4, c5, c6, c7, c8, c9⟩
  · exact fun s i s' i' h h' => b5 s i s' i' h.1 h'.1
  · exact fun s i s' i' h h' => b6 s i s' i' h.1 h'.1
  · intro s i h
    obtain ⟨e, he, h1, h2⟩ := b7 s i h.1
    refine ⟨e, he, h1, fun f hf => ?_⟩
    by_cases z : (pc_hm (pk s) + f) % 4 = s0
    · rw [z, h4]; decide
    · rw [hx _ z]; exact h2 f hf
  · have c := pc_cnp (f := pc_b) m1 hx
    rw [pc_b1 m3, h4, pc_b0 pc_l4, b8] at c
    clear b1 b2 b3 b4 b5 b6 b7
    omega
  · have c := pc_cnp (f := pc_by) m2 (fun j hj => (hy j hj).2)
    rw [pc_y1 (x := sy i0) (by rw [m4]; exact pc_nz m3), pc_y0 hz, b9] at c
    clear b1 b2 b3 b4 b5 b6 b7
    omega
theorem pc_Bins {k t : Int64} (B : pc_B n M pk tx ru se cv st ky ty ry sz ve sy) (hs0 : s0 < 4) (hi0 : i0 < 4) (hn : ¬ pc_lv (st s0)) (hz : sy i0 = 0)
    (hu : ∀ s i, M s i → ¬ (pk s = k ∧ ∀ j, j < 4 → tx (s * 4 + j) = pc_ch t j))
    (hp : ∃ e, e < 4 ∧ s0 = (pc_hm k + e) % 4 ∧ ∀ f, f < e → st ((pc_hm k + f) % 4) ≠ 0)
    (hx : ∀ j, j ≠ s0 → pk' j = pk j ∧ ru' j = ru j ∧ se' j = se j ∧ cv' j = cv j ∧ st' j = st j ∧ ∀ q, q < 4 → tx' (j * 4 + q) = tx (j * 4 + q))
    (hy : ∀ j, j ≠ i0 → ky' j = ky j ∧ ry' j = ry j ∧ sz' j = sz j ∧ ve' j = ve j ∧ sy' j = sy j ∧ ∀ q, q < 4 → ty' (j * 4 + q) = ty (j * 4 + q))
    (h0 : ru' s0 = ry' i0 ∧ se' s0 = sz' i0 ∧ cv' s0 = ve' i0 ∧ sy' i0 = st' s0) (hk : pk' s0 = k ∧ ky' i0 = k)
    (ht : ∀ q, q < 4 → tx' (s0 * 4 + q) = pc_ch t q ∧ ty' (i0 * 4 + q) = pc_ch t q) (hl : pc_lv (st' s0)) :
    pc_B (n + 1) (fun s i => M s i ∨ (s = s0 ∧ i = i0)) pk' tx' ru' se' cv' st' ky' ty' ry' sz' ve' sy' := by
  obtain ⟨b1, b2, b3, b4, b5, b6, b7, b8, b9⟩ := B
  have ns : ∀ s i, M s i → s ≠ s0 := fun s i h e => hn (e ▸ (b4 s i h).2.2.1)
  have ni : ∀ s i, M s i → i ≠ i0 := fun s i h e => by
    have c := b4 s i h
    have c4 := c.2.2.2.1
    rw [e, hz] at c4
    exact pc_nz c.2.2.1 c4.symm
  have nst : ∀ q, st q ≠ 0 → st' q ≠ 0 := fun q h => by
    by_cases z : q = s0
    · rw [z]; exact pc_nz hl
    · rw [(hx q z).2.2.2.2.1]; exact h
  refine ⟨?_, ?_, ?_, ?_, ?_, ?_, ?_, ?_, ?_⟩
  · intro s hs
    by_cases e : s = s0
    · rw [e]; exact Or.inr (Or.inr hl)
    · rw [(hx s e).2.2.2.2.1]; exact b1 s hs
  · intro s hs h
    by_cases e : s = s0
    · exact ⟨i0, Or.inr ⟨e, rfl⟩⟩
    · rw [(hx s e).2.2.2.2.1] at h
      obtain ⟨i, hi⟩ := b2 s hs h
      exact ⟨i, Or.inl hi⟩
  · intro i hi h
    by_cases e : i = i0
    · exact ⟨s0, Or.inr ⟨rfl, e⟩⟩
    · rw [(hy i e).2.2.2.2.1] at h
      obtain ⟨s, hs⟩ := b3 i hi h
      exact ⟨s, Or.inl hs⟩
  · intro s i h
    rcases h with h | ⟨rfl, rfl⟩
    · obtain ⟨c1, c2, c3, c4, c5, c6, c7, c8, c9⟩ := b4 s i h
      obtain ⟨x1, x2, x3, x4, x5, x6⟩ := hx s (ns s i h)
      obtain ⟨y1, y2, y3, y4, y5, y6⟩ := hy i (ni s i h)
      rw [x1, x2, x3, x4, x5, y1, y2, y3, y4, y5]
      exact ⟨c1, c2, c3, c4, c5, c6, c7, c8, fun j hj => by rw [x6 j hj, y6 j hj]; exact c9 j hj⟩
    · exact ⟨hs0, hi0, hl, h0.2.2.2, hk.1.trans hk.2.symm, h0.1, h0.2.1, h0.2.2.1, fun j hj => (ht j hj).1.trans (ht j hj).2.symm⟩
  · intro s i s' i' h h'
    rcases h with h | ⟨e1, e2⟩
    · rcases h' with h' | ⟨e3, e4⟩
      · exact b5 s i s' i' h h'
      · exact ⟨fun z => absurd (z.trans e3) (ns s i h), fun z => absurd (z.trans e4) (ni s i h)⟩
    · rcases h' with h' | ⟨e3, e4⟩
      · exact ⟨fun z => absurd (z.symm.trans e1) (ns s' i' h'), fun z => absurd (z.symm.trans e2) (ni s' i' h')⟩
      · exact ⟨fun _ => e2.trans e4.symm, fun _ => e1.trans e3.symm⟩
  · intro s i s' i' h h' ep et
    rcases h with h | ⟨e1, e2⟩
    · have x := hx s (ns s i h)
      rcases h' with h' | ⟨e3, e4⟩
      · have x' := hx s' (ns s' i' h')
        refine b6 s i s' i' h h' (by rw [← x.1, ← x'.1]; exact ep) fun j hj => ?_
        rw [← x.2.2.2.2.2 j hj, ← x'.2.2.2.2.2 j hj]; exact et j hj
      · refine absurd ⟨?_, fun j hj => ?_⟩ (hu s i h)
        · rw [← x.1, ep, e3]; exact hk.1
        · rw [← x.2.2.2.2.2 j hj, et j hj, e3]; exact (ht j hj).1
    · rcases h' with h' | ⟨e3, e4⟩
      · have x := hx s' (ns s' i' h')
        refine absurd ⟨?_, fun j hj => ?_⟩ (hu s' i' h')
        · rw [← x.1, ← ep, e1]; exact hk.1
        · rw [← x.2.2.2.2.2 j hj, ← et j hj, e1]; exact (ht j hj).1
      · exact e1.trans e3.symm
  · intro s i h
    rcases h with h | ⟨e1, e2⟩
    · obtain ⟨e, he, h1, h2⟩ := b7 s i h
      rw [(hx s (ns s i h)).1]
      exact ⟨e, he, h1, fun f hf => nst _ (h2 f hf)⟩
    · obtain ⟨e, he, h1, h2⟩ := hp
      rw [e1, hk.1]
      exact ⟨e, he, h1, fun f hf => nst _ (h2 f hf)⟩
  · have c := pc_cnp (f := pc_b) hs0 (fun j hj => (hx j hj).2.2.2.2.1)
    rw [pc_b1 hl, pc_b0 hn, b8] at c
    exact c
  · have c := pc_cnp (f := pc_by) hi0 (fun j hj => (hy j hj).2.2.2.2.1)
    rw [pc_y1 (x := sy' i0) (by rw [h0.2.2.2]; exact pc_nz hl), pc_y0 hz, b9] at c
    exact c
end
/-- the order of use: ranks of the component against ages of the reference -/
def pc_O (k n : Nat) (M : Nat → Nat → Prop) (rk ag : Nat → Nat) (lu : Nat → Int32) (age : Nat → Int64) : Prop :=
  (∀ s i, M s i → lu s = nI (rk s) ∧ 1 ≤ rk s ∧ rk s ≤ n) ∧
  (∀ i, i < 4 → age i = lN (ag i) ∧ ag i ≤ k) ∧
  (∀ s i s' i', M s i → M s' i' → (rk s < rk s' ↔ ag i' < ag i) ∧ (ag i = ag i' → i = i'))
section
variable {k n : Nat} {M M' : Nat → Nat → Prop} {rk ag ag' : Nat → Nat} {lu lu' : Nat → Int32} {age age' : Nat → Int64} {s0 i0 : Nat}
theorem pc_Omono (O : pc_O k n M rk ag lu age) (h : ∀ s i, M' s i → M s i) : pc_O k n M' rk ag lu age :=
  ⟨fun s i z => O.1 s i (h s i z), O.2.1, fun s i s' i' z z' => O.2.2 s i s' i' (h s i z) (h s' i' z')⟩
theorem pc_Oup (O : pc_O k n M rk ag lu age) {k' : Nat} (h : k ≤ k') : pc_O k' n M rk ag lu age :=
  ⟨O.1, fun i hi => ⟨(O.2.1 i hi).1, Nat.le_trans (O.2.1 i hi).2 h⟩, O.2.2⟩
theorem pc_Olu (O : pc_O k n M rk ag lu age) (h : ∀ s i, M s i → lu' s = lu s) : pc_O k n M rk ag lu' age :=
  ⟨fun s i z => by rw [h s i z]; exact O.1 s i z, O.2.1, O.2.2⟩
theorem pc_om1 {a b r x y : Nat} (h : a < b ↔ y < x) (ha : a ≠ r) (hb : b ≠ r) : ((if a ≤ r then a else a - 1) < (if b ≤ r then b else b - 1)) ↔ y < x := by
  rw [← h]
  split <;> split <;> omega
theorem pc_om2 {a r n : Nat} (h1 : 1 ≤ a) (h2 : a ≤ n) (hr : r ≤ n) (h0 : 1 ≤ r) (h : a ≠ r) : 1 ≤ (if a ≤ r then a else a - 1) ∧ (if a ≤ r then a else a - 1) ≤ n - 1 := by
  split <;> omega
theorem pc_Odel (O : pc_O k n M rk ag lu age) (hn : n ≤ 4) (m : M s0 i0) (hM : ∀ s i s' i', M s i → M s' i' → (s = s' ↔ i = i'))
    (h : ∀ s i, M s i → s ≠ s0 → lu' s = if lu s ≤ lu s0 then lu s else lu s - 1)
    (ha : ∀ i, i < 4 → age' i = lN (ag' i) ∧ ag' i ≤ k) (hb : ∀ i, i ≠ i0 → ag' i = ag i) :
    pc_O k (n - 1) (fun s i => M s i ∧ s ≠ s0) (fun s => if rk s ≤ rk s0 then rk s else rk s - 1) ag' lu' age' := by
  obtain ⟨o1, o2, o3⟩ := O
  obtain ⟨m1, m2, m3⟩ := o1 s0 i0 m
  have ne : ∀ s i, M s i → s ≠ s0 → rk s ≠ rk s0 := fun s i z zs e => by
    have p := o3 s i s0 i0 z m
    have q := o3 s0 i0 s i m z
    rw [e] at p q
    have g : ag i = ag i0 := by
      have p1 := p.1
      have q1 := q.1
      clear p q
      omega
    exact zs ((hM s i s0 i0 z m).mpr (p.2 g))
  refine ⟨?_, ha, ?_⟩
  · intro s i z
    obtain ⟨c1, c2, c3⟩ := o1 s i z.1
    refine ⟨?_, pc_om2 c2 c3 m3 m2 (ne s i z.1 z.2)⟩
    have l : nI (rk s) ≤ nI (rk s0) ↔ rk s ≤ rk s0 := nI_leI (by omega) (by omega)
    rw [h s i z.1 z.2, c1, m1]
    show (if nI (rk s) ≤ nI (rk s0) then nI (rk s) else nI (rk s) - 1) = nI (if rk s ≤ rk s0 then rk s else rk s - 1)
    by_cases e : rk s ≤ rk s0
    · rw [if_pos (l.mpr e), if_pos e]
    · rw [if_neg (fun z => e (l.mp z)), if_neg e]; exact pk_sub (b := 1) c2
  · intro s i s' i' z z'
    have ei : i ≠ i0 := fun e => z.2 ((hM s i s0 i0 z.1 m).mpr e)
    have ei' : i' ≠ i0 := fun e => z'.2 ((hM s' i' s0 i0 z'.1 m).mpr e)
    have p := o3 s i s' i' z.1 z'.1
    rw [hb i ei, hb i' ei']
    exact ⟨pc_om1 p.1 (ne s i z.1 z.2) (ne s' i' z'.1 z'.2), p.2⟩
theorem pc_Oins (O : pc_O k n M rk ag lu age) (hs : ∀ i, ¬ M s0 i) (hi : ∀ s, ¬ M s i0)
    (h : ∀ s, s ≠ s0 → lu' s = lu s) (h0 : lu' s0 = nI (n + 1))
    (ha : ∀ i, i < 4 → age' i = if i = i0 then 0 else age i + 1) :
    pc_O (k + 7) (n + 1) (fun s i => M s i ∨ (s = s0 ∧ i = i0)) (fun s => if s = s0 then n + 1 else rk s) (fun i => if i = i0 then 0 else ag i + 1) lu' age' := by
  obtain ⟨o1, o2, o3⟩ := O
  have ns : ∀ s i, M s i → s ≠ s0 := fun s i z e => hs i (e ▸ z)
  have ni : ∀ s i, M s i → i ≠ i0 := fun s i z e => hi s (e ▸ z)
  refine ⟨?_, ?_, ?_⟩
  · intro s i z
    rcases z with z | ⟨e1, e2⟩
    · obtain ⟨c1, c2, c3⟩ := o1 s i z
      show lu' s = nI (if s = s0 then n + 1 else rk s) ∧ 1 ≤ (if s = s0 then n + 1 else rk s) ∧ (if s = s0 then n + 1 else rk s) ≤ n + 1
      rw [if_neg (ns s i z), h s (ns s i z)]
      exact ⟨c1, c2, Nat.le_succ_of_le c3⟩
    · show lu' s = nI (if s = s0 then n + 1 else rk s) ∧ 1 ≤ (if s = s0 then n + 1 else rk s) ∧ (if s = s0 then n + 1 else rk s) ≤ n + 1
      rw [if_pos e1, e1]
      exact ⟨h0, Nat.succ_le_succ (Nat.zero_le n), Nat.le_refl _⟩
  · intro i hi4
    obtain ⟨c1, c2⟩ := o2 i hi4
    show age' i = lN (if i = i0 then 0 else ag i + 1) ∧ (if i = i0 then 0 else ag i + 1) ≤ k + 7
    rw [ha i hi4]
    by_cases e : i = i0
    · rw [if_pos e, if_pos e]; exact ⟨rfl, Nat.zero_le _⟩
    · rw [if_neg e, if_neg e, c1, lN_1]; exact ⟨rfl, by clear o1 o3; omega⟩
  · intro s i s' i' z z'
    show ((if s = s0 then n + 1 else rk s) < (if s' = s0 then n + 1 else rk s') ↔ (if i' = i0 then 0 else ag i' + 1) < (if i = i0 then 0 else ag i + 1)) ∧ ((if i = i0 then 0 else ag i + 1) = (if i' = i0 then 0 else ag i' + 1) → i = i')
    rcases z with z | ⟨e1, e2⟩
    · have c := (o1 s i z).2.2
      rw [if_neg (ns s i z), if_neg (ni s i z)]
      rcases z' with z' | ⟨e3, e4⟩
      · rw [if_neg (ns s' i' z'), if_neg (ni s' i' z')]
        have p := o3 s i s' i' z z'
        exact ⟨by rw [p.1]; exact (Nat.add_lt_add_iff_right).symm, fun q => p.2 (Nat.succ.inj q)⟩
      · rw [if_pos e3, if_pos e4]
        exact ⟨⟨fun _ => Nat.succ_pos _, fun _ => Nat.lt_succ_of_le c⟩, fun q => absurd q (Nat.succ_ne_zero _)⟩
    · rw [if_pos e1, if_pos e2]
      rcases z' with z' | ⟨e3, e4⟩
      · have c := (o1 s' i' z').2.2
        rw [if_neg (ns s' i' z'), if_neg (ni s' i' z')]
        exact ⟨⟨fun q => absurd q (Nat.not_lt.mpr (Nat.le_succ_of_le c)), fun q => absurd q (Nat.not_lt_zero _)⟩, fun q => absurd q.symm (Nat.succ_ne_zero _)⟩
      · rw [if_pos e3, if_pos e4]
        exact ⟨⟨fun q => absurd q (Nat.lt_irrefl _), fun q => absurd q (Nat.lt_irrefl _)⟩, fun _ => e2.trans e4.symm⟩
end
end
section
/-! the plain functions that the walks compute, the relation, and what keeps it -/
def pc_sh (st : Nat → Int32) (s : Nat) (r : Int32) (lu : Nat → Int32) (j : Nat) : Int32 := if j ≠ s ∧ pc_lv (st j) ∧ ¬ lu j ≤ r then lu j - 1 else lu j
def pc_sf (st : Nat → Int32) (s : Nat) (r : Int32) (lu : Nat → Int32) (n : Nat) : Nat → Int32 := fun j => if j < n then pc_sh st s r lu j else lu j
def pc_wt (tx : Nat → Int32) (s : Nat) (t : Int64) (n : Nat) : Nat → Int32 := fun j => if s * 4 ≤ j ∧ j < s * 4 + n then pc_ch t (j - s * 4) else tx j
def pc_ia (age : Nat → Int64) (n : Nat) : Nat → Int64 := fun j => if j < n then age j + 1 else age j
def pc_ft (z : Int32) : Prop := 0 ≤ z ∧ z < 65536
def pc_an (x r z : Int32) : Int32 := if x = 2 then 2 else if x = 1 then (if r < 3 then 0 else if 0 ≤ z ∧ z < 65536 then 1 else 0) else 0
def pc_mx (k t : Int64) (pk : Nat → Int64) (tx st : Nat → Int32) (s : Nat) : Prop := pc_lv (st s) ∧ pk s = k ∧ ∀ j, j < 4 → tx (s * 4 + j) = pc_ch t j
def pc_my (k t : Int64) (ky : Nat → Int64) (ty sy : Nat → Int32) (i : Nat) : Prop := sy i ≠ 0 ∧ ky i = k ∧ ∀ j, j < 4 → ty (i * 4 + j) = pc_ch t j
def i_Rel (k : Nat) (u : SX) (v : SY) : Prop := match u, v with
  | (pk, tx, ru, se, cv, lu, st), (fl, ky, ty, age, ry, sz, ve, sy) => ∃ (n : Nat) (M : Nat → Nat → Prop) (rk ag : Nat → Nat), pc_B n M pk tx ru se cv st ky ty ry sz ve sy ∧ pc_O k n M rk ag lu age ∧ fl = nI n
theorem pc_sf4 {st lu : Nat → Int32} {s j : Nat} {r : Int32} (hj : j < 4) : pc_sf st s r lu 4 j = pc_sh st s r lu j := if_pos hj
theorem pc_sh_t {st lu : Nat → Int32} {s j : Nat} {r : Int32} (hj : j ≠ s) (hl : pc_lv (st j)) : pc_sh st s r lu j = if lu j ≤ r then lu j else lu j - 1 := by
  unfold pc_sh
  by_cases e : lu j ≤ r
  · rw [if_pos e, if_neg (fun z => z.2.2 e)]
  · rw [if_neg e, if_pos ⟨hj, hl, e⟩]
theorem pc_wt_in {tx : Nat → Int32} {s : Nat} {t : Int64} {q : Nat} (hq : q < 4) : pc_wt tx s t 4 (s * 4 + q) = pc_ch t q := by
  unfold pc_wt
  rw [if_pos ⟨by omega, by omega⟩]
  congr 1
  omega
theorem pc_wt_out {tx : Nat → Int32} {s j : Nat} {t : Int64} {q : Nat} (hj : j ≠ s) (hq : q < 4) : pc_wt tx s t 4 (j * 4 + q) = tx (j * 4 + q) := by
  unfold pc_wt
  rw [if_neg (by omega)]
section
variable {k n : Nat} {M : Nat → Nat → Prop} {rk ag : Nat → Nat} {pk : Nat → Int64} {tx ru se cv lu st : Nat → Int32} {fl : Int32} {ky age : Nat → Int64} {ty ry sz ve sy : Nat → Int32} {s i : Nat}
theorem pc_fin {n0 : Nat} (B : pc_B (n0 + 1) M pk tx ru se cv st ky ty ry sz ve sy) (m : M s i)
    (O : pc_O k n0 (fun a b => M a b ∧ a ≠ s) rk ag (pc_sf st s (lu s) lu 4) age) (hf : fl = nI (n0 + 1)) :
    pc_an (sy i) (ry i + 1) (sz i) = pc_an (st s) (ru s + 1) (se s) ∧
    i_Rel (k + 7) (pk, tx, upd ru s (ru s + 1), se, cv, upd (pc_sf st s (lu s) lu 4) s (nI (pc_cn pc_b st 4)), st) (fl, ky, ty, vp_updL (pc_ia age 4) i 0, upd ry i (ry i + 1), sz, ve, sy) := by
  have B' := B
  obtain ⟨b1, b2, b3, b4, b5, b6, b7, b8, b9⟩ := B'
  obtain ⟨m1, m2, m3, m4, m5, m6, m7, m8, m9⟩ := b4 s i m
  refine ⟨by rw [m4, m6, m7], n0 + 1, M, (fun a => if a = s then n0 + 1 else rk a), (fun b => if b = i then 0 else ag b + 1), ?_, ?_, hf⟩
  · exact pc_Bset B m (fun j hj => ⟨pk_un hj, rfl, rfl, rfl⟩) (fun j hj => ⟨pk_un hj, rfl, rfl, rfl⟩) ⟨by rw [pk_us, pk_us, m6], m7, m8, m4⟩ m3
  · refine pc_Omono (pc_Oins (s0 := s) (i0 := i) O (fun b z => z.2 rfl) (fun a z => z.2 ((b5 a i s i z.1 m).mpr rfl)) (fun a ha => pk_un ha) (by rw [pk_us, b8]) ?_) ?_
    · intro b hb
      show (if b = i then 0 else (if b < 4 then age b + 1 else age b)) = _
      rw [if_pos hb]
    · intro a b z
      by_cases e : a = s
      · exact Or.inr ⟨e, (b5 a b s i z m).mp e⟩
      · exact Or.inl ⟨z, e⟩
theorem pc_hitO (B : pc_B n M pk tx ru se cv st ky ty ry sz ve sy) (O : pc_O k n M rk ag lu age) (m : M s i) :
    pc_O k (n - 1) (fun a b => M a b ∧ a ≠ s) (fun a => if rk a ≤ rk s then rk a else rk a - 1) ag (pc_sf st s (lu s) lu 4) age := by
  obtain ⟨b1, b2, b3, b4, b5, b6, b7, b8, b9⟩ := B
  refine pc_Odel O (by rw [← b8]; exact pc_le4 st) m b5 (fun a b z za => ?_) O.2.1 (fun _ _ => rfl)
  obtain ⟨c1, c2, c3, _⟩ := b4 a b z
  rw [pc_sf4 c1, pc_sh_t za c3]
theorem pc_pos (O : pc_O k n M rk ag lu age) (m : M s i) : n - 1 + 1 = n := by
  have c := O.1 s i m
  have c2 := c.2
  omega
theorem pc_del (B : pc_B n M pk tx ru se cv st ky ty ry sz ve sy) (O : pc_O k n M rk ag lu age) (m : M s i) (hf : fl = nI n) :
    fl - 1 = nI (pc_cn pc_b (upd st s 4) 4) ∧
    i_Rel k (pk, tx, ru, se, cv, upd (pc_sf (upd st s 4) s (lu s) lu 4) s 0, upd st s 4) (fl - 1, vp_updL ky i 0, ty, vp_updL age i 0, ry, sz, ve, upd sy i 0) := by
  have B1 := pc_Bdel (st' := upd st s 4) (ky' := vp_updL ky i 0) (sy' := upd sy i 0) B m (fun j hj => pk_un hj) pk_us (fun j hj => ⟨pk_uLn hj, pk_un hj⟩) pk_us
  have e : fl - 1 = nI (n - 1) := by
    rw [hf]
    exact pk_sub (b := 1) (by have := pc_pos O m; omega)
  refine ⟨?_, n - 1, (fun a b => M a b ∧ a ≠ s), (fun a => if rk a ≤ rk s then rk a else rk a - 1), (fun b => if b = i then 0 else ag b), B1, ?_, e⟩
  · rw [e]
    exact congrArg nI B1.2.2.2.2.2.2.2.1.symm
  · obtain ⟨b1, b2, b3, b4, b5, b6, b7, b8, b9⟩ := B
    refine pc_Odel O (by rw [← b8]; exact pc_le4 st) m b5 (fun a b z za => ?_) (fun b hb => ?_) (fun b hb => if_neg hb)
    · obtain ⟨c1, c2, c3, _⟩ := b4 a b z
      rw [pk_un za, pc_sf4 c1, pc_sh_t za (by rw [pk_un za]; exact c3)]
    · show (if b = i then 0 else age b) = lN (if b = i then 0 else ag b) ∧ (if b = i then 0 else ag b) ≤ k
      by_cases e : b = i
      · rw [if_pos e, if_pos e]; exact ⟨rfl, Nat.zero_le _⟩
      · rw [if_neg e, if_neg e]; exact O.2.1 b hb
theorem pc_dich (B : pc_B n M pk tx ru se cv st ky ty ry sz ve sy) (key t : Int64) :
    (∃ s i, M s i ∧ pc_mx key t pk tx st s ∧ pc_my key t ky ty sy i) ∨ ((∀ s, s < 4 → ¬ pc_mx key t pk tx st s) ∧ (∀ i, i < 4 → ¬ pc_my key t ky ty sy i)) := by
  obtain ⟨b1, b2, b3, b4, b5, b6, b7, b8, b9⟩ := B
  by_cases h : ∃ s, s < 4 ∧ pc_mx key t pk tx st s
  · obtain ⟨s, hs, mx⟩ := h
    obtain ⟨i, m⟩ := b2 s hs mx.1
    obtain ⟨m1, m2, m3, m4, m5, m6, m7, m8, m9⟩ := b4 s i m
    exact Or.inl ⟨s, i, m, mx, by rw [m4]; exact pc_nz m3, by rw [← m5]; exact mx.2.1, fun j hj => by rw [← m9 j hj]; exact mx.2.2 j hj⟩
  · refine Or.inr ⟨fun s hs z => h ⟨s, hs, z⟩, fun i hi z => ?_⟩
    obtain ⟨s, m⟩ := b3 i hi z.1
    obtain ⟨m1, m2, m3, m4, m5, m6, m7, m8, m9⟩ := b4 s i m
    exact h ⟨s, m1, m3, by rw [m5]; exact z.2.1, fun j hj => by rw [m9 j hj]; exact z.2.2 j hj⟩
theorem pc_ux (B : pc_B n M pk tx ru se cv st ky ty ry sz ve sy) {key t : Int64} (m : M s i) (mx : pc_mx key t pk tx st s) {s' : Nat} (hs' : s' < 4) (mx' : pc_mx key t pk tx st s') : s' = s := by
  obtain ⟨b1, b2, b3, b4, b5, b6, b7, b8, b9⟩ := B
  obtain ⟨i', m'⟩ := b2 s' hs' mx'.1
  exact b6 s' i' s i m' m (mx'.2.1.trans mx.2.1.symm) fun j hj => (mx'.2.2 j hj).trans (mx.2.2 j hj).symm
theorem pc_uy (B : pc_B n M pk tx ru se cv st ky ty ry sz ve sy) {key t : Int64} (m : M s i) (mx : pc_mx key t pk tx st s) {i' : Nat} (hi' : i' < 4) (my : pc_my key t ky ty sy i') : i' = i := by
  have B' := B
  obtain ⟨b1, b2, b3, b4, b5, b6, b7, b8, b9⟩ := B'
  obtain ⟨s', m'⟩ := b3 i' hi' my.1
  obtain ⟨m1, m2, m3, m4, m5, m6, m7, m8, m9⟩ := b4 s' i' m'
  exact (b5 s' i' s i m' m).mp (pc_ux B m mx m1 ⟨m3, by rw [m5]; exact my.2.1, fun j hj => by rw [m9 j hj]; exact my.2.2 j hj⟩)
theorem pc_last (B : pc_B n M pk tx ru se cv st ky ty ry sz ve sy) (O : pc_O k n M rk ag lu age) (hk : k < 2 ^ 31) (hs : s < 4) (hl : pc_lv (st s)) (hm : ∀ j, j < 4 → pc_lv (st j) → lu s ≤ lu j)
    (hi : i < 4) (hy : sy i ≠ 0) (hM : ∀ j, j < 4 → sy j ≠ 0 → age j ≤ age i) : M s i := by
  obtain ⟨b1, b2, b3, b4, b5, b6, b7, b8, b9⟩ := B
  obtain ⟨o1, o2, o3⟩ := O
  obtain ⟨i', m⟩ := b2 s hs hl
  obtain ⟨s', m'⟩ := b3 i hi hy
  obtain ⟨c1, c2, c3, c4, _⟩ := b4 s i' m
  obtain ⟨d1, d2, d3, d4, _⟩ := b4 s' i m'
  have hn : n ≤ 4 := by rw [← b8]; exact pc_le4 st
  have p := hm s' d1 d3
  have q := hM i' c2 (by rw [c4]; exact pc_nz c3)
  obtain ⟨e1, e2, e3⟩ := o1 s i' m
  obtain ⟨f1, f2, f3⟩ := o1 s' i m'
  rw [e1, f1, nI_leI (by omega) (by omega)] at p
  obtain ⟨g1, g2⟩ := o2 i' c2
  obtain ⟨h1, h2⟩ := o2 i d2
  rw [g1, h1, lN_le (by omega) (by omega)] at q
  have z := o3 s' i s i' m' m
  have e : ag i = ag i' := by
    have z1 := z.1
    clear z o1 o2 o3 b1 b2 b3 b4 b5 b6 b7
    omega
  have ei := z.2 e
  rw [ei]
  exact m
end
end
section
/-! the component's walks -/
theorem pc_ix (s j : Nat) : nI s * 4 + nI j = nI (s * 4 + j) := by
  rw [show (4 : Int32) = nI 4 from rfl, pk_mul, nI_add]
theorem pc_pr {h i : Nat} (hh : h < 4) (hi : i < 4) : (nI h + nI i) &&& 3 = nI ((h + i) % 4) := by
  rw [nI_add]
  exact pk_andN (by omega) 2 (by decide)
theorem pc_home (k : Int64) : ((k ^^^ ((k.toUInt64 >>> ((32 : Int32).toInt64.toUInt64 &&& Int64.toUInt64 63)).toInt64)).toInt32) &&& 3 = nI (pc_hm k) := pk_and _ 2 (by decide)
theorem pc_44 : (4 : Int32) ≤ nI 4 := by decide
theorem pc_4j {j : Nat} (h : j < 4) : ¬ (4 : Int32) ≤ nI j := nI_ge (b := 4) h (by decide)
theorem pc_cl {s : Nat} (h : s < 4) : (nI s).toNatClampNeg = s := nI_clamp (by omega)
theorem pc_vi {s : Nat} (h : s < 4) : vp_in (nI s) 4 := vp_in_nI h (by decide)
theorem pc_na (x : Int32) (h : x.toInt8.toInt32 = x) : vp_nar .byte x = x := by rw [vp_nar_byte]; exact h
theorem pc_na0 : vp_nar .byte 0 = 0 := pc_na 0 (by decide)
theorem pc_na1 : vp_nar .byte 1 = 1 := pc_na 1 (by decide)
theorem pc_na2 : vp_nar .byte 2 = 2 := pc_na 2 (by decide)
theorem pc_na3 : vp_nar .byte 3 = 3 := pc_na 3 (by decide)
theorem pc_na4 : vp_nar .byte 4 = 4 := pc_na 4 (by decide)
theorem pc_nle {a b : Int32} (h : ¬ a ≤ b) : b ≤ a := by
  rw [Int32.le_iff_toInt_le] at *
  omega
theorem pc_lr (a : Int32) : a ≤ a := by
  rw [Int32.le_iff_toInt_le]
  omega
theorem pc_lt {a b c : Int32} (h : a ≤ b) (g : b ≤ c) : a ≤ c := by
  rw [Int32.le_iff_toInt_le] at *
  omega
section
variable {pk : Nat → Int64} {tx ru se cv lu st : Nat → Int32} {k t : Int64} {s : Nat}
theorem pc_x64 {post J : Int32 → Prop} {x5 x6 : Int32} (hs : s < 4) : ∀ (d j : Nat) (x9 : Int32), j + d = 4 → (x9 = 1 ∨ x9 = 0) →
    ((x9 = 1 ∧ ∀ i, j ≤ i → i < 4 → tx (s * 4 + i) = pc_ch t i) → post (nI s)) →
    (¬ (x9 = 1 ∧ ∀ i, j ≤ i → i < 4 → tx (s * 4 + i) = pc_ch t i) → J (x6 + 1)) →
    wX_find_64 post J k t x5 x6 (nI s) pk tx ru se cv lu st (d + 1) x9 (nI j) := by
  intro d
  induction d with
  | zero =>
    intro j x9 hj hx hp hJ
    obtain rfl : j = 4 := by omega
    refine br_t pc_44 (br_c (fun z => nm_e (hJ fun h => ?_)) (fun z => hp ⟨hx.resolve_right z, fun i h1 h2 => absurd h2 (by omega)⟩))
    rw [z] at h
    exact absurd h.1 (by decide)
  | succ d ih =>
    intro j x9 hj hx hp hJ
    have h4 : j < 4 := by omega
    refine br_f (pc_4j h4) ⟨pk_in (s * 4 + j) 16 (by omega) (pc_ix s j), ?_⟩
    rw [pk_cl (s * 4 + j) (pc_ix s j)]
    by_cases e : tx (s * 4 + j) = pc_ch t j
    · refine br_t e (nm_r (nI_1 j) (ih (j + 1) x9 (by omega) hx (fun h => hp ⟨h.1, fun i h1 h2 => ?_⟩) (fun hn => hJ fun h => hn ⟨h.1, fun i h1 h2 => h.2 i (by omega) h2⟩)))
      by_cases ei : i = j
      · rw [ei]; exact e
      · exact h.2 i (by omega) h2
    · exact br_f e (nm_r (nI_1 j) (ih (j + 1) 0 (by omega) (Or.inr rfl) (fun h => absurd h.1 (by decide)) (fun _ => hJ fun h => e (h.2 j (Nat.le_refl j) h4))))
theorem pc_x9 {post : Int32 → Prop} {h : Nat} (hh : h < 4) (hv : ∀ s, s < 4 → st s = 0 ∨ st s = 4 ∨ pc_lv (st s))
    (hit : ∀ s, s < 4 → pc_mx k t pk tx st s → post (nI s)) : ∀ d i : Nat, i + d = 4 →
    ((∀ e, i ≤ e → e < 4 → (∀ f, i ≤ f → f < e → st ((h + f) % 4) ≠ 0) → ¬ pc_mx k t pk tx st ((h + e) % 4)) → post (-1)) →
    wX_find_9 post k t (nI h) pk tx ru se cv lu st (d + 1) (nI i) := by
  intro d
  induction d with
  | zero =>
    intro i hi miss
    obtain rfl : i = 4 := by omega
    exact br_t pc_44 (miss fun e h1 h2 => absurd h2 (by omega))
  | succ d ih =>
    intro i hi miss
    have h4 : i < 4 := by omega
    have hs : (h + i) % 4 < 4 := Nat.mod_lt _ (by decide)
    have go : ¬ pc_mx k t pk tx st ((h + i) % 4) → wX_find_9 post k t (nI h) pk tx ru se cv lu st (d + 1) (nI (i + 1)) := by
      intro nm
      refine ih (i + 1) (by omega) (fun H => miss fun e h1 h2 h3 => ?_)
      by_cases ee : e = i
      · rw [ee]; exact nm
      · exact H e (by omega) h2 (fun f g1 g2 => h3 f (by omega) g2)
    refine br_f (pc_4j h4) (nm_r (pc_pr hh h4) ⟨pc_vi hs, ?_⟩)
    rw [pc_cl hs]
    refine nm_e ?_
    by_cases z0 : st ((h + i) % 4) = 0
    · refine br_t z0 (miss fun e h1 h2 h3 => ?_)
      by_cases ee : e = i
      · rw [ee]; exact fun mx => pc_nz mx.1 z0
      · exact absurd z0 (h3 i (Nat.le_refl i) (by omega))
    · refine br_f z0 ?_
      by_cases z4 : st ((h + i) % 4) = 4
      · exact br_t z4 (nm_r (nI_1 i) (go fun mx => pc_n4 mx.1 z4))
      · have hl : pc_lv (st ((h + i) % 4)) := ((hv _ hs).resolve_left z0).resolve_left z4
        refine br_f z4 ⟨pc_vi hs, ?_⟩
        by_cases ek : pk ((h + i) % 4) = k
        · refine br_t ek ⟨5, pc_x64 hs 4 0 1 rfl (Or.inl rfl) (fun H => hit _ hs ⟨hl, ek, fun j hj => H.2 j (Nat.zero_le j) hj⟩) (fun H => ?_)⟩
          rw [nI_1 i]
          exact go fun mx => H ⟨rfl, fun j _ hj => mx.2.2 j hj⟩
        · exact br_f ek (nm_r (nI_1 i) (go fun mx => ek mx.2.1))
theorem pc_xf {post : Int32 → Prop} (hv : ∀ s, s < 4 → st s = 0 ∨ st s = 4 ∨ pc_lv (st s)) (hit : ∀ s, s < 4 → pc_mx k t pk tx st s → post (nI s))
    (miss : (∀ e, e < 4 → (∀ f, f < e → st ((pc_hm k + f) % 4) ≠ 0) → ¬ pc_mx k t pk tx st ((pc_hm k + e) % 4)) → post (-1)) :
    wpX_find post (pk, tx, ru, se, cv, lu, st) k t := by
  unfold wpX_find wpX_home
  dsimp only
  rw [pc_home k]
  exact ⟨5, pc_x9 (pc_hm4 k) hv hit 4 0 rfl (fun H => miss fun e he hf => H e (Nat.zero_le e) he fun f _ g => hf f g)⟩
theorem pc_xl {A B : Prop} (hs : s < 4) (h1 : pc_lv (st s) → B) (h0 : ¬ pc_lv (st s) → A) :
    wpX_isLive (fun r => (r = 0 → A) ∧ (¬ r = 0 → B)) (pk, tx, ru, se, cv, lu, st) (nI s) := by
  unfold wpX_isLive
  dsimp only
  refine ⟨pc_vi hs, ?_⟩
  rw [pc_cl hs]
  refine nm_e ?_
  exact br_c (fun e => br_f (by decide) (h1 (Or.inl e))) fun n1 => br_c (fun e => br_f (by decide) (h1 (Or.inr (Or.inl e)))) fun n2 =>
    br_c (fun e => br_f (by decide) (h1 (Or.inr (Or.inr e)))) fun n3 => br_t rfl (h0 fun z => z.elim n1 fun z => z.elim n2 n3)
theorem pc_x4l {post : Int32 → Prop} (hp : post (nI (pc_cn pc_b st 4))) : ∀ d j : Nat, j + d = 4 →
    wX_live_4 post pk tx ru se cv lu st (d + 1) (nI (pc_cn pc_b st j)) (nI j) := by
  intro d
  induction d with
  | zero =>
    intro j hj
    obtain rfl : j = 4 := by omega
    exact br_t pc_44 hp
  | succ d ih =>
    intro j hj
    have h4 : j < 4 := by omega
    have g := ih (j + 1) (by omega)
    refine br_f (pc_4j h4) (pc_xl h4 (fun hl => nm_r (e' := nI (pc_cn pc_b st (j + 1))) ?_ (nm_r (nI_1 j) g)) (fun hl => nm_r (nI_1 j) ?_))
    · rw [nI_1]
      show _ = nI (pc_cn pc_b st j + pc_b (st j))
      rw [pc_b1 hl]
    · have e : pc_cn pc_b st (j + 1) = pc_cn pc_b st j := by
        show pc_cn pc_b st j + pc_b (st j) = _
        rw [pc_b0 hl]
        rfl
      rw [e] at g
      exact g
theorem pc_xlive {post : Int32 → Prop} (hp : post (nI (pc_cn pc_b st 4))) : wpX_live post (pk, tx, ru, se, cv, lu, st) := by
  unfold wpX_live
  dsimp only
  exact ⟨5, pc_x4l hp 4 0 rfl⟩
theorem pc_sf0 (st : Nat → Int32) (s : Nat) (r : Int32) (lu : Nat → Int32) : pc_sf st s r lu 0 = lu := funext fun i => if_neg (Nat.not_lt_zero i)
theorem pc_sfj (st : Nat → Int32) (s : Nat) (r : Int32) (lu : Nat → Int32) (j : Nat) : pc_sf st s r lu j j = lu j := if_neg (Nat.lt_irrefl j)
theorem pc_sfk (st : Nat → Int32) (s : Nat) (r : Int32) (lu : Nat → Int32) (j : Nat) (h : ¬ (j ≠ s ∧ pc_lv (st j) ∧ ¬ lu j ≤ r)) : pc_sf st s r lu j = pc_sf st s r lu (j + 1) := by
  funext i
  unfold pc_sf
  by_cases a : i < j
  · rw [if_pos a, if_pos (by omega)]
  · rw [if_neg a]
    by_cases b : i = j
    · rw [if_pos (by omega), b]
      exact (if_neg h).symm
    · rw [if_neg (by omega)]
theorem pc_sfu (st : Nat → Int32) (s : Nat) (r : Int32) (lu : Nat → Int32) (j : Nat) (h : j ≠ s ∧ pc_lv (st j) ∧ ¬ lu j ≤ r) : upd (pc_sf st s r lu j) j (lu j - 1) = pc_sf st s r lu (j + 1) := by
  funext i
  unfold pc_sf upd
  dsimp only
  by_cases b : i = j
  · rw [if_pos b, if_pos (by omega), b]
    exact (if_pos h).symm
  · rw [if_neg b]
    by_cases a : i < j
    · rw [if_pos a, if_pos (by omega)]
    · rw [if_neg a, if_neg (by omega)]
theorem pc_x16 {post : SX → Prop} {r : Int32} (hs : s < 4) (hp : post (pk, tx, ru, se, cv, upd (pc_sf st s r lu 4) s 0, st)) : ∀ d j : Nat, j + d = 4 →
    wX_remove_16 post (nI s) r (d + 1) (nI j) pk tx ru se cv (pc_sf st s r lu j) st := by
  intro d
  induction d with
  | zero =>
    intro j hj
    obtain rfl : j = 4 := by omega
    refine br_t pc_44 ⟨pc_vi hs, ?_⟩
    rw [pc_cl hs]
    exact nm_e hp
  | succ d ih =>
    intro j hj
    have h4 : j < 4 := by omega
    have g := ih (j + 1) (by omega)
    refine br_f (pc_4j h4) ?_
    by_cases e : j = s
    · refine br_t (congrArg nI e) (nm_r (nI_1 j) ?_)
      rw [pc_sfk st s r lu j (fun z => z.1 e)]
      exact g
    · refine br_f (fun z => e ((nI_eq (by omega) (by omega)).mp z)) (pc_xl h4 (fun hl => ⟨pc_vi h4, ?_⟩) (fun hl => nm_r (nI_1 j) ?_))
      · rw [pc_cl h4, pc_sfj]
        by_cases q : lu j ≤ r
        · refine br_t q (nm_r (nI_1 j) ?_)
          rw [pc_sfk st s r lu j (fun z => z.2.2 q)]
          exact g
        · exact br_f q ⟨pc_vi h4, pc_vi h4, nm_r (pc_sfu st s r lu j ⟨e, hl, q⟩) (nm_r (nI_1 j) g)⟩
      · rw [pc_sfk st s r lu j (fun z => hl z.2.1)]
        exact g
theorem pc_xrem {post : SX → Prop} (hs : s < 4) (hp : post (pk, tx, ru, se, cv, upd (pc_sf (upd st s 4) s (lu s) lu 4) s 0, upd st s 4)) :
    wpX_remove post (pk, tx, ru, se, cv, lu, st) (nI s) := by
  unfold wpX_remove
  dsimp only
  refine ⟨pc_vi hs, ?_⟩
  rw [pc_cl hs]
  refine nm_e ⟨pc_vi hs, ?_⟩
  rw [pc_na4]
  refine nm_e ⟨5, ?_⟩
  have g := pc_x16 (st := upd st s 4) (r := lu s) hs hp 4 0 rfl
  rw [pc_sf0] at g
  exact g
theorem pc_x4e {post : Int64 → SX → Prop} (hn : (∀ s, s < 4 → ¬ pc_lv (st s)) → post 0 (pk, tx, ru, se, cv, lu, st))
    (hy : ∀ b, b < 4 → pc_lv (st b) → (∀ j, j < 4 → pc_lv (st j) → lu b ≤ lu j) → post (pk b) (pk, tx, ru, se, cv, upd (pc_sf (upd st b 4) b (lu b) lu 4) b 0, upd st b 4)) :
    ∀ (d j : Nat) (x1 : Int32), j + d = 4 → ((x1 = -1 ∧ ∀ i, i < j → ¬ pc_lv (st i)) ∨ ∃ b, b < j ∧ x1 = nI b ∧ pc_lv (st b) ∧ ∀ i, i < j → pc_lv (st i) → lu b ≤ lu i) →
    wX_evict_4 post pk tx ru se cv lu st (d + 1) x1 (nI j) := by
  intro d
  induction d with
  | zero =>
    intro j x1 hj inv
    obtain rfl : j = 4 := by omega
    rcases inv with ⟨rfl, h⟩ | ⟨b, hb, rfl, hl, h⟩
    · exact br_t pc_44 (br_f (by decide) (hn h))
    · refine br_t pc_44 (br_t (nI_pos' (by omega)) ⟨pc_vi hb, ?_⟩)
      rw [pc_cl hb]
      refine nm_e (pc_xrem hb ?_)
      exact hy b hb hl h
  | succ d ih =>
    intro j x1 hj inv
    have h4 : j < 4 := by omega
    refine br_f (pc_4j h4) (pc_xl h4 (fun hl => ?_) (fun hl => nm_r (nI_1 j) (ih (j + 1) x1 (by omega) ?_)))
    · rcases inv with ⟨rfl, h⟩ | ⟨b, hb, rfl, hlb, h⟩
      · refine br_t (by decide) (nm_r (nI_1 j) (ih (j + 1) (nI j) (by omega) (Or.inr ⟨j, by omega, rfl, hl, fun i hi hli => ?_⟩)))
        by_cases e : i = j
        · rw [e]; exact pc_lr _
        · exact absurd hli (h i (by omega))
      · have hb4 : b < 4 := by omega
        refine br_f (nI_pos (by omega)) ⟨pc_vi h4, pc_vi hb4, ?_⟩
        rw [pc_cl h4, pc_cl hb4]
        by_cases q : lu b ≤ lu j
        · refine br_t q (nm_r (nI_1 j) (ih (j + 1) (nI b) (by omega) (Or.inr ⟨b, by omega, rfl, hlb, fun i hi hli => ?_⟩)))
          by_cases e : i = j
          · rw [e]; exact q
          · exact h i (by omega) hli
        · refine br_f q (nm_r (nI_1 j) (ih (j + 1) (nI j) (by omega) (Or.inr ⟨j, by omega, rfl, hl, fun i hi hli => ?_⟩)))
          by_cases e : i = j
          · rw [e]; exact pc_lr _
          · exact pc_lt (pc_nle q) (h i (by omega) hli)
    · rcases inv with ⟨rfl, h⟩ | ⟨b, hb, rfl, hlb, h⟩
      · refine Or.inl ⟨rfl, fun i hi => ?_⟩
        by_cases e : i = j
        · rw [e]; exact hl
        · exact h i (by omega)
      · refine Or.inr ⟨b, by omega, rfl, hlb, fun i hi hli => ?_⟩
        by_cases e : i = j
        · rw [e] at hli; exact absurd hli hl
        · exact h i (by omega) hli
theorem pc_xev {post : Int64 → SX → Prop} (hn : (∀ s, s < 4 → ¬ pc_lv (st s)) → post 0 (pk, tx, ru, se, cv, lu, st))
    (hy : ∀ b, b < 4 → pc_lv (st b) → (∀ j, j < 4 → pc_lv (st j) → lu b ≤ lu j) → post (pk b) (pk, tx, ru, se, cv, upd (pc_sf (upd st b 4) b (lu b) lu 4) b 0, upd st b 4)) :
    wpX_evict post (pk, tx, ru, se, cv, lu, st) := by
  unfold wpX_evict
  dsimp only
  exact ⟨5, pc_x4e hn hy 4 0 (-1) rfl (Or.inl ⟨rfl, fun i hi => absurd hi (Nat.not_lt_zero i)⟩)⟩
theorem pc_xfits {A B : Prop} (hs : s < 4) (h1 : 0 ≤ se s ∧ se s < 65536 → B) (h0 : ¬ (0 ≤ se s ∧ se s < 65536) → A) :
    wpX_fits (fun r => (r = 0 → A) ∧ (¬ r = 0 → B)) (pk, tx, ru, se, cv, lu, st) (nI s) := by
  unfold wpX_fits
  dsimp only
  refine ⟨pc_vi hs, ?_⟩
  rw [pc_cl hs]
  refine br_c (fun c => br_t rfl (h0 fun z => ?_)) fun c => ⟨pc_vi hs, br_c (fun c2 => br_t rfl (h0 fun z => ?_)) fun c2 => br_f (by decide) (h1 ⟨Int32.not_lt.mp c, Int32.not_le.mp c2⟩)⟩
  · exact Int32.not_lt.mpr z.1 c
  · exact Int32.not_lt.mpr c2 z.2
end
end
section
/-! the component's choose, compiled, drop, temperature -/
def pc_xt (post : Int32 → SX → Prop) (s : Nat) (pk : Nat → Int64) (tx ru se cv lu st : Nat → Int32) : Prop :=
  post (pc_an (st s) (ru s + 1) (se s)) (pk, tx, upd ru s (ru s + 1), se, cv, upd (pc_sf st s (lu s) lu 4) s (nI (pc_cn pc_b st 4)), st)
def pc_xr (post : Int32 → SX → Prop) (x5 x6 : Int32) (s : Nat) (pk : Nat → Int64) (tx ru se cv lu st : Nat → Int32) : Prop :=
  pc_xt post s pk tx (upd ru s 0) (upd se s x5) (upd cv s x6) lu (upd st s 1)
def pc_xi (post : Int32 → SX → Prop) (k t : Int64) (x5 x6 : Int32) (pk : Nat → Int64) (tx ru se cv lu st : Nat → Int32) (s : Nat) : Prop :=
  pc_xr post x5 x6 s (vp_updL pk s k) (pc_wt tx s t 4) ru se cv (upd lu s 5) (upd st s 1)
def pc_fs (st : Nat → Int32) (h s : Nat) : Prop := ∃ e, e < 4 ∧ s = (h + e) % 4 ∧ (∀ f, f < e → pc_lv (st ((h + f) % 4))) ∧ ¬ pc_lv (st s)
theorem pc_wt0 (tx : Nat → Int32) (s : Nat) (t : Int64) : pc_wt tx s t 0 = tx := funext fun i => if_neg (by omega)
theorem pc_wtu (tx : Nat → Int32) (s : Nat) (t : Int64) (j : Nat) : upd (pc_wt tx s t j) (s * 4 + j) (pc_ch t j) = pc_wt tx s t (j + 1) := by
  funext i
  unfold upd pc_wt
  by_cases b : i = s * 4 + j
  · rw [if_pos b, if_pos (by omega), b, Nat.add_sub_cancel_left]
  · rw [if_neg b]
    by_cases a : s * 4 ≤ i ∧ i < s * 4 + j
    · rw [if_pos a, if_pos (by omega)]
    · rw [if_neg a, if_neg (by omega)]
theorem pc_nch (t : Int64) (j : Nat) : vp_nar .char (pc_ch t j) = pc_ch t j := pk_vc _
section
variable {pk : Nat → Int64} {tx ru se cv lu st : Nat → Int32} {k t : Int64} {s : Nat} {post : Int32 → SX → Prop} {x5 x6 : Int32}
theorem pc_x225 {r : Int32} (hs : s < 4) (hp : post (pc_an (st s) (ru s + 1) (se s)) (pk, tx, upd ru s (ru s + 1), se, cv, upd (pc_sf st s r lu 4) s (nI (pc_cn pc_b st 4)), st)) : ∀ d j : Nat, j + d = 4 →
    wX_choose_225 post (nI s) r (d + 1) (nI j) pk tx ru se cv (pc_sf st s r lu j) st := by
  intro d
  induction d with
  | zero =>
    intro j hj
    obtain rfl : j = 4 := by omega
    refine br_t pc_44 (pc_xlive ⟨pc_vi hs, ?_⟩)
    rw [pc_cl hs]
    refine nm_e ⟨pc_vi hs, pc_vi hs, nm_e ⟨pc_vi hs, ?_⟩⟩
    rw [pk_us (f := ru) (k := s)]
    unfold pc_an at hp
    by_cases c2 : st s = 2
    · rw [if_pos c2] at hp
      exact br_t c2 hp
    · rw [if_neg c2] at hp
      refine br_f c2 ⟨pc_vi hs, ?_⟩
      by_cases c1 : st s = 1
      · rw [if_pos c1] at hp
        refine br_t c1 ⟨pc_vi hs, ?_⟩
        by_cases c3 : ru s + 1 < 3
        · rw [if_pos c3] at hp
          exact br_t c3 hp
        · rw [if_neg c3] at hp
          refine br_f c3 (pc_xfits hs (fun z => ?_) (fun z => ?_))
          · rw [if_pos z] at hp; exact hp
          · rw [if_neg z] at hp; exact hp
      · rw [if_neg c1] at hp
        exact br_f c1 hp
  | succ d ih =>
    intro j hj
    have h4 : j < 4 := by omega
    have g := ih (j + 1) (by omega)
    refine br_f (pc_4j h4) ?_
    by_cases e : j = s
    · refine br_t (congrArg nI e) (nm_r (nI_1 j) ?_)
      rw [pc_sfk st s r lu j (fun z => z.1 e)]
      exact g
    · refine br_f (fun z => e ((nI_eq (by omega) (by omega)).mp z)) (pc_xl h4 (fun hl => ⟨pc_vi h4, ?_⟩) (fun hl => nm_r (nI_1 j) ?_))
      · rw [pc_cl h4, pc_sfj]
        by_cases q : lu j ≤ r
        · refine br_t q (nm_r (nI_1 j) ?_)
          rw [pc_sfk st s r lu j (fun z => z.2.2 q)]
          exact g
        · exact br_f q ⟨pc_vi h4, pc_vi h4, nm_r (pc_sfu st s r lu j ⟨e, hl, q⟩) (nm_r (nI_1 j) g)⟩
      · rw [pc_sfk st s r lu j (fun z => hl z.2.1)]
        exact g
theorem pc_x225' (hs : s < 4) (hp : pc_xt post s pk tx ru se cv lu st) : ∃ n, wX_choose_225 post (nI s) (lu s) n 0 pk tx ru se cv lu st := by
  have g := pc_x225 (r := lu s) hs hp 4 0 rfl
  rw [pc_sf0] at g
  exact ⟨5, g⟩
theorem pc_x179 (hs : s < 4) (hp : pc_xr post x5 x6 s pk tx ru se cv lu st) : wX_choose_179 post x5 x6 (nI s) pk tx ru se cv lu st := by
  unfold wX_choose_179
  rw [pc_cl hs, pc_na1]
  refine ⟨pc_vi hs, nm_e ⟨pc_vi hs, nm_e ⟨pc_vi hs, nm_e ⟨pc_vi hs, nm_e ⟨pc_vi hs, nm_e ?_⟩⟩⟩⟩⟩
  exact pc_x225' hs hp
theorem pc_x162h (hs : s < 4) (h1 : cv s = x6 → pc_xt post s pk tx ru se cv lu st) (h2 : ¬ cv s = x6 → pc_xr post x5 x6 s pk tx ru se cv lu st) :
    wX_choose_162 post x5 x6 (nI s) 0 pk tx ru se cv lu st := by
  unfold wX_choose_162
  rw [pc_cl hs]
  exact br_t rfl ⟨pc_vi hs, br_c (fun c => ⟨pc_vi hs, nm_e (pc_x225' hs (h1 c))⟩) (fun c => pc_x179 hs (h2 c))⟩
theorem pc_x162f (hs : s < 4) (hp : pc_xr post x5 x6 s pk tx ru se cv lu st) : wX_choose_162 post x5 x6 (nI s) 1 pk tx ru se cv lu st := by
  unfold wX_choose_162
  exact br_f (by decide) (pc_x179 hs hp)
theorem pc_x110 (hs : s < 4) (hp : pc_xr post x5 x6 s pk (pc_wt tx s t 4) ru se cv (upd lu s 5) (upd st s 1)) : ∀ d j : Nat, j + d = 4 →
    wX_choose_110 post t x5 x6 (nI s) (d + 1) (nI j) pk (pc_wt tx s t j) ru se cv lu st := by
  intro d
  induction d with
  | zero =>
    intro j hj
    obtain rfl : j = 4 := by omega
    refine br_t pc_44 ⟨pc_vi hs, ?_⟩
    rw [pc_cl hs, pc_na1]
    exact nm_e ⟨pc_vi hs, nm_e (pc_x162f hs hp)⟩
  | succ d ih =>
    intro j hj
    have h4 : j < 4 := by omega
    have g := ih (j + 1) (by omega)
    refine br_f (pc_4j h4) ⟨pk_in (s * 4 + j) 16 (by omega) (pc_ix s j), ?_⟩
    rw [pk_cl (s * 4 + j) (pc_ix s j)]
    refine nm_r (e' := pc_wt tx s t (j + 1)) ?_ (nm_r (nI_1 j) g)
    rw [← pc_wtu]
    exact congrArg (upd (pc_wt tx s t j) (s * 4 + j)) (pc_nch t j)
theorem pc_x45a {h : Nat} (hs : s < 4) (hp : pc_xi post k t x5 x6 pk tx ru se cv lu st s) : ∀ d i : Nat, i + d = 4 →
    wX_choose_45 post k t x5 x6 (nI h) pk tx ru se cv lu st (d + 1) (nI s) 1 (nI i) := by
  intro d
  induction d with
  | zero =>
    intro i hi
    obtain rfl : i = 4 := by omega
    refine br_t pc_44 ⟨pc_vi hs, ?_⟩
    rw [pc_cl hs]
    have g := pc_x110 (pk := vp_updL pk s k) (t := t) (tx := tx) hs hp 4 0 rfl
    rw [pc_wt0] at g
    exact nm_e ⟨5, g⟩
  | succ d ih =>
    intro i hi
    exact br_f (pc_4j (by omega)) (nm_e (br_f (by decide) (nm_r (nI_1 i) (ih (i + 1) (by omega)))))
theorem pc_x45 {h : Nat} (hh : h < 4) (hv : ∀ s, s < 4 → st s = 0 ∨ st s = 4 ∨ pc_lv (st s)) (hf : ∃ s, s < 4 ∧ ¬ pc_lv (st s)) (hp : ∀ s, s < 4 → pc_fs st h s → pc_xi post k t x5 x6 pk tx ru se cv lu st s) : ∀ (d i : Nat) (x7 : Int32), i + d = 4 →
    (∀ f, f < i → pc_lv (st ((h + f) % 4))) →
    wX_choose_45 post k t x5 x6 (nI h) pk tx ru se cv lu st (d + 1) x7 0 (nI i) := by
  intro d
  induction d with
  | zero =>
    intro i x7 hi H
    obtain rfl : i = 4 := by omega
    obtain ⟨s, hs, hn⟩ := hf
    have e : (h + (s + 4 - h) % 4) % 4 = s := by omega
    have z := H ((s + 4 - h) % 4) (Nat.mod_lt _ (by decide))
    rw [e] at z
    exact absurd z hn
  | succ d ih =>
    intro i x7 hi H
    have h4 : i < 4 := by omega
    have hs : (h + i) % 4 < 4 := Nat.mod_lt _ (by decide)
    have go : ¬ pc_lv (st ((h + i) % 4)) → wX_choose_45 post k t x5 x6 (nI h) pk tx ru se cv lu st (d + 1) (nI ((h + i) % 4)) 1 (nI (i + 1)) := fun hn =>
      pc_x45a hs (hp _ hs ⟨i, h4, rfl, H, hn⟩) d (i + 1) (by omega)
    refine br_f (pc_4j h4) (nm_r (pc_pr hh h4) (br_t rfl ⟨pc_vi hs, ?_⟩))
    rw [pc_cl hs]
    by_cases z0 : st ((h + i) % 4) = 0
    · exact br_t z0 (nm_r (nI_1 i) (go fun z => pc_nz z z0))
    · refine br_f z0 ⟨pc_vi hs, ?_⟩
      by_cases z4 : st ((h + i) % 4) = 4
      · exact br_t z4 (nm_r (nI_1 i) (go fun z => pc_n4 z z4))
      · refine br_f z4 (nm_r (nI_1 i) (ih (i + 1) x7 (by omega) fun f hf => ?_))
        by_cases e : f = i
        · rw [e]; exact ((hv _ hs).resolve_left z0).resolve_left z4
        · exact H f (by omega)
theorem pc_x29 (hv : ∀ s, s < 4 → st s = 0 ∨ st s = 4 ∨ pc_lv (st s)) (hf : ∃ s, s < 4 ∧ ¬ pc_lv (st s)) (hp : ∀ s, s < 4 → pc_fs st (pc_hm k) s → pc_xi post k t x5 x6 pk tx ru se cv lu st s) :
    wX_choose_29 post k t x5 x6 pk tx ru se cv lu st := by
  unfold wX_choose_29 wpX_home
  rw [pc_home k]
  exact ⟨5, pc_x45 (pc_hm4 k) hv hf hp 4 0 (nI (pc_hm k)) rfl (fun f hf => absurd hf (Nat.not_lt_zero f))⟩
theorem pc_xch_hit (hf : ∀ P : Int32 → Prop, P (nI s) → wpX_find P (pk, tx, ru, se, cv, lu, st) k t) (hs : s < 4)
    (h1 : cv s = x6 → pc_xt post s pk tx ru se cv lu st) (h2 : ¬ cv s = x6 → pc_xr post x5 x6 s pk tx ru se cv lu st) :
    wpX_choose post (pk, tx, ru, se, cv, lu, st) k t x5 x6 := by
  unfold wpX_choose
  dsimp only
  exact hf _ (br_t (nI_pos' (by omega)) (pc_x162h hs h1 h2))
theorem pc_xch_miss (hf : ∀ P : Int32 → Prop, P (-1) → wpX_find P (pk, tx, ru, se, cv, lu, st) k t) (hv : ∀ s, s < 4 → st s = 0 ∨ st s = 4 ∨ pc_lv (st s))
    (h1 : pc_cn pc_b st 4 < 4 → ∀ s, s < 4 → pc_fs st (pc_hm k) s → pc_xi post k t x5 x6 pk tx ru se cv lu st s)
    (h2 : ¬ pc_cn pc_b st 4 < 4 → ∀ b, b < 4 → pc_lv (st b) → (∀ j, j < 4 → pc_lv (st j) → lu b ≤ lu j) → ∀ s, s < 4 → pc_fs (upd st b 4) (pc_hm k) s →
      pc_xi post k t x5 x6 pk tx ru se cv (upd (pc_sf (upd st b 4) b (lu b) lu 4) b 0) (upd st b 4) s) :
    wpX_choose post (pk, tx, ru, se, cv, lu, st) k t x5 x6 := by
  unfold wpX_choose
  dsimp only
  have l4 := pc_le4 st
  refine hf _ (br_f (by decide) (pc_xlive ?_))
  by_cases c : pc_cn pc_b st 4 < 4
  · exact br_t (nI_lt (b := 4) c (by decide)) (pc_x29 hv (pc_fr c) (h1 c))
  · refine br_f (nI_nlt (b := 4) (by omega) (by omega)) (pc_xev (fun z => ?_) (fun b hb hl hm => ?_))
    · refine absurd ?_ c
      rw [pc_cn4, pc_b0 (z 0 (by decide)), pc_b0 (z 1 (by decide)), pc_b0 (z 2 (by decide)), pc_b0 (z 3 (by decide))]
      decide
    · dsimp only
      refine pc_x29 (fun s hs => ?_) ⟨b, hb, by rw [pk_us]; exact pc_l4⟩ (h2 c b hb hl hm)
      by_cases e : s = b
      · rw [e, pk_us]; exact Or.inr (Or.inl rfl)
      · rw [pk_un e]; exact hv s hs
theorem pc_xcomp (hf : ∀ P : Int32 → Prop, P (nI s) → wpX_find P (pk, tx, ru, se, cv, lu, st) k t) (hs : s < 4)
    (h2 : ¬ st s = 1 → post (-2) (pk, tx, ru, se, cv, lu, st))
    (h3 : st s = 1 → (ru s < 3 ∨ ¬ (0 ≤ se s ∧ se s < 65536)) → post (-3) (pk, tx, ru, se, cv, lu, st))
    (h1 : st s = 1 → ¬ ru s < 3 → (0 ≤ se s ∧ se s < 65536) → (0 < x5 ∧ x5 < 65536) → post 1 (pk, tx, ru, se, cv, lu, upd st s 2))
    (h0 : st s = 1 → ¬ ru s < 3 → (0 ≤ se s ∧ se s < 65536) → ¬ (0 < x5 ∧ x5 < 65536) → post 0 (pk, tx, ru, se, cv, lu, upd st s 3)) :
    wpX_compiled post (pk, tx, ru, se, cv, lu, st) k t x5 := by
  unfold wpX_compiled
  dsimp only
  refine hf _ (br_t (nI_pos' (by omega)) ⟨pc_vi hs, ?_⟩)
  rw [pc_cl hs, pc_na2, pc_na3]
  refine br_c (fun c1 => ⟨pc_vi hs, br_c (fun c2 => h3 c1 (Or.inl c2)) (fun c2 => pc_xfits hs (fun z => ?_) (fun z => h3 c1 (Or.inr z)))⟩) h2
  refine br_c (fun c3 => ⟨pc_vi hs, nm_e (h0 c1 c2 z fun q => ?_)⟩) (fun c3 => br_c (fun c4 => ⟨pc_vi hs, nm_e (h0 c1 c2 z fun q => ?_)⟩) (fun c4 => ⟨pc_vi hs, nm_e (h1 c1 c2 z ⟨Int32.not_le.mp c3, Int32.not_le.mp c4⟩)⟩))
  · exact Int32.not_lt.mpr c3 q.1
  · exact Int32.not_lt.mpr c4 q.2
theorem pc_xcomp_miss (hf : ∀ P : Int32 → Prop, P (-1) → wpX_find P (pk, tx, ru, se, cv, lu, st) k t) (hp : post (-1) (pk, tx, ru, se, cv, lu, st)) :
    wpX_compiled post (pk, tx, ru, se, cv, lu, st) k t x5 := by
  unfold wpX_compiled
  dsimp only
  exact hf _ (br_f (by decide) hp)
theorem pc_xdrop (hf : ∀ P : Int32 → Prop, P (nI s) → wpX_find P (pk, tx, ru, se, cv, lu, st) k t) (hs : s < 4)
    (hp : post (nI (pc_cn pc_b (upd st s 4) 4)) (pk, tx, ru, se, cv, upd (pc_sf (upd st s 4) s (lu s) lu 4) s 0, upd st s 4)) :
    wpX_drop post (pk, tx, ru, se, cv, lu, st) k t := by
  unfold wpX_drop
  dsimp only
  refine hf _ (br_t (nI_pos' (by omega)) (pc_xrem hs ?_))
  dsimp only
  exact pc_xlive hp
theorem pc_xdrop_miss (hf : ∀ P : Int32 → Prop, P (-1) → wpX_find P (pk, tx, ru, se, cv, lu, st) k t) (hp : post (-1) (pk, tx, ru, se, cv, lu, st)) :
    wpX_drop post (pk, tx, ru, se, cv, lu, st) k t := by
  unfold wpX_drop
  dsimp only
  exact hf _ (br_f (by decide) hp)
theorem pc_xtemp {post : Int32 → Prop} (hf : ∀ P : Int32 → Prop, P (nI s) → wpX_find P (pk, tx, ru, se, cv, lu, st) k t) (hs : s < 4) (hp : post (ru s)) :
    wpX_temperature post (pk, tx, ru, se, cv, lu, st) k t := by
  unfold wpX_temperature
  dsimp only
  refine hf _ (br_t (nI_pos' (by omega)) ⟨pc_vi hs, ?_⟩)
  rw [pc_cl hs]
  exact hp
theorem pc_xtemp_miss {post : Int32 → Prop} (hf : ∀ P : Int32 → Prop, P (-1) → wpX_find P (pk, tx, ru, se, cv, lu, st) k t) (hp : post (-1)) :
    wpX_temperature post (pk, tx, ru, se, cv, lu, st) k t := by
  unfold wpX_temperature
  dsimp only
  exact hf _ (br_f (by decide) hp)
end
end
section
/-! the reference's walks -/
theorem pc_0 : (0 : Int32).toInt = 0 := by decide
theorem pc_65536 : (65536 : Int32).toInt = 65536 := by decide
theorem pc_f16 (z : Int32) : ((z.toUInt32 >>> ((16 : Int32).toUInt32 &&& Int32.toUInt32 31)).toInt32) = 0 ↔ (0 ≤ z ∧ z < 65536) := by
  have h := pk_ushr z 16 16 (by decide)
  have T : z.toInt = if 2 * z.toBitVec.toNat < 2 ^ 32 then (z.toBitVec.toNat : Int) else (z.toBitVec.toNat : Int) - ((2 ^ 32 : Nat) : Int) := BitVec.toInt_eq_toNat_cond z.toBitVec
  have L := z.toBitVec.isLt
  rw [Int32.le_iff_toInt_le, Int32.lt_iff_toInt_lt, pc_0, pc_65536]
  generalize z.toBitVec.toNat = w at h T L
  constructor
  · intro e
    rw [e] at h
    have h' : 0 = w / 2 ^ 16 := h
    rw [T]
    split <;> omega
  · intro ⟨a, b⟩
    apply Int32.toBitVec_inj.mp
    apply BitVec.eq_of_toNat_eq
    rw [h]
    show w / 2 ^ 16 = 0
    rw [T] at a b
    split at a <;> omega
theorem pc_len (x : Int32) : (0 < x ∧ x < 65536) ↔ (¬ x = 0 ∧ (0 ≤ x ∧ x < 65536)) := by
  rw [Int32.lt_iff_toInt_lt, Int32.le_iff_toInt_le, Int32.lt_iff_toInt_lt, ← Int32.toInt_inj, pc_0]
  omega
theorem pc_yfits {A B : Prop} {z : Int32} (h1 : 0 ≤ z ∧ z < 65536 → B) (h0 : ¬ (0 ≤ z ∧ z < 65536) → A) : wpY_fits (fun r => (r = 0 → A) ∧ (¬ r = 0 → B)) z := by
  unfold wpY_fits
  rw [pc_f16]
  exact br_c (fun c => br_f (by decide) (h1 c)) (fun c => br_t rfl (h0 c))
theorem pc_lneg {n : Nat} (h : n < 2 ^ 31) : ¬ lN n ≤ -1 := by
  rw [Int64.le_iff_toInt_le, lN_toInt h, show (-1 : Int64).toInt = -1 from by decide]
  omega
theorem pc_lnle {a b : Int64} (h : ¬ a ≤ b) : b ≤ a := by
  rw [Int64.le_iff_toInt_le] at *
  omega
theorem pc_llr (a : Int64) : a ≤ a := by
  rw [Int64.le_iff_toInt_le]
  omega
theorem pc_llt {a b c : Int64} (h : a ≤ b) (g : b ≤ c) : a ≤ c := by
  rw [Int64.le_iff_toInt_le] at *
  omega
def pc_yt (post : Int32 → SY → Prop) (i : Nat) (fl : Int32) (ky : Nat → Int64) (ty : Nat → Int32) (age : Nat → Int64) (ry sz ve sy : Nat → Int32) : Prop :=
  post (pc_an (sy i) (ry i + 1) (sz i)) (fl, ky, ty, vp_updL (pc_ia age 4) i 0, upd ry i (ry i + 1), sz, ve, sy)
def pc_yr (post : Int32 → SY → Prop) (x5 x6 : Int32) (i : Nat) (fl : Int32) (ky : Nat → Int64) (ty : Nat → Int32) (age : Nat → Int64) (ry sz ve sy : Nat → Int32) : Prop :=
  pc_yt post i fl ky ty age (upd ry i 0) (upd sz i x5) (upd ve i x6) (upd sy i 1)
def pc_yi (post : Int32 → SY → Prop) (k t : Int64) (x5 x6 : Int32) (fl : Int32) (ky : Nat → Int64) (ty : Nat → Int32) (age : Nat → Int64) (ry sz ve sy : Nat → Int32) (i : Nat) : Prop :=
  pc_yr post x5 x6 i (fl + 1) (vp_updL ky i k) (pc_wt ty i t 4) age ry sz ve sy
theorem pc_ia0 (age : Nat → Int64) : pc_ia age 0 = age := funext fun i => if_neg (Nat.not_lt_zero i)
theorem pc_iaj (age : Nat → Int64) (j : Nat) : pc_ia age j j = age j := if_neg (Nat.lt_irrefl j)
theorem pc_iau (age : Nat → Int64) (j : Nat) : vp_updL (pc_ia age j) j (age j + 1) = pc_ia age (j + 1) := by
  funext i
  unfold vp_updL pc_ia
  by_cases b : i = j
  · rw [if_pos b, if_pos (by omega), b]
  · rw [if_neg b]
    by_cases a : i < j
    · rw [if_pos a, if_pos (by omega)]
    · rw [if_neg a, if_neg (by omega)]
section
variable {fl : Int32} {ky age : Nat → Int64} {ty ry sz ve sy : Nat → Int32} {k t : Int64} {i : Nat}
theorem pc_y37 {post J : Int32 → Prop} (hi : i < 4) : ∀ d j c : Nat, j + d = 4 → c ≤ j →
    ((c = j ∧ ∀ q, j ≤ q → q < 4 → ty (i * 4 + q) = pc_ch t q) → post (nI i)) →
    (¬ (c = j ∧ ∀ q, j ≤ q → q < 4 → ty (i * 4 + q) = pc_ch t q) → J (nI i + 1)) →
    wY_find_37 post J k t (nI i) fl ky ty age ry sz ve sy (d + 1) (nI c) (nI j) := by
  intro d
  induction d with
  | zero =>
    intro j c hj hc hp hJ
    obtain rfl : j = 4 := by omega
    refine br_t pc_44 ?_
    by_cases e : c = 4
    · exact br_t (congrArg nI e) (hp ⟨e, fun q h1 h2 => absurd h2 (by omega)⟩)
    · exact br_f (fun z => e ((nI_eq (b := 4) (by omega) (by decide)).mp z)) (nm_e (hJ fun h => e h.1))
  | succ d ih =>
    intro j c hj hc hp hJ
    have h4 : j < 4 := by omega
    refine br_f (pc_4j h4) ⟨pk_in (i * 4 + j) 16 (by omega) (pc_ix i j), ?_⟩
    rw [pk_cl (i * 4 + j) (pc_ix i j)]
    by_cases e : ty (i * 4 + j) = pc_ch t j
    · refine br_t e (nm_r (nI_1 c) (nm_r (nI_1 j) (ih (j + 1) (c + 1) (by omega) (by omega) (fun h => hp ⟨by omega, fun q h1 h2 => ?_⟩) (fun hn => hJ fun h => hn ⟨by omega, fun q h1 h2 => h.2 q (by omega) h2⟩))))
      by_cases ei : q = j
      · rw [ei]; exact e
      · exact h.2 q (by omega) h2
    · exact br_f e (nm_r (nI_1 j) (ih (j + 1) c (by omega) (by omega) (fun h => absurd h.1 (by omega)) (fun _ => hJ fun h => e (h.2 j (Nat.le_refl j) h4))))
theorem pc_y3 {post : Int32 → Prop} (hit : ∀ i, i < 4 → pc_my k t ky ty sy i → post (nI i)) : ∀ d i : Nat, i + d = 4 →
    ((∀ q, i ≤ q → q < 4 → ¬ pc_my k t ky ty sy q) → post (-1)) →
    wY_find_3 post k t fl ky ty age ry sz ve sy (d + 1) (nI i) := by
  intro d
  induction d with
  | zero =>
    intro i hi miss
    obtain rfl : i = 4 := by omega
    exact br_t pc_44 (miss fun e h1 h2 => absurd h2 (by omega))
  | succ d ih =>
    intro i hi miss
    have h4 : i < 4 := by omega
    have go : ¬ pc_my k t ky ty sy i → wY_find_3 post k t fl ky ty age ry sz ve sy (d + 1) (nI (i + 1)) := by
      intro nm
      refine ih (i + 1) (by omega) (fun H => miss fun q h1 h2 => ?_)
      by_cases e : q = i
      · rw [e]; exact nm
      · exact H q (by omega) h2
    refine br_f (pc_4j h4) ⟨pc_vi h4, ?_⟩
    rw [pc_cl h4]
    by_cases z0 : sy i = 0
    · exact br_t z0 (nm_r (nI_1 i) (go fun m => m.1 z0))
    · refine br_f z0 ⟨pc_vi h4, ?_⟩
      by_cases ek : ky i = k
      · refine br_t ek ⟨5, pc_y37 h4 4 0 0 rfl (Nat.le_refl 0) (fun H => hit i h4 ⟨z0, ek, fun j hj => H.2 j (Nat.zero_le j) hj⟩) (fun H => ?_)⟩
        rw [nI_1 i]
        exact go fun m => H ⟨rfl, fun j _ hj => m.2.2 j hj⟩
      · exact br_f ek (nm_r (nI_1 i) (go fun m => ek m.2.1))
theorem pc_yf {post : Int32 → Prop} (hit : ∀ i, i < 4 → pc_my k t ky ty sy i → post (nI i)) (miss : (∀ q, q < 4 → ¬ pc_my k t ky ty sy q) → post (-1)) :
    wpY_find post (fl, ky, ty, age, ry, sz, ve, sy) k t := by
  unfold wpY_find
  dsimp only
  exact ⟨5, pc_y3 hit 4 0 rfl (fun H => miss fun q hq => H q (Nat.zero_le q) hq)⟩
theorem pc_yrel {post : Int32 → SY → Prop} (hi : i < 4) (hp : post (fl - 1) (fl - 1, vp_updL ky i 0, ty, vp_updL age i 0, ry, sz, ve, upd sy i 0)) :
    wpY_release post (fl, ky, ty, age, ry, sz, ve, sy) (nI i) := by
  unfold wpY_release
  dsimp only
  rw [pc_cl hi, pc_na0]
  exact ⟨pc_vi hi, nm_e ⟨pc_vi hi, nm_e ⟨pc_vi hi, nm_e (nm_e hp)⟩⟩⟩
theorem pc_y9 {post : Int64 → SY → Prop} (hg : ∀ i, i < 4 → ¬ age i ≤ -1) (hn : (∀ i, i < 4 → sy i = 0) → post 0 (fl, ky, ty, age, ry, sz, ve, sy))
    (hy : ∀ b, b < 4 → sy b ≠ 0 → (∀ j, j < 4 → sy j ≠ 0 → age j ≤ age b) → post (ky b) (fl - 1, vp_updL ky b 0, ty, vp_updL age b 0, ry, sz, ve, upd sy b 0)) :
    ∀ (d j : Nat) (x1 : Int32) (x2 : Int64), j + d = 4 → ((x1 = -1 ∧ x2 = -1 ∧ ∀ q, q < j → sy q = 0) ∨ ∃ b, b < j ∧ x1 = nI b ∧ x2 = age b ∧ sy b ≠ 0 ∧ ∀ q, q < j → sy q ≠ 0 → age q ≤ age b) →
    wY_evict_9 post fl ky ty age ry sz ve sy (d + 1) x1 x2 (nI j) := by
  intro d
  induction d with
  | zero =>
    intro j x1 x2 hj inv
    obtain rfl : j = 4 := by omega
    rcases inv with ⟨rfl, rfl, h⟩ | ⟨b, hb, rfl, rfl, hl, h⟩
    · exact br_t pc_44 (br_f (by decide) (hn h))
    · refine br_t pc_44 (br_t (nI_pos' (by omega)) ⟨pc_vi hb, ?_⟩)
      rw [pc_cl hb]
      refine nm_e (pc_yrel hb ?_)
      exact hy b hb hl h
  | succ d ih =>
    intro j x1 x2 hj inv
    have h4 : j < 4 := by omega
    refine br_f (pc_4j h4) ⟨pc_vi h4, ?_⟩
    rw [pc_cl h4]
    by_cases z0 : sy j = 0
    · refine br_t z0 (nm_r (nI_1 j) (ih (j + 1) x1 x2 (by omega) ?_))
      rcases inv with ⟨e1, e2, h⟩ | ⟨b, hb, e1, e2, hlb, h⟩
      · refine Or.inl ⟨e1, e2, fun q hq => ?_⟩
        by_cases e : q = j
        · rw [e]; exact z0
        · exact h q (by omega)
      · refine Or.inr ⟨b, by omega, e1, e2, hlb, fun q hq hl => ?_⟩
        by_cases e : q = j
        · rw [e] at hl; exact absurd z0 hl
        · exact h q (by omega) hl
    · refine br_f z0 ⟨pc_vi h4, nm_e ?_⟩
      rcases inv with ⟨rfl, rfl, h⟩ | ⟨b, hb, rfl, rfl, hlb, h⟩
      · refine br_f (hg j h4) (nm_r (nI_1 j) (ih (j + 1) (nI j) (age j) (by omega) (Or.inr ⟨j, by omega, rfl, rfl, z0, fun q hq hl => ?_⟩)))
        by_cases e : q = j
        · rw [e]; exact pc_llr _
        · exact absurd (h q (by omega)) hl
      · by_cases c : age j ≤ age b
        · refine br_t c (nm_r (nI_1 j) (ih (j + 1) (nI b) (age b) (by omega) (Or.inr ⟨b, by omega, rfl, rfl, hlb, fun q hq hl => ?_⟩)))
          by_cases e : q = j
          · rw [e]; exact c
          · exact h q (by omega) hl
        · refine br_f c (nm_r (nI_1 j) (ih (j + 1) (nI j) (age j) (by omega) (Or.inr ⟨j, by omega, rfl, rfl, z0, fun q hq hl => ?_⟩)))
          by_cases e : q = j
          · rw [e]; exact pc_llr _
          · exact pc_llt (h q (by omega) hl) (pc_lnle c)
theorem pc_yev {post : Int64 → SY → Prop} (hg : ∀ i, i < 4 → ¬ age i ≤ -1) (hn : (∀ i, i < 4 → sy i = 0) → post 0 (fl, ky, ty, age, ry, sz, ve, sy))
    (hy : ∀ b, b < 4 → sy b ≠ 0 → (∀ j, j < 4 → sy j ≠ 0 → age j ≤ age b) → post (ky b) (fl - 1, vp_updL ky b 0, ty, vp_updL age b 0, ry, sz, ve, upd sy b 0)) :
    wpY_evict post (fl, ky, ty, age, ry, sz, ve, sy) := by
  unfold wpY_evict
  dsimp only
  exact ⟨5, pc_y9 hg hn hy 4 0 (-1) (-1) rfl (Or.inl ⟨rfl, rfl, fun i hi => absurd hi (Nat.not_lt_zero i)⟩)⟩
end
section
variable {fl : Int32} {ky age : Nat → Int64} {ty ry sz ve sy : Nat → Int32} {k t : Int64} {i : Nat} {post : Int32 → SY → Prop} {x5 x6 : Int32}
theorem pc_y171 (hi : i < 4) (hp : pc_yt post i fl ky ty age ry sz ve sy) : ∀ d j : Nat, j + d = 4 →
    wY_choose_171 post (nI i) fl (d + 1) (nI j) ky ty (pc_ia age j) ry sz ve sy := by
  intro d
  induction d with
  | zero =>
    intro j hj
    obtain rfl : j = 4 := by omega
    refine br_t pc_44 ⟨pc_vi hi, ?_⟩
    rw [pc_cl hi]
    refine nm_e ⟨pc_vi hi, pc_vi hi, nm_e (nm_e ⟨pc_vi hi, ?_⟩)⟩
    unfold pc_yt pc_an at hp
    by_cases c2 : sy i = 2
    · rw [if_pos c2] at hp
      exact br_t c2 hp
    · rw [if_neg c2] at hp
      refine br_f c2 ⟨pc_vi hi, ?_⟩
      by_cases c1 : sy i = 1
      · rw [if_pos c1] at hp
        refine br_t c1 ?_
        by_cases c3 : ry i + 1 < 3
        · rw [if_pos c3] at hp
          exact br_t c3 hp
        · rw [if_neg c3] at hp
          refine br_f c3 ⟨pc_vi hi, pc_yfits (fun z => ?_) (fun z => ?_)⟩
          · rw [if_pos z] at hp; exact hp
          · rw [if_neg z] at hp; exact hp
      · rw [if_neg c1] at hp
        exact br_f c1 hp
  | succ d ih =>
    intro j hj
    have h4 : j < 4 := by omega
    have g := ih (j + 1) (by omega)
    refine br_f (pc_4j h4) ⟨pc_vi h4, pc_vi h4, ?_⟩
    rw [pc_cl h4, pc_iaj, pc_iau]
    exact nm_e (nm_r (nI_1 j) g)
theorem pc_y171' (hi : i < 4) (hp : pc_yt post i fl ky ty age ry sz ve sy) : ∃ n, wY_choose_171 post (nI i) fl n 0 ky ty age ry sz ve sy := by
  have g := pc_y171 hi hp 4 0 rfl
  rw [pc_ia0] at g
  exact ⟨5, g⟩
theorem pc_y134 (hi : i < 4) (hp : pc_yr post x5 x6 i fl ky ty age ry sz ve sy) : wY_choose_134 post x5 x6 (nI i) fl ky ty age ry sz ve sy := by
  unfold wY_choose_134
  rw [pc_cl hi, pc_na1]
  refine ⟨pc_vi hi, nm_e ⟨pc_vi hi, nm_e ⟨pc_vi hi, nm_e ⟨pc_vi hi, nm_e ?_⟩⟩⟩⟩
  exact pc_y171' hi hp
theorem pc_y117h (hi : i < 4) (h1 : ve i = x6 → pc_yt post i fl ky ty age ry sz ve sy) (h2 : ¬ ve i = x6 → pc_yr post x5 x6 i fl ky ty age ry sz ve sy) :
    wY_choose_117 post x5 x6 (nI i) 0 fl ky ty age ry sz ve sy := by
  unfold wY_choose_117
  rw [pc_cl hi]
  exact br_t rfl ⟨pc_vi hi, br_c (fun c => pc_y171' hi (h1 c)) (fun c => pc_y134 hi (h2 c))⟩
theorem pc_y117f (hi : i < 4) (hp : pc_yr post x5 x6 i fl ky ty age ry sz ve sy) : wY_choose_117 post x5 x6 (nI i) 1 fl ky ty age ry sz ve sy := by
  unfold wY_choose_117
  exact br_f (by decide) (pc_y134 hi hp)
theorem pc_y74 (hi : i < 4) (hp : pc_yr post x5 x6 i (fl + 1) ky (pc_wt ty i t 4) age ry sz ve sy) : ∀ d j : Nat, j + d = 4 →
    wY_choose_74 post t x5 x6 (nI i) 1 fl (d + 1) (nI j) ky (pc_wt ty i t j) age ry sz ve sy := by
  intro d
  induction d with
  | zero =>
    intro j hj
    obtain rfl : j = 4 := by omega
    exact br_t pc_44 (nm_e (pc_y117f hi hp))
  | succ d ih =>
    intro j hj
    have h4 : j < 4 := by omega
    have g := ih (j + 1) (by omega)
    refine br_f (pc_4j h4) ⟨pk_in (i * 4 + j) 16 (by omega) (pc_ix i j), ?_⟩
    rw [pk_cl (i * 4 + j) (pc_ix i j)]
    refine nm_r (e' := pc_wt ty i t (j + 1)) ?_ (nm_r (nI_1 j) g)
    rw [← pc_wtu]
    exact congrArg (upd (pc_wt ty i t j) (i * 4 + j)) (pc_nch t j)
theorem pc_y74' (hi : i < 4) (hp : pc_yi post k t x5 x6 fl ky ty age ry sz ve sy i) : ∃ n, wY_choose_74 post t x5 x6 (nI i) 1 fl n 0 (vp_updL ky i k) ty age ry sz ve sy := by
  have g := pc_y74 (ky := vp_updL ky i k) (t := t) (ty := ty) hi hp 4 0 rfl
  rw [pc_wt0] at g
  exact ⟨5, g⟩
theorem pc_y41 (hf : ∃ i, i < 4 ∧ sy i = 0) (hp : ∀ i, i < 4 → sy i = 0 → pc_yi post k t x5 x6 fl ky ty age ry sz ve sy i) : ∀ d j : Nat, j + d = 3 → (∀ q, q < j → sy q ≠ 0) →
    wY_choose_41 post k t x5 x6 1 fl ky ty age ry sz ve sy (d + 1) (nI j) := by
  intro d
  induction d with
  | zero =>
    intro j hj H
    obtain rfl : j = 3 := by omega
    obtain ⟨q, hq, hz⟩ := hf
    have e : q = 3 := by
      by_cases c : q < 3
      · exact absurd hz (H q c)
      · omega
    rw [e] at hz
    refine br_t (by decide) ⟨pc_vi (by decide), ?_⟩
    rw [pc_cl (s := 3) (by decide)]
    exact nm_e (pc_y74' (by decide) (hp 3 (by decide) hz))
  | succ d ih =>
    intro j hj H
    have h4 : j < 4 := by omega
    refine br_f (nI_ge (b := 3) (by omega) (by decide)) ⟨pc_vi h4, ?_⟩
    rw [pc_cl h4]
    by_cases z0 : sy j = 0
    · exact br_t z0 ⟨pc_vi h4, nm_e (pc_y74' h4 (hp j h4 z0))⟩
    · refine br_f z0 (nm_r (nI_1 j) (ih (j + 1) (by omega) fun q hq => ?_))
      by_cases e : q = j
      · rw [e]; exact z0
      · exact H q (by omega)
theorem pc_y41' (hf : ∃ i, i < 4 ∧ sy i = 0) (hp : ∀ i, i < 4 → sy i = 0 → pc_yi post k t x5 x6 fl ky ty age ry sz ve sy i) :
    ∃ n, wY_choose_41 post k t x5 x6 1 fl ky ty age ry sz ve sy n 0 := ⟨4, pc_y41 hf hp 3 0 rfl (fun q hq => absurd hq (Nat.not_lt_zero q))⟩
theorem pc_ych_hit (hf : ∀ P : Int32 → Prop, P (nI i) → wpY_find P (fl, ky, ty, age, ry, sz, ve, sy) k t) (hi : i < 4)
    (h1 : ve i = x6 → pc_yt post i fl ky ty age ry sz ve sy) (h2 : ¬ ve i = x6 → pc_yr post x5 x6 i fl ky ty age ry sz ve sy) :
    wpY_choose post (fl, ky, ty, age, ry, sz, ve, sy) k t x5 x6 := by
  unfold wpY_choose
  dsimp only
  refine hf _ (br_t (nI_pos' (by omega)) ?_)
  unfold wY_choose_18
  exact br_t rfl (pc_y117h hi h1 h2)
theorem pc_ych_miss {n : Nat} (hf : ∀ P : Int32 → Prop, P (-1) → wpY_find P (fl, ky, ty, age, ry, sz, ve, sy) k t) (hg : ∀ i, i < 4 → ¬ age i ≤ -1) (hl : fl = nI n) (hn4 : n ≤ 4) (hc : pc_cn pc_by sy 4 = n)
    (h1 : n < 4 → ∀ i, i < 4 → sy i = 0 → pc_yi post k t x5 x6 fl ky ty age ry sz ve sy i)
    (h2 : ¬ n < 4 → ∀ b, b < 4 → sy b ≠ 0 → (∀ j, j < 4 → sy j ≠ 0 → age j ≤ age b) → ∀ i, i < 4 → upd sy b 0 i = 0 →
      pc_yi post k t x5 x6 (fl - 1) (vp_updL ky b 0) ty (vp_updL age b 0) ry sz ve (upd sy b 0) i) :
    wpY_choose post (fl, ky, ty, age, ry, sz, ve, sy) k t x5 x6 := by
  unfold wpY_choose
  dsimp only
  refine hf _ (br_f (by decide) ?_)
  unfold wY_choose_18
  refine br_f (by decide) ?_
  by_cases c : n < 4
  · refine br_f (fun z => ?_) (pc_y41' (pc_fry (by rw [hc]; exact c)) (h1 c))
    rw [hl] at z
    have z' := (nI_eq (a := n) (b := 4) (by omega) (by decide)).mp z
    omega
  · have e4 : n = 4 := by omega
    refine br_t (by rw [hl, e4]; rfl) (pc_yev hg (fun z => ?_) (fun b hb hz hm => pc_y41' ⟨b, hb, pk_us⟩ (h2 c b hb hz hm)))
    rw [pc_cn4, pc_y0 (z 0 (by decide)), pc_y0 (z 1 (by decide)), pc_y0 (z 2 (by decide)), pc_y0 (z 3 (by decide))] at hc
    omega
theorem pc_ycomp (hf : ∀ P : Int32 → Prop, P (nI i) → wpY_find P (fl, ky, ty, age, ry, sz, ve, sy) k t) (hi : i < 4)
    (h2 : ¬ sy i = 1 → post (-2) (fl, ky, ty, age, ry, sz, ve, sy))
    (h3 : sy i = 1 → (ry i < 3 ∨ ¬ (0 ≤ sz i ∧ sz i < 65536)) → post (-3) (fl, ky, ty, age, ry, sz, ve, sy))
    (h1 : sy i = 1 → ¬ ry i < 3 → (0 ≤ sz i ∧ sz i < 65536) → (0 < x5 ∧ x5 < 65536) → post 1 (fl, ky, ty, age, ry, sz, ve, upd sy i 2))
    (h0 : sy i = 1 → ¬ ry i < 3 → (0 ≤ sz i ∧ sz i < 65536) → ¬ (0 < x5 ∧ x5 < 65536) → post 0 (fl, ky, ty, age, ry, sz, ve, upd sy i 3)) :
    wpY_compiled post (fl, ky, ty, age, ry, sz, ve, sy) k t x5 := by
  unfold wpY_compiled
  dsimp only
  refine hf _ (br_t (nI_pos' (by omega)) ⟨pc_vi hi, ?_⟩)
  rw [pc_cl hi, pc_na2, pc_na3]
  rw [pc_len] at h1 h0
  refine br_c (fun c1 => ⟨pc_vi hi, br_c (fun c2 => h3 c1 (Or.inl c2)) (fun c2 => ⟨pc_vi hi, pc_yfits (fun z => ?_) (fun z => h3 c1 (Or.inr z))⟩)⟩) h2
  exact br_c (fun c3 => ⟨pc_vi hi, nm_e (h0 c1 c2 z fun q => q.1 c3)⟩) (fun c3 => pc_yfits (fun y => ⟨pc_vi hi, nm_e (h1 c1 c2 z ⟨c3, y⟩)⟩) (fun y => ⟨pc_vi hi, nm_e (h0 c1 c2 z fun q => y q.2)⟩))
theorem pc_ycomp_miss (hf : ∀ P : Int32 → Prop, P (-1) → wpY_find P (fl, ky, ty, age, ry, sz, ve, sy) k t) (hp : post (-1) (fl, ky, ty, age, ry, sz, ve, sy)) :
    wpY_compiled post (fl, ky, ty, age, ry, sz, ve, sy) k t x5 := by
  unfold wpY_compiled
  dsimp only
  exact hf _ (br_f (by decide) hp)
theorem pc_ydrop (hf : ∀ P : Int32 → Prop, P (nI i) → wpY_find P (fl, ky, ty, age, ry, sz, ve, sy) k t) (hi : i < 4)
    (hp : post (fl - 1) (fl - 1, vp_updL ky i 0, ty, vp_updL age i 0, ry, sz, ve, upd sy i 0)) :
    wpY_drop post (fl, ky, ty, age, ry, sz, ve, sy) k t := by
  unfold wpY_drop
  dsimp only
  refine hf _ (br_t (nI_pos' (by omega)) (pc_yrel hi ?_))
  exact hp
theorem pc_ydrop_miss (hf : ∀ P : Int32 → Prop, P (-1) → wpY_find P (fl, ky, ty, age, ry, sz, ve, sy) k t) (hp : post (-1) (fl, ky, ty, age, ry, sz, ve, sy)) :
    wpY_drop post (fl, ky, ty, age, ry, sz, ve, sy) k t := by
  unfold wpY_drop
  dsimp only
  exact hf _ (br_f (by decide) hp)
theorem pc_ytemp {post : Int32 → Prop} (hf : ∀ P : Int32 → Prop, P (nI i) → wpY_find P (fl, ky, ty, age, ry, sz, ve, sy) k t) (hi : i < 4) (hp : post (ry i)) :
    wpY_temperature post (fl, ky, ty, age, ry, sz, ve, sy) k t := by
  unfold wpY_temperature
  dsimp only
  refine hf _ (br_t (nI_pos' (by omega)) ⟨pc_vi hi, ?_⟩)
  rw [pc_cl hi]
  exact hp
theorem pc_ytemp_miss {post : Int32 → Prop} (hf : ∀ P : Int32 → Prop, P (-1) → wpY_find P (fl, ky, ty, age, ry, sz, ve, sy) k t) (hp : post (-1)) :
    wpY_temperature post (fl, ky, ty, age, ry, sz, ve, sy) k t := by
  unfold wpY_temperature
  dsimp only
  exact hf _ (br_f (by decide) hp)
end
end
section
/-! the owed statements -/
section
variable {k n : Nat} {M : Nat → Nat → Prop} {rk ag : Nat → Nat} {pk : Nat → Int64} {tx ru se cv lu st : Nat → Int32} {fl : Int32} {ky age : Nat → Int64} {ty ry sz ve sy : Nat → Int32} {s i : Nat} {key t : Int64}
theorem pc_xfh (B : pc_B n M pk tx ru se cv st ky ty ry sz ve sy) (m : M s i) (mx : pc_mx key t pk tx st s) (P : Int32 → Prop) (hp : P (nI s)) : wpX_find P (pk, tx, ru, se, cv, lu, st) key t := by
  refine pc_xf B.1 (fun s' hs' mx' => ?_) (fun H => ?_)
  · rw [pc_ux B m mx hs' mx']
    exact hp
  · obtain ⟨b1, b2, b3, b4, b5, b6, b7, b8, b9⟩ := B
    obtain ⟨e, he, h1, h2⟩ := b7 s i m
    rw [mx.2.1] at h1 h2
    have nm := H e he h2
    rw [← h1] at nm
    exact absurd mx nm
theorem pc_xfm (B : pc_B n M pk tx ru se cv st ky ty ry sz ve sy) (nx : ∀ s, s < 4 → ¬ pc_mx key t pk tx st s) (P : Int32 → Prop) (hp : P (-1)) : wpX_find P (pk, tx, ru, se, cv, lu, st) key t :=
  pc_xf B.1 (fun s' hs' mx' => absurd mx' (nx s' hs')) (fun _ => hp)
theorem pc_yfh (B : pc_B n M pk tx ru se cv st ky ty ry sz ve sy) (m : M s i) (mx : pc_mx key t pk tx st s) (hi : i < 4) (my : pc_my key t ky ty sy i) (P : Int32 → Prop) (hp : P (nI i)) : wpY_find P (fl, ky, ty, age, ry, sz, ve, sy) key t := by
  refine pc_yf (fun i' hi' my' => ?_) (fun H => absurd my (H i hi))
  rw [pc_uy B m mx hi' my']
  exact hp
theorem pc_yfm (ny : ∀ i, i < 4 → ¬ pc_my key t ky ty sy i) (P : Int32 → Prop) (hp : P (-1)) : wpY_find P (fl, ky, ty, age, ry, sz, ve, sy) key t :=
  pc_yf (fun i hi my => absurd my (ny i hi)) (fun _ => hp)
theorem pc_hg (O : pc_O k n M rk ag lu age) (hk : k < 2 ^ 31) : ∀ i, i < 4 → ¬ age i ≤ -1 := fun i hi => by
  have o := O.2.1 i hi
  rw [o.1]
  exact pc_lneg (Nat.lt_of_le_of_lt o.2 hk)
theorem pc_ins {x5 x6 : Int32} (B : pc_B n M pk tx ru se cv st ky ty ry sz ve sy) (O : pc_O k n M rk ag lu age) (hf : fl = nI n) (nx : ∀ s, s < 4 → ¬ pc_mx key t pk tx st s) (hs : s < 4) (fs : pc_fs st (pc_hm key) s) (hi : i < 4) (hz : sy i = 0) :
    pc_xi (fun r u' => pc_yi (fun r' v' => r' = r ∧ i_Rel (k + 7) u' v') key t x5 x6 fl ky ty age ry sz ve sy i) key t x5 x6 pk tx ru se cv lu st s := by
  obtain ⟨e, he, es, hfl, hnl⟩ := fs
  have b4 := B.2.2.2.1
  have n4 : n ≤ 4 := by rw [← B.2.2.2.2.2.2.2.1]; exact pc_le4 st
  have B2 := pc_Bins (k := key) (t := t) (pk' := vp_updL pk s key) (tx' := pc_wt tx s t 4) (ru' := upd ru s 0) (se' := upd se s x5) (cv' := upd cv s x6) (st' := upd (upd st s 1) s 1)
    (ky' := vp_updL ky i key) (ty' := pc_wt ty i t 4) (ry' := upd ry i 0) (sz' := upd sz i x5) (ve' := upd ve i x6) (sy' := upd sy i 1) B hs hi hnl hz
    (fun a b z q => nx a (b4 a b z).1 ⟨(b4 a b z).2.2.1, q⟩)
    ⟨e, he, es, fun f g => pc_nz (hfl f g)⟩
    (fun j hj => ⟨pk_uLn hj, pk_un hj, pk_un hj, pk_un hj, by rw [pk_un hj, pk_un hj], fun q hq => pc_wt_out hj hq⟩)
    (fun j hj => ⟨pk_uLn hj, pk_un hj, pk_un hj, pk_un hj, pk_un hj, fun q hq => pc_wt_out hj hq⟩)
    ⟨by rw [pk_us, pk_us], by rw [pk_us, pk_us], by rw [pk_us, pk_us], by rw [pk_us, pk_us]⟩ ⟨pk_uLs, pk_uLs⟩
    (fun q hq => ⟨pc_wt_in hq, pc_wt_in hq⟩) (by rw [pk_us]; exact Or.inl rfl)
  have O2 : pc_O k n (fun a b => (M a b ∨ (a = s ∧ b = i)) ∧ a ≠ s) rk ag (pc_sf (upd (upd st s 1) s 1) s (upd lu s 5 s) (upd lu s 5) 4) age := by
    refine pc_Olu (pc_Omono O (fun a b z => z.1.resolve_right (fun q => z.2 q.1))) (fun a b z => ?_)
    have m := z.1.resolve_right (fun q => z.2 q.1)
    have c := b4 a b m
    have o := O.1 a b m
    rw [pc_sf4 c.1, pc_sh_t z.2 (by rw [pk_un z.2, pk_un z.2]; exact c.2.2.1), pk_un z.2, pk_us, if_pos]
    rw [o.1]
    exact nI_le (b := 5) (by omega) (by decide)
  exact pc_fin (n0 := n) (lu := upd lu s 5) (fl := fl + 1) B2 (Or.inr ⟨rfl, rfl⟩) O2 (by rw [hf, nI_1])
end
theorem i_up {k : Nat} {u : SX} {v : SY} (h : i_Rel k u v) : i_Rel (k + 7) u v := by
  obtain ⟨pk, tx, ru, se, cv, lu, st⟩ := u
  obtain ⟨fl, ky, ty, age, ry, sz, ve, sy⟩ := v
  obtain ⟨n, M, rk, ag, B, O, hf⟩ := h
  exact ⟨n, M, rk, ag, B, pc_Oup O (by omega), hf⟩
theorem i_vc0 : wpX_init (fun u => wpY_init (fun v => i_Rel 0 u v)) := by
  refine ⟨0, fun _ _ => False, fun _ => 0, fun _ => 0, ⟨?_, ?_, ?_, ?_, ?_, ?_, ?_, ?_, ?_⟩, ⟨?_, ?_, ?_⟩, rfl⟩
  · exact fun _ _ => Or.inl rfl
  · exact fun _ _ h => absurd h pc_l0
  · exact fun _ _ h => absurd rfl h
  · exact fun _ _ h => h.elim
  · exact fun _ _ _ _ h => h.elim
  · exact fun _ _ _ _ h => h.elim
  · exact fun _ _ h => h.elim
  · rw [pc_cn4, pc_b0 pc_l0]
  · rw [pc_cn4, pc_y0 rfl]
  · exact fun _ _ h => h.elim
  · exact fun _ _ => ⟨rfl, Nat.le_refl 0⟩
  · exact fun _ _ _ _ h => h.elim
theorem i_vc_choose {k : Nat} {u : SX} {v : SY} (I : i_Rel k u v) (hk : k + 7 ≤ 3584) (a0 : Int64) (a1 : Int64) (v5 : Int32) (v6 : Int32) : wpX_choose (fun r u' => wpY_choose (fun r' v' => r' = r ∧ i_Rel (k + 7) u' v') v a0 a1 v5 v6) u a0 a1 v5 v6 := by
  obtain ⟨pk, tx, ru, se, cv, lu, st⟩ := u
  obtain ⟨fl, ky, ty, age, ry, sz, ve, sy⟩ := v
  obtain ⟨n, M, rk, ag, B, O, hf⟩ := I
  rcases pc_dich B a0 a1 with ⟨s, i, m, mx, my⟩ | ⟨nx, ny⟩
  · obtain ⟨m1, m2, m3, m4, m5, m6, m7, m8, m9⟩ := B.2.2.2.1 s i m
    have en := pc_pos O m
    refine pc_xch_hit (pc_xfh B m mx) m1 (fun c => ?_) (fun c => ?_)
    · unfold pc_xt
      refine pc_ych_hit (pc_yfh B m mx m2 my) m2 (fun c' => ?_) (fun c' => absurd (m8.symm.trans c) c')
      exact pc_fin (n0 := n - 1) (by rw [en]; exact B) m (pc_hitO B O m) (by rw [en]; exact hf)
    · unfold pc_xr pc_xt
      refine pc_ych_hit (pc_yfh B m mx m2 my) m2 (fun c' => absurd (m8.trans c') c) (fun c' => ?_)
      have B2 := pc_Bset (ru' := upd ru s 0) (se' := upd se s v5) (cv' := upd cv s v6) (st' := upd st s 1) (ry' := upd ry i 0) (sz' := upd sz i v5) (ve' := upd ve i v6) (sy' := upd sy i 1) B m
        (fun j hj => ⟨pk_un hj, pk_un hj, pk_un hj, pk_un hj⟩) (fun j hj => ⟨pk_un hj, pk_un hj, pk_un hj, pk_un hj⟩)
        ⟨by rw [pk_us, pk_us], by rw [pk_us, pk_us], by rw [pk_us, pk_us], by rw [pk_us, pk_us]⟩ (by rw [pk_us]; exact Or.inl rfl)
      exact pc_fin (n0 := n - 1) (by rw [en]; exact B2) m (pc_hitO B2 O m) (by rw [en]; exact hf)
  · have b8 := B.2.2.2.2.2.2.2.1
    have b9 := B.2.2.2.2.2.2.2.2
    have n4 : n ≤ 4 := by rw [← b8]; exact pc_le4 st
    refine pc_xch_miss (pc_xfm B nx) B.1 (fun c s hs fs => ?_) (fun c b hb hl hm s hs fs => ?_)
    · rw [b8] at c
      unfold pc_xi pc_xr pc_xt
      refine pc_ych_miss (n := n) (pc_yfm ny) (pc_hg O (by omega)) hf n4 b9 (fun _ i hi hz => ?_) (fun c' => absurd c c')
      exact pc_ins B O hf nx hs fs hi hz
    · rw [b8] at c
      unfold pc_xi pc_xr pc_xt
      refine pc_ych_miss (n := n) (pc_yfm ny) (pc_hg O (by omega)) hf n4 b9 (fun c' => absurd c' c) (fun _ b' hb' hz hm' i hi hzi => ?_)
      have m := pc_last B O (by omega) hb hl hm hb' hz hm'
      obtain ⟨n1, M1, rk1, ag1, B1, O1, hf1⟩ := (pc_del B O m hf).2
      refine pc_ins B1 O1 hf1 (fun a ha mx => ?_) hs fs hi hzi
      by_cases e : a = b
      · have q := mx.1
        rw [e, pk_us] at q
        exact pc_l4 q
      · have q := mx.1
        rw [pk_un e] at q
        exact nx a ha ⟨q, mx.2⟩
theorem i_vc_compiled {k : Nat} {u : SX} {v : SY} (I : i_Rel k u v) (hk : k + 7 ≤ 3584) (a0 : Int64) (a1 : Int64) (v5 : Int32) : wpX_compiled (fun r u' => wpY_compiled (fun r' v' => r' = r ∧ i_Rel (k + 7) u' v') v a0 a1 v5) u a0 a1 v5 := by
  have I' := i_up I
  obtain ⟨pk, tx, ru, se, cv, lu, st⟩ := u
  obtain ⟨fl, ky, ty, age, ry, sz, ve, sy⟩ := v
  obtain ⟨n, M, rk, ag, B, O, hf⟩ := I
  rcases pc_dich B a0 a1 with ⟨s, i, m, mx, my⟩ | ⟨nx, ny⟩
  · obtain ⟨m1, m2, m3, m4, m5, m6, m7, m8, m9⟩ := B.2.2.2.1 s i m
    have O' := pc_Oup O (k' := k + 7) (by omega)
    have R : ∀ x, pc_lv x → i_Rel (k + 7) (pk, tx, ru, se, cv, lu, upd st s x) (fl, ky, ty, age, ry, sz, ve, upd sy i x) := fun x hx =>
      ⟨n, M, rk, ag, pc_Bset B m (fun j hj => ⟨rfl, rfl, rfl, pk_un hj⟩) (fun j hj => ⟨rfl, rfl, rfl, pk_un hj⟩) ⟨m6, m7, m8, by rw [pk_us, pk_us]⟩ (by rw [pk_us]; exact hx), O', hf⟩
    have fY := pc_yfh (fl := fl) (age := age) B m mx m2 my
    refine pc_xcomp (pc_xfh B m mx) m1 (fun c => ?_) (fun c1 c => ?_) (fun c1 c2 c3 c4 => ?_) (fun c1 c2 c3 c4 => ?_)
    · refine pc_ycomp fY m2 (fun _ => ⟨rfl, I'⟩) (fun d => ?_) (fun d => ?_) (fun d => ?_)
      · exact absurd (m4.symm.trans d) c
      · exact absurd (m4.symm.trans d) c
      · exact absurd (m4.symm.trans d) c
    · rw [m6, m7] at c
      refine pc_ycomp fY m2 (fun d => absurd (m4.trans c1) d) (fun _ _ => ⟨rfl, I'⟩) (fun _ d2 d3 _ => ?_) (fun _ d2 d3 _ => ?_)
      · exact (c.elim (fun q => d2 q) (fun q => q d3)).elim
      · exact (c.elim (fun q => d2 q) (fun q => q d3)).elim
    · rw [m6] at c2
      rw [m7] at c3
      refine pc_ycomp fY m2 (fun d => absurd (m4.trans c1) d) (fun _ d => ?_) (fun _ _ _ _ => ⟨rfl, R 2 (by decide)⟩) (fun _ _ _ d => absurd c4 d)
      exact (d.elim (fun q => c2 q) (fun q => q c3)).elim
    · rw [m6] at c2
      rw [m7] at c3
      refine pc_ycomp fY m2 (fun d => absurd (m4.trans c1) d) (fun _ d => ?_) (fun _ _ _ d => absurd d c4) (fun _ _ _ _ => ⟨rfl, R 3 (by decide)⟩)
      exact (d.elim (fun q => c2 q) (fun q => q c3)).elim
  · exact pc_xcomp_miss (pc_xfm B nx) (pc_ycomp_miss (pc_yfm ny) ⟨rfl, I'⟩)
theorem i_vc_drop {k : Nat} {u : SX} {v : SY} (I : i_Rel k u v) (hk : k + 7 ≤ 3584) (a0 : Int64) (a1 : Int64) : wpX_drop (fun r u' => wpY_drop (fun r' v' => r' = r ∧ i_Rel (k + 7) u' v') v a0 a1) u a0 a1 := by
  have I' := i_up I
  obtain ⟨pk, tx, ru, se, cv, lu, st⟩ := u
  obtain ⟨fl, ky, ty, age, ry, sz, ve, sy⟩ := v
  obtain ⟨n, M, rk, ag, B, O, hf⟩ := I
  rcases pc_dich B a0 a1 with ⟨s, i, m, mx, my⟩ | ⟨nx, ny⟩
  · obtain ⟨m1, m2, m3, m4, m5, m6, m7, m8, m9⟩ := B.2.2.2.1 s i m
    have D := pc_del B O m hf
    exact pc_xdrop (pc_xfh B m mx) m1 (pc_ydrop (pc_yfh B m mx m2 my) m2 ⟨D.1, i_up D.2⟩)
  · exact pc_xdrop_miss (pc_xfm B nx) (pc_ydrop_miss (pc_yfm ny) ⟨rfl, I'⟩)
theorem i_vc_evict {k : Nat} {u : SX} {v : SY} (I : i_Rel k u v) (hk : k + 7 ≤ 3584) : wpX_evict (fun r u' => wpY_evict (fun r' v' => r' = r ∧ i_Rel (k + 7) u' v') v) u := by
  have I' := i_up I
  obtain ⟨pk, tx, ru, se, cv, lu, st⟩ := u
  obtain ⟨fl, ky, ty, age, ry, sz, ve, sy⟩ := v
  obtain ⟨n, M, rk, ag, B, O, hf⟩ := I
  have hg := pc_hg O (by omega)
  have b2 := B.2.1
  have b3 := B.2.2.1
  have b4 := B.2.2.2.1
  refine pc_xev (fun z => ?_) (fun b hb hl hm => ?_)
  · refine pc_yev hg (fun _ => ⟨rfl, I'⟩) (fun b' hb' hz _ => ?_)
    obtain ⟨s, m⟩ := b3 b' hb' hz
    exact absurd (b4 s b' m).2.2.1 (z s (b4 s b' m).1)
  · refine pc_yev hg (fun z => ?_) (fun b' hb' hz hm' => ?_)
    · obtain ⟨i, m⟩ := b2 b hb hl
      have c := b4 b i m
      exact absurd (c.2.2.2.1.symm.trans (z i c.2.1)) (pc_nz hl)
    · have m := pc_last B O (by omega) hb hl hm hb' hz hm'
      exact ⟨(b4 b b' m).2.2.2.2.1.symm, i_up (pc_del B O m hf).2⟩
theorem i_vc_temperature {k : Nat} {u : SX} {v : SY} (I : i_Rel k u v) (hk : k + 7 ≤ 3584) (a0 : Int64) (a1 : Int64) : wpX_temperature (fun r => wpY_temperature (fun r' => r' = r ∧ i_Rel (k + 7) u v) v a0 a1) u a0 a1 := by
  have I' := i_up I
  obtain ⟨pk, tx, ru, se, cv, lu, st⟩ := u
  obtain ⟨fl, ky, ty, age, ry, sz, ve, sy⟩ := v
  obtain ⟨n, M, rk, ag, B, O, hf⟩ := I
  rcases pc_dich B a0 a1 with ⟨s, i, m, mx, my⟩ | ⟨nx, ny⟩
  · obtain ⟨m1, m2, m3, m4, m5, m6, m7, m8, m9⟩ := B.2.2.2.1 s i m
    exact pc_xtemp (pc_xfh B m mx) m1 (pc_ytemp (pc_yfh B m mx m2 my) m2 ⟨m6.symm, I'⟩)
  · exact pc_xtemp_miss (pc_xfm B nx) (pc_ytemp_miss (pc_yfm ny) ⟨rfl, I'⟩)
theorem i_vc_live {k : Nat} {u : SX} {v : SY} (I : i_Rel k u v) (hk : k + 7 ≤ 3584) : wpX_live (fun r => wpY_live (fun r' => r' = r ∧ i_Rel (k + 7) u v) v) u := by
  have I' := i_up I
  obtain ⟨pk, tx, ru, se, cv, lu, st⟩ := u
  obtain ⟨fl, ky, ty, age, ry, sz, ve, sy⟩ := v
  obtain ⟨n, M, rk, ag, B, O, hf⟩ := I
  refine pc_xlive ?_
  unfold wpY_live
  dsimp only
  exact ⟨by rw [hf, B.2.2.2.2.2.2.2.1], I'⟩
end
