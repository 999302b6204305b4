section
theorem pk_us {f : Nat → Int32} {k : Nat} {x : Int32} : upd f k x k = x := if_pos rfl
theorem pk_un {f : Nat → Int32} {k j : Nat} {x : Int32} (h : j ≠ k) : upd f k x j = f j := if_neg h
theorem pk_sub {a b : Nat} (h : b ≤ a) : nI a - nI b = nI (a - b) := by
  obtain ⟨c, rfl⟩ : ∃ c, a = c + b := ⟨a - b, by omega⟩
  rw [← nI_add, Int32.add_sub_cancel, Nat.add_sub_cancel]
theorem pk_m1 (n : Nat) : nI (n + 1) + (-1) = nI n := by
  rw [← nI_1, Int32.add_assoc, show (1 : Int32) + (-1) = 0 from rfl, Int32.add_zero]
theorem pk_mul (a b : Nat) : nI a * nI b = nI (a * b) := (Int32.ofNat_mul a b).symm
theorem pk_div {a d : Nat} (ha : a < 2 ^ 31) (h0 : 0 < d) (hd : d < 2 ^ 31) : nI a / nI d = nI (a / d) := by
  apply Int32.toInt_inj.mp
  rw [lg_idiv_nonneg (by rw [nI_toInt ha]; omega) (by rw [nI_toInt hd]; omega), nI_toInt ha, nI_toInt hd, nI_toInt (Nat.lt_of_le_of_lt (Nat.div_le_self a d) ha)]
  first | rfl | exact (Int.natCast_ediv _ _).symm
theorem pk_rem {a d : Nat} (ha : a < 2 ^ 31) (h0 : 0 < d) (hd : d < 2 ^ 31) : nI a - nI a / nI d * nI d = nI (a % d) := by
  rw [pk_div ha h0 hd, pk_mul, pk_sub (Nat.div_mul_le_self a d)]
  exact congrArg nI (by have := Nat.div_add_mod' a d; omega)
theorem pk_sub_toInt {a b : Nat} (ha : a < 2 ^ 30) (hb : b < 2 ^ 30) : (nI a - nI b).toInt = (a : Int) - b := by
  rw [Int32.toInt_sub, nI_toInt (by omega), nI_toInt (by omega)]
  exact Int.bmod_eq_of_le (by omega) (by omega)
theorem pk_sneg {a b : Nat} (hb : b < 2 ^ 30) (h : a < b) : nI a - nI b < 0 := by
  rw [Int32.lt_iff_toInt_lt, pk_sub_toInt (by omega) hb, show (0 : Int32).toInt = 0 from by decide]
  omega
theorem pk_ix (x : Int32) {n : Nat} (hn : n < 2 ^ 31) : x < 0 ∨ nI n ≤ x ∨ ∃ j : Nat, j < n ∧ x = nI j := by
  by_cases h : x < 0
  · exact Or.inl h
  · obtain ⟨j, hj, rfl⟩ := nI_of h
    by_cases h2 : j < n
    · exact Or.inr (Or.inr ⟨j, h2, rfl⟩)
    · exact Or.inr (Or.inl (nI_le (by omega) hj))
theorem pk_le {x y : Int32} {A B : Prop} (a b : Nat) (f : a ≤ b → A) (g : b < a → B) (hx : x = nI a := by rfl) (hy : y = nI b := by rfl) (ha : a < 2 ^ 31 := by omega) (hb : b < 2 ^ 31 := by omega) : (x ≤ y → A) ∧ (¬ x ≤ y → B) := by
  subst hx hy
  rw [nI_leI ha hb]
  exact ⟨f, fun z => g (by omega)⟩
theorem pk_lt {x y : Int32} {A B : Prop} (a b : Nat) (f : a < b → A) (g : b ≤ a → B) (hx : x = nI a := by rfl) (hy : y = nI b := by rfl) (ha : a < 2 ^ 31 := by omega) (hb : b < 2 ^ 31 := by omega) : (x < y → A) ∧ (¬ x < y → B) := by
  subst hx hy
  rw [nI_ltI ha hb]
  exact ⟨f, fun z => g (by omega)⟩
theorem pk_eq {x y : Int32} {A B : Prop} (a b : Nat) (f : a = b → A) (g : a ≠ b → B) (hx : x = nI a := by rfl) (hy : y = nI b := by rfl) (ha : a < 2 ^ 31 := by omega) (hb : b < 2 ^ 31 := by omega) : (x = y → A) ∧ (¬ x = y → B) := by
  subst hx hy
  rw [nI_eq ha hb]
  exact ⟨f, g⟩
theorem pk_in {x : Int32} (n N : Nat) (h : n < N) (hx : x = nI n := by rfl) (hN : N < 2 ^ 31 := by omega) : vp_in x N := by
  subst hx
  exact vp_in_nI h hN
theorem pk_cl {x : Int32} (n : Nat) (hx : x = nI n := by rfl) (h : n < 2 ^ 31 := by omega) : x.toNatClampNeg = n := by
  subst hx
  exact nI_clamp h
theorem pk_tn {n : Nat} (h : n < 2 ^ 32) : (nI n).toBitVec.toNat = n := Nat.mod_eq_of_lt h
theorem pk_and (x : Int32) {m : Int32} (k : Nat) (hm : m.toBitVec.toNat = 2 ^ k - 1) : x &&& m = nI (x.toBitVec.toNat % 2 ^ k) := by
  apply Int32.toBitVec_inj.mp
  apply BitVec.eq_of_toNat_eq
  rw [Int32.toBitVec_and, BitVec.toNat_and, hm, Nat.and_two_pow_sub_one_eq_mod]
  show _ = (BitVec.ofNat 32 _).toNat
  rw [BitVec.toNat_ofNat]
  exact (Nat.mod_eq_of_lt (Nat.lt_of_le_of_lt (Nat.mod_le _ _) x.toBitVec.isLt)).symm
theorem pk_andN {n : Nat} (h : n < 2 ^ 32) {m : Int32} (k : Nat) (hm : m.toBitVec.toNat = 2 ^ k - 1) : nI n &&& m = nI (n % 2 ^ k) := by
  rw [pk_and _ k hm, pk_tn h]
theorem pk_andE (x : Int32) {m : Int32} (k : Nat) (hm : m.toBitVec.toNat = 2 ^ k - 1) : ∃ j : Nat, j < 2 ^ k ∧ x &&& m = nI j := ⟨_, Nat.mod_lt _ (Nat.two_pow_pos k), pk_and x k hm⟩
theorem pk_andIn (x : Int32) {m : Int32} (k : Nat) (hm : m.toBitVec.toNat = 2 ^ k - 1) (hk : k ≤ 30) : vp_in (x &&& m) (2 ^ k) := by
  obtain ⟨j, hj, e⟩ := pk_andE x k hm
  rw [e]
  exact vp_in_nI hj (Nat.lt_of_le_of_lt (Nat.pow_le_pow_right (by decide) hk) (by decide))
theorem pk_shl (a s : Int32) (k : Nat) (hs : (s.toBitVec.smod 32).toNat = k) : (a <<< s).toBitVec.toNat = a.toBitVec.toNat * 2 ^ k % 2 ^ 32 := by
  show (a.toBitVec <<< (s.toBitVec.smod 32).toNat).toNat = _
  rw [hs, BitVec.toNat_shiftLeft, Nat.shiftLeft_eq]
theorem pk_shlN {n : Nat} (s : Int32) (k : Nat) (hs : (s.toBitVec.smod 32).toNat = k) (h : n * 2 ^ k < 2 ^ 32) : nI n <<< s = nI (n * 2 ^ k) := by
  apply Int32.toBitVec_inj.mp
  apply BitVec.eq_of_toNat_eq
  have hn : n < 2 ^ 32 := Nat.lt_of_le_of_lt (Nat.le_mul_of_pos_right n (Nat.two_pow_pos k)) h
  rw [pk_shl _ _ k hs, pk_tn hn, pk_tn h, Nat.mod_eq_of_lt h]
theorem pk_shr (a s : Int32) (k : Nat) (hs : (s.toBitVec.smod 32).toNat = k) : (a >>> s).toInt = a.toInt >>> k := by
  show (a.toBitVec.sshiftRight (s.toBitVec.smod 32).toNat).toInt = _
  rw [hs, BitVec.toInt_sshiftRight]
  rfl
theorem pk_shrN {n : Nat} (h : n < 2 ^ 31) (s : Int32) (k : Nat) (hs : (s.toBitVec.smod 32).toNat = k) : nI n >>> s = nI (n / 2 ^ k) := by
  apply Int32.toInt_inj.mp
  have h2 : n / 2 ^ k ≤ n := Nat.div_le_self _ _
  rw [pk_shr _ _ k hs, nI_toInt h, nI_toInt (by omega), Int.shiftRight_eq_div_pow]
  rfl
theorem pk_ushr (x s : Int32) (k : Nat) (hs : ((s.toUInt32 &&& Int32.toUInt32 31).toBitVec % 32).toNat = k) : (x.toUInt32 >>> (s.toUInt32 &&& Int32.toUInt32 31)).toInt32.toBitVec.toNat = x.toBitVec.toNat / 2 ^ k := by
  have e : (x.toUInt32 >>> (s.toUInt32 &&& Int32.toUInt32 31)).toInt32.toBitVec = x.toBitVec >>> k := by
    rw [← hs]
    exact UInt32.toBitVec_shiftRight _ _
  rw [e, BitVec.toNat_ushiftRight, Nat.shiftRight_eq_div_pow]
theorem pk_ushrN {n : Nat} (hn : n < 2 ^ 32) (s : Int32) (k : Nat) (hs : ((s.toUInt32 &&& Int32.toUInt32 31).toBitVec % 32).toNat = k) : ((nI n).toUInt32 >>> (s.toUInt32 &&& Int32.toUInt32 31)).toInt32 = nI (n / 2 ^ k) := by
  apply Int32.toBitVec_inj.mp
  apply BitVec.eq_of_toNat_eq
  rw [pk_ushr _ s k hs, pk_tn hn, pk_tn (Nat.lt_of_le_of_lt (Nat.div_le_self _ _) hn)]
theorem pk_vb (z : Int32) : vp_nar .byte z.toInt8.toInt32 = z.toInt8.toInt32 := by rw [vp_nar_byte]; simp
theorem pk_vs (z : Int32) : vp_nar .short z.toInt16.toInt32 = z.toInt16.toInt32 := by rw [vp_nar_short]; simp
theorem pk_loop {σ : Type} (W : Nat → Nat → σ → Prop) (I : Nat → σ → Prop) (e i0 : Nat) (s : σ) (hi : i0 ≤ e) (h0 : I i0 s) (hx : ∀ n s, I e s → W (n + 1) e s)
    (hs : ∀ n i s, i < e → I i s → (∀ s', I (i + 1) s' → W n (i + 1) s') → W (n + 1) i s) : ∃ n, W n i0 s :=
  ⟨e + 1, loop_i W I e hx hs (e + 1) i0 s hi (by omega) h0⟩
theorem pk_loopD {σ : Type} (W : Nat → Nat → σ → Prop) (I : Nat → σ → Prop) (hx : ∀ n s, I 0 s → W (n + 1) 0 s)
    (hs : ∀ n i s, I (i + 1) s → (∀ s', I i s' → W n i s') → W (n + 1) (i + 1) s) : ∀ (e : Nat) (s : σ), I e s → W (e + 1) e s := by
  intro e
  induction e with
  | zero => exact fun s h => hx 0 s h
  | succ e ih => exact fun s h => hs (e + 1) e s h (fun s' h' => ih s' h')
theorem s_l : ∀ n, n < 32 → ((nI n &&& 31).toBitVec.smod 32).toNat = n := by decide +kernel
theorem nx_and (a b : Nat) : nI a &&& nI b = nI (a &&& b) := by
  apply Int32.toBitVec_inj.1
  show BitVec.ofNat 32 a &&& BitVec.ofNat 32 b = BitVec.ofNat 32 (a &&& b)
  apply BitVec.eq_of_getLsbD_eq
  intro i hi
  simp [hi]
theorem nx_xor (a b : Nat) : nI a ^^^ nI b = nI (a ^^^ b) := by
  apply Int32.toBitVec_inj.1
  show BitVec.ofNat 32 a ^^^ BitVec.ofNat 32 b = BitVec.ofNat 32 (a ^^^ b)
  apply BitVec.eq_of_getLsbD_eq
  intro i hi
  simp [hi]
end
section
theorem bi_or (a b : Nat) : nI a ||| nI b = nI (a ||| b) := by
  apply Int32.toBitVec_inj.1
  show BitVec.ofNat 32 a ||| BitVec.ofNat 32 b = BitVec.ofNat 32 (a ||| b)
  apply BitVec.eq_of_getLsbD_eq
  intro i hi
  simp [hi]
/-- counting below n -/
def q_cn (p : Nat → Bool) : Nat → Nat
  | 0 => 0
  | n + 1 => q_cn p n + (p n).toNat
/-- the number whose bits below n are p -/
def q_mk (p : Nat → Bool) : Nat → Nat
  | 0 => 0
  | n + 1 => q_mk p n + (p n).toNat * 2 ^ n
/-- a sum below n -/
def q_sm (f : Nat → Nat) : Nat → Nat
  | 0 => 0
  | n + 1 => q_sm f n + f n
def q_pc (s : Nat) : Nat := q_cn s.testBit 9
/-- a without the bits of b (32 bits) -/
def q_nd (a b : Nat) : Nat := a &&& (b ^^^ 4294967295)
theorem q_bt (b : Bool) : b.toNat ≤ 1 := by cases b <;> decide
theorem q_cn_le (p : Nat → Bool) (n : Nat) : q_cn p n ≤ n := by
  induction n with
  | zero => exact Nat.le_refl 0
  | succ n ih => have := q_bt (p n); simp only [q_cn]; omega
theorem q_cn_congr {p p' : Nat → Bool} {n : Nat} (h : ∀ i, i < n → p i = p' i) : q_cn p n = q_cn p' n := by
  induction n with
  | zero => rfl
  | succ n ih => simp only [q_cn]; rw [ih (fun i hi => h i (by omega)), h n (by omega)]
theorem q_mk_congr {p p' : Nat → Bool} {n : Nat} (h : ∀ i, i < n → p i = p' i) : q_mk p n = q_mk p' n := by
  induction n with
  | zero => rfl
  | succ n ih => simp only [q_mk]; rw [ih (fun i hi => h i (by omega)), h n (by omega)]
theorem q_sm_congr {p p' : Nat → Nat} {n : Nat} (h : ∀ i, i < n → p i = p' i) : q_sm p n = q_sm p' n := by
  induction n with
  | zero => rfl
  | succ n ih => simp only [q_sm]; rw [ih (fun i hi => h i (by omega)), h n (by omega)]
theorem q_mk_lt (p : Nat → Bool) (n : Nat) : q_mk p n < 2 ^ n := by
  induction n with
  | zero => exact Nat.one_pos
  | succ n ih =>
    have h := q_bt (p n)
    have h2 : (p n).toNat * 2 ^ n ≤ 1 * 2 ^ n := Nat.mul_le_mul_right _ h
    simp only [q_mk]
    rw [Nat.pow_succ]; omega
theorem q_mk_bit (p : Nat → Bool) (n i : Nat) : (q_mk p n).testBit i = (decide (i < n) && p i) := by
  induction n with
  | zero => simp [q_mk]
  | succ n ih =>
    simp only [q_mk]
    rw [Nat.add_comm, Nat.mul_comm, Nat.testBit_two_pow_mul_add _ (q_mk_lt p n)]
    by_cases h : i < n
    · rw [if_pos h, ih]; simp [h, Nat.lt_succ_of_lt h]
    · rw [if_neg h]
      by_cases h2 : i = n
      · subst h2; cases hp : p i <;> simp
      · have h3 : ¬ i < n + 1 := by omega
        have h4 : i - n ≠ 0 := by omega
        obtain ⟨j, hj⟩ : ∃ j, i - n = j + 1 := ⟨i - n - 1, by omega⟩
        rw [hj]; cases p n <;> simp [h3, Nat.testBit_succ]
theorem q_mk_self {s n : Nat} (h : s < 2 ^ n) : q_mk s.testBit n = s := by
  apply Nat.eq_of_testBit_eq
  intro i
  rw [q_mk_bit]
  by_cases hi : i < n
  · simp [hi]
  · have : s < 2 ^ i := Nat.lt_of_lt_of_le h (Nat.pow_le_pow_right (by decide) (by omega))
    rw [Nat.testBit_lt_two_pow this]; simp [hi]
theorem q_mk_eq {p : Nat → Bool} {s n : Nat} (h : s < 2 ^ n) (hb : ∀ i, i < n → s.testBit i = p i) : s = q_mk p n := by
  rw [← q_mk_self h]; exact q_mk_congr hb
theorem q_mk_or (p : Nat → Bool) (n : Nat) : q_mk p n ||| 2 ^ n = q_mk p n + 2 ^ n := by
  have h := Nat.two_pow_add_eq_or_of_lt (q_mk_lt p n) 1
  rw [Nat.mul_one] at h
  rw [Nat.or_comm, Nat.add_comm]; exact h.symm
theorem q_nd_bit {a b i : Nat} (hi : i < 32) : (q_nd a b).testBit i = (a.testBit i && !b.testBit i) := by
  unfold q_nd
  rw [Nat.testBit_and, Nat.testBit_xor, show (4294967295 : Nat) = 2 ^ 32 - 1 from rfl, Nat.testBit_two_pow_sub_one]
  simp [hi]
theorem q_nd_le (a b : Nat) : q_nd a b ≤ a := Nat.and_le_left
theorem q_cn_cut (p : Nat → Bool) (n : Nat) : ∀ m, n ≤ m → q_cn (fun i => decide (i < n) && p i) m = q_cn p n := by
  intro m
  induction m with
  | zero => intro h; have : n = 0 := by omega
            subst this; rfl
  | succ m ih =>
    intro h
    rcases Nat.lt_or_ge m n with h2 | h2
    · have : n = m + 1 := by omega
      subst this
      exact q_cn_congr (fun i hi => by simp [hi])
    · simp only [q_cn]
      rw [ih h2]; simp [Nat.not_lt.mpr h2]
theorem q_pc_mk {p : Nat → Bool} {n : Nat} (h : n ≤ 9) : q_pc (q_mk p n) = q_cn p n := by
  unfold q_pc
  rw [← q_cn_cut p n 9 h]
  exact q_cn_congr (fun i _ => q_mk_bit p n i)
def q_pcT : Nat → Bool
  | 0 => true
  | s + 1 => q_pcT s && decide (q_pc (s + 1) = q_pc ((s + 1) &&& s) + 1) && decide ((s + 1) &&& s < s + 1)
theorem q_pcT_of : ∀ m, q_pcT m = true → ∀ s, s < m → q_pc (s + 1) = q_pc ((s + 1) &&& s) + 1 ∧ (s + 1) &&& s < s + 1 := by
  intro m
  induction m with
  | zero => intro _ s hs; omega
  | succ m ih =>
    intro h s hs
    simp only [q_pcT, Bool.and_eq_true, decide_eq_true_eq] at h
    rcases Nat.lt_or_ge s m with h2 | h2
    · exact ih h.1.1 s h2
    · have : s = m := by omega
      subst this; exact ⟨h.1.2, h.2⟩
theorem q_pc_step {s : Nat} (h : s < 512) (h0 : s ≠ 0) : q_pc s = q_pc (s &&& (s - 1)) + 1 ∧ s &&& (s - 1) < s := by
  obtain ⟨t, rfl⟩ : ∃ t, s = t + 1 := ⟨s - 1, by omega⟩
  rw [Nat.add_sub_cancel]
  exact q_pcT_of 511 (by decide +kernel) t (by omega)
theorem q_pc_le (s : Nat) : q_pc s ≤ 9 := q_cn_le _ _
theorem q_pc_mk5 {s : Nat} (h : s < 32) : q_pc s = q_cn s.testBit 5 := by
  have e := q_pc_mk (p := s.testBit) (n := 5) (by decide)
  rwa [q_mk_self (n := 5) h] at e
theorem bi_shl {j : Nat} (h : j < 31) : (1 : Int32) <<< (nI j &&& 31) = nI (2 ^ j) := by
  have e := pk_shlN (n := 1) (nI j &&& 31) j (s_l j (by omega)) (by
    rw [Nat.one_mul]; exact Nat.pow_lt_pow_right (by decide) (by omega))
  rw [Nat.one_mul] at e; exact e
theorem bi_bit {s j : Nat} (hs : s < 2 ^ 31) (hj : j < 31) : (nI s >>> (nI j &&& 31)) &&& 1 = nI (s.testBit j).toNat := by
  rw [pk_shrN hs _ j (s_l j (by omega)), pk_andN (Nat.lt_of_le_of_lt (Nat.div_le_self _ _) (by omega)) 1 (by decide)]
  apply congrArg nI
  rw [Nat.testBit_eq_decide_div_mod_eq, Nat.pow_one]
  by_cases h : s / 2 ^ j % 2 = 1
  · simp [h]
  · simp [h]; omega
theorem bi_nd (a b : Nat) : nI a &&& (nI b ^^^ (-1)) = nI (q_nd a b) := by
  rw [show (-1 : Int32) = nI 4294967295 from by decide, nx_xor, nx_and]; rfl
theorem bi_0 {A B : Prop} (s j : Nat) (hs : s < 2 ^ 31) (hj : j < 31) (f : s.testBit j = false → A) (g : s.testBit j = true → B) : (((nI s >>> (nI j &&& 31)) &&& 1) = 0 → A) ∧ (¬ ((nI s >>> (nI j &&& 31)) &&& 1) = 0 → B) := by
  rw [bi_bit hs hj]
  cases h : s.testBit j
  · exact br_t rfl (f h)
  · exact br_f (by decide) (g h)
theorem bi_1 {A B : Prop} (s j : Nat) (hs : s < 2 ^ 31) (hj : j < 31) (f : s.testBit j = true → A) (g : s.testBit j = false → B) : (((nI s >>> (nI j &&& 31)) &&& 1) = 1 → A) ∧ (¬ ((nI s >>> (nI j &&& 31)) &&& 1) = 1 → B) := by
  rw [bi_bit hs hj]
  cases h : s.testBit j
  · exact br_f (by decide) (g h)
  · exact br_t rfl (f h)
/-- adding bit n to a number built below n -/
theorem bi_add (p : Nat → Bool) {n : Nat} (hn : n < 31) (h : p n = true) : nI (q_mk p n) ||| ((1 : Int32) <<< (nI n &&& 31)) = nI (q_mk p (n + 1)) := by
  rw [bi_shl hn, bi_or, q_mk_or]; simp [q_mk, h]
theorem bi_skip (p : Nat → Bool) {n : Nat} (h : p n = false) : q_mk p (n + 1) = q_mk p n := by simp [q_mk, h]
/-- taking bit j away -/
theorem bi_clr (p : Nat → Bool) {n j : Nat} (hn : n ≤ 31) (hj : j < 31) : nI (q_mk p n) &&& (((1 : Int32) <<< (nI j &&& 31)) ^^^ (-1)) = nI (q_mk (fun i => p i && decide (i ≠ j)) n) := by
  rw [bi_shl hj, bi_nd]
  apply congrArg nI
  apply q_mk_eq (Nat.lt_of_le_of_lt (q_nd_le _ _) (q_mk_lt p n))
  intro i hi
  rw [q_nd_bit (by omega), q_mk_bit, Nat.testBit_two_pow]
  simp [hi, eq_comm]
theorem bi_ix (a b : Nat) : (5 : Int32) * nI a + nI b = nI (5 * a + b) := by
  rw [show (5 : Int32) = nI 5 from rfl, pk_mul, nI_add]
theorem bi_ic {a b : Nat} (ha : a < 100) (hb : b < 100) : ((5 : Int32) * nI a + nI b).toNatClampNeg = 5 * a + b := by
  rw [bi_ix, nI_clamp (by omega)]
theorem bi_in {a b m N : Nat} (ha : a < m) (hb : b < 5) (hN : 5 * m ≤ N) (hN2 : N < 1000) : vp_in ((5 : Int32) * nI a + nI b) N := by
  rw [bi_ix]; exact vp_in_nI (by omega) (by omega)
/-- ints of any sign -/
def zI (z : Int) : Int32 := Int32.ofInt z
theorem zI_nat (n : Nat) : zI (n : Int) = nI n := by
  apply Int32.toBitVec_inj.mp
  exact BitVec.ofInt_natCast 32 n
theorem zI_toInt {z : Int} (h1 : -2147483648 ≤ z) (h2 : z < 2147483648) : (zI z).toInt = z := Int32.toInt_ofInt_of_le h1 h2
theorem zI_add (a b : Int) : zI a + zI b = zI (a + b) := (Int32.ofInt_add a b).symm
theorem zI_sub (a b : Int) : zI a - zI b = zI (a - b) := (Int32.ofInt_sub a b).symm
theorem zI_neg (a : Int) : -zI a = zI (-a) := (Int32.ofInt_neg a).symm
theorem zI_leI {a b : Int} (h1 : -2147483648 ≤ a) (h2 : a < 2147483648) (h3 : -2147483648 ≤ b) (h4 : b < 2147483648) : zI a ≤ zI b ↔ a ≤ b := by
  rw [Int32.le_iff_toInt_le, zI_toInt h1 h2, zI_toInt h3 h4]
theorem zI_ltI {a b : Int} (h1 : -2147483648 ≤ a) (h2 : a < 2147483648) (h3 : -2147483648 ≤ b) (h4 : b < 2147483648) : zI a < zI b ↔ a < b := by
  rw [Int32.lt_iff_toInt_lt, zI_toInt h1 h2, zI_toInt h3 h4]
theorem zI_eqI {a b : Int} (h1 : -2147483648 ≤ a) (h2 : a < 2147483648) (h3 : -2147483648 ≤ b) (h4 : b < 2147483648) : zI a = zI b ↔ a = b := by
  rw [← Int32.toInt_inj, zI_toInt h1 h2, zI_toInt h3 h4]
/-- branches over ints -/
theorem zb_le {x y : Int32} {A B : Prop} (a b : Int) (f : a ≤ b → A) (g : b < a → B) (ha : -2000 ≤ a ∧ a ≤ 2000) (hb : -2000 ≤ b ∧ b ≤ 2000) (hx : x = zI a := by rfl) (hy : y = zI b := by rfl) : (x ≤ y → A) ∧ (¬ x ≤ y → B) := by
  subst hx hy
  rw [zI_leI (by omega) (by omega) (by omega) (by omega)]
  exact ⟨f, fun z => g (by omega)⟩
theorem zb_lt {x y : Int32} {A B : Prop} (a b : Int) (f : a < b → A) (g : b ≤ a → B) (ha : -2000 ≤ a ∧ a ≤ 2000) (hb : -2000 ≤ b ∧ b ≤ 2000) (hx : x = zI a := by rfl) (hy : y = zI b := by rfl) : (x < y → A) ∧ (¬ x < y → B) := by
  subst hx hy
  rw [zI_ltI (by omega) (by omega) (by omega) (by omega)]
  exact ⟨f, fun z => g (by omega)⟩
theorem zb_eq {x y : Int32} {A B : Prop} (a b : Int) (f : a = b → A) (g : a ≠ b → B) (ha : -2000 ≤ a ∧ a ≤ 2000) (hb : -2000 ≤ b ∧ b ≤ 2000) (hx : x = zI a := by rfl) (hy : y = zI b := by rfl) : (x = y → A) ∧ (¬ x = y → B) := by
  subst hx hy
  rw [zI_eqI (by omega) (by omega) (by omega) (by omega)]
  exact ⟨f, g⟩
theorem zI_byte {z : Int} (h1 : -128 ≤ z) (h2 : z < 128) : (zI z).toInt8.toInt32 = zI z := by
  apply Int32.toInt_inj.mp
  rw [zI_toInt (by omega) (by omega), Int8.toInt_toInt32, Int32.toInt_toInt8, zI_toInt (by omega) (by omega)]
  exact Int.bmod_eq_of_le (by omega) (by omega)
theorem zI_short {z : Int} (h1 : -32768 ≤ z) (h2 : z < 32768) : (zI z).toInt16.toInt32 = zI z := by
  apply Int32.toInt_inj.mp
  rw [zI_toInt (by omega) (by omega), Int16.toInt_toInt32, Int32.toInt_toInt16, zI_toInt (by omega) (by omega)]
  exact Int.bmod_eq_of_le (by omega) (by omega)
theorem zI_vb {z : Int} (h1 : -128 ≤ z) (h2 : z < 128) : vp_nar .byte (zI z) = zI z := by rw [vp_nar_byte, zI_byte h1 h2]
theorem zI_vb2 {z : Int} (h1 : -128 ≤ z) (h2 : z < 128) : vp_nar .byte ((zI z).toInt8.toInt32) = zI z := by rw [zI_byte h1 h2, zI_vb h1 h2]
theorem bv_b {n : Nat} (h : n < 128) : vp_nar .byte (nI n) = nI n := by rw [← zI_nat]; exact zI_vb (by omega) (by omega)
theorem bv_b2 {n : Nat} (h : n < 128) : vp_nar .byte ((nI n).toInt8.toInt32) = nI n := by rw [← zI_nat]; exact zI_vb2 (by omega) (by omega)
theorem bv_s {n : Nat} (h : n < 32768) : vp_nar .short ((nI n).toInt16.toInt32) = nI n := by
  rw [← zI_nat, vp_nar_short, zI_short (by omega) (by omega), zI_short (by omega) (by omega)]
theorem bv_s0 : vp_nar .short 0 = 0 := by rw [vp_nar_short]; decide
theorem bv_b0 : vp_nar .byte 0 = 0 := by rw [vp_nar_byte]; decide
theorem bv_b100 : vp_nar .byte 100 = nI 100 := by rw [vp_nar_byte]; decide
end
section
def o_seen (o : Nat) : Nat → Nat
  | 0 => 0
  | k + 1 => o_seen o k ||| 2 ^ (o / 5 ^ k % 5)
/-- the code of an order of the five -/
def o_ok (o : Nat) : Bool := decide (o < 3125) && decide (o_seen o 5 = 31)
/-- the candidate at place k -/
def o_rk (o k : Nat) : Nat := o / 5 ^ (4 - k) % 5
/-- the place of candidate c -/
def o_pl (o c : Nat) : Nat := if o_rk o 0 = c then 0 else if o_rk o 1 = c then 1 else if o_rk o 2 = c then 2 else if o_rk o 3 = c then 3 else 4
def o_tst1 (o c : Nat) : Bool := Nat.beq (o_rk o (o_pl o c)) c && Nat.beq (o_pl o (o_rk o c)) c
def o_tst (o : Nat) : Bool := !(o_ok o) || (o_tst1 o 0 && o_tst1 o 1 && o_tst1 o 2 && o_tst1 o 3 && o_tst1 o 4)
def o_tstA : Nat → Bool
  | 0 => true
  | o + 1 => o_tst o && o_tstA o
theorem o_tstA_of : ∀ m, o_tstA m = true → ∀ o, o < m → o_tst o = true := by
  intro m
  induction m with
  | zero => intro _ o ho; omega
  | succ m ih =>
    intro h o ho
    simp only [o_tstA, Bool.and_eq_true] at h
    rcases Nat.lt_or_ge o m with h2 | h2
    · exact ih h.2 o h2
    · have : o = m := by omega
      subst this; exact h.1
theorem o_tst_all : o_tstA 3125 = true := by decide +kernel
theorem o_ok_lt {o : Nat} (h : o_ok o = true) : o < 3125 := by
  simp only [o_ok, Bool.and_eq_true, decide_eq_true_eq] at h; exact h.1
theorem o_fact {o c : Nat} (h : o_ok o = true) (hc : c < 5) : o_rk o (o_pl o c) = c ∧ o_pl o (o_rk o c) = c := by
  have t := o_tstA_of 3125 o_tst_all o (o_ok_lt h)
  simp only [o_tst, h, Bool.not_true, Bool.false_or, Bool.and_eq_true] at t
  obtain ⟨⟨⟨⟨t0, t1⟩, t2⟩, t3⟩, t4⟩ := t
  have g : o_tst1 o c = true := by
    rcases (by omega : c = 0 ∨ c = 1 ∨ c = 2 ∨ c = 3 ∨ c = 4) with rfl | rfl | rfl | rfl | rfl <;> assumption
  simp only [o_tst1, Bool.and_eq_true] at g
  exact ⟨Nat.eq_of_beq_eq_true g.1, Nat.eq_of_beq_eq_true g.2⟩
theorem o_rk_lt (o k : Nat) : o_rk o k < 5 := Nat.mod_lt _ (by decide)
theorem o_pl_lt (o c : Nat) : o_pl o c < 5 := by
  unfold o_pl
  split
  · decide
  · split
    · decide
    · split
      · decide
      · split <;> decide
theorem o_inj {o a b : Nat} (h : o_ok o = true) (ha : a < 5) (hb : b < 5) (e : o_pl o a = o_pl o b) : a = b := by
  rw [← (o_fact h ha).1, ← (o_fact h hb).1, e]
/-- ballots: their number and their orders -/
def e_ok (n : Nat) (d : Nat → Nat) : Prop := n ≤ 9 ∧ ∀ i, i < n → o_ok (d i) = true
def e_pf (d : Nat → Nat) (a b i : Nat) : Bool := decide (o_pl (d i) a < o_pl (d i) b)
def e_c (n : Nat) (d : Nat → Nat) (a b : Nat) : Nat := q_cn (e_pf d a b) n
def e_M (n : Nat) (d : Nat → Nat) (a b : Nat) : Nat := q_mk (e_pf d a b) n
def e_m (n : Nat) (d : Nat → Nat) (a b : Nat) : Int := (e_c n d a b : Int) - (e_c n d b a : Int)
def e_b (n : Nat) (d : Nat → Nat) (a b : Nat) : Bool := decide (0 < e_m n d a b)
theorem e_c_le (n : Nat) (d : Nat → Nat) (a b : Nat) : e_c n d a b ≤ n := q_cn_le _ _
theorem e_M_lt {n : Nat} (hn : n ≤ 9) (d : Nat → Nat) (a b : Nat) : e_M n d a b < 512 :=
  Nat.lt_of_lt_of_le (q_mk_lt _ n) (Nat.pow_le_pow_right (n := 2) (j := 9) (by decide) hn)
theorem e_M_pc {n : Nat} (hn : n ≤ 9) (d : Nat → Nat) (a b : Nat) : q_pc (e_M n d a b) = e_c n d a b := q_pc_mk hn
theorem e_m_r {n : Nat} (hn : n ≤ 9) (d : Nat → Nat) (a b : Nat) : -9 ≤ e_m n d a b ∧ e_m n d a b ≤ 9 := by
  have h1 := e_c_le n d a b
  have h2 := e_c_le n d b a
  unfold e_m; omega
theorem e_m_neg (n : Nat) (d : Nat → Nat) (a b : Nat) : e_m n d b a = - e_m n d a b := by unfold e_m; omega
theorem e_m_self (n : Nat) (d : Nat → Nat) (a : Nat) : e_m n d a a = 0 := by unfold e_m; omega
theorem e_b_anti {n : Nat} {d : Nat → Nat} {a b : Nat} (h : e_b n d a b = true) : e_b n d b a = false := by
  simp only [e_b, decide_eq_true_eq, decide_eq_false_iff_not] at h ⊢
  rw [e_m_neg]; omega
theorem e_b_irr (n : Nat) (d : Nat → Nat) (a : Nat) : e_b n d a a = false := by
  simp only [e_b, decide_eq_false_iff_not, e_m_self]; omega
theorem e_c_sum {n : Nat} {d : Nat → Nat} {a b : Nat} (hd : ∀ i, i < n → o_ok (d i) = true) (ha : a < 5) (hb : b < 5) (hab : a ≠ b) : e_c n d a b + e_c n d b a = n := by
  induction n with
  | zero => rfl
  | succ n ih =>
    have h := ih (fun i hi => hd i (by omega))
    have hk : o_pl (d n) a ≠ o_pl (d n) b := fun e => hab (o_inj (hd n (by omega)) ha hb e)
    unfold e_c at h ⊢
    simp only [q_cn, e_pf] at h ⊢
    rcases Nat.lt_or_ge (o_pl (d n) a) (o_pl (d n) b) with h2 | h2
    · have h3 : ¬ o_pl (d n) b < o_pl (d n) a := by omega
      simp only [h2, h3, decide_true, decide_false, Bool.toNat_true, Bool.toNat_false]; omega
    · have h3 : o_pl (d n) b < o_pl (d n) a := by omega
      have h4 : ¬ o_pl (d n) a < o_pl (d n) b := by omega
      simp only [h3, h4, decide_true, decide_false, Bool.toNat_true, Bool.toNat_false]; omega
/-- what the component's count holds -/
def e_cnt (n : Nat) (d : Nat → Nat) (xp xm xb : Nat → Int32) : Prop :=
  (∀ a b, a < 5 → b < 5 → xp (5 * a + b) = nI (e_M n d a b)) ∧ (∀ a b, a < 5 → b < 5 → xm (5 * a + b) = zI (e_m n d a b)) ∧ (∀ a, a < 5 → xb a = nI (q_mk (e_b n d a) 5))
def e_bal (n : Nat) (d : Nat → Nat) (xo xr : Nat → Int32) : Prop :=
  ∀ i, i < n → xo i = nI (d i) ∧ ∀ k, k < 5 → xr (5 * i + k) = nI (o_rk (d i) k)
def e_balY (n : Nat) (d : Nat → Nat) (yo yp : Nat → Int32) : Prop :=
  ∀ i, i < n → yo i = nI (d i) ∧ ∀ c, c < 5 → yp (5 * i + c) = nI (o_pl (d i) c)
/-- the component's state over ballots (n, d) -/
def rx_S (n : Nat) (d : Nat → Nat) (u : SX) : Prop := match u with
  | (xc, xk, xq, xo, xr, xp, xm, xb, xs, xl, xt, xe, xA, xB, xf, xg, xL, xO, xC, xN) => xc = nI n ∧ e_ok n d ∧ e_bal n d xo xr ∧ (xk = 0 ∨ (xk = 1 ∧ e_cnt n d xp xm xb))
def ry_S (n : Nat) (d : Nat → Nat) (v : SY) : Prop := match v with
  | (yn, yq, yo, yp, ym, yt, yl, yb, yw, yk, yh, yC, yN) => yn = nI n ∧ e_ok n d ∧ e_balY n d yo yp
theorem o_rem {r : Nat} (h : r < 2 ^ 31) : nI r - nI r / 5 * 5 = nI (r % 5) := pk_rem h (by decide) (by decide)
theorem o_div {r : Nat} (h : r < 2 ^ 31) : nI r / 5 = nI (r / 5) := pk_div (d := 5) h (by decide) (by decide)
theorem o_shr (o k : Nat) : o / 5 ^ k / 5 = o / 5 ^ (k + 1) := by rw [Nat.div_div_eq_div_mul, Nat.pow_succ]
theorem o_le (o k : Nat) : o / 5 ^ k ≤ o := Nat.div_le_self _ _
def q_up (d : Nat → Nat) (i o : Nat) : Nat → Nat := fun j => if j = i then o else d j
def q_dr (d : Nat → Nat) (i k : Nat) : Nat → Nat := fun j => if i ≤ j ∧ j < k then d (j + 1) else d j
theorem e_ok_up {n i o : Nat} {d : Nat → Nat} (h : e_ok n d) (ho : o_ok o = true) : e_ok n (q_up d i o) := by
  refine ⟨h.1, fun j hj => ?_⟩
  unfold q_up
  by_cases e : j = i
  · rw [if_pos e]; exact ho
  · rw [if_neg e]; exact h.2 j hj
theorem e_ok_push {n o : Nat} {d : Nat → Nat} (h : e_ok n d) (hn : n < 9) (ho : o_ok o = true) : e_ok (n + 1) (q_up d n o) := by
  refine ⟨hn, fun j hj => ?_⟩
  unfold q_up
  by_cases e : j = n
  · rw [if_pos e]; exact ho
  · rw [if_neg e]; exact h.2 j (by omega)
/-- one ballot written -/
theorem e_bal_put {n i o : Nat} {d : Nat → Nat} {xo xr xr' : Nat → Int32} (h : e_bal n d xo xr) (h1 : ∀ k, k < 5 → xr' (5 * i + k) = nI (o_rk o k)) (h2 : ∀ j, (j < 5 * i ∨ 5 * i + 5 ≤ j) → xr' j = xr j) : e_bal n (q_up d i o) (upd xo i (nI o)) xr' := by
  intro j hj
  unfold q_up
  by_cases e : j = i
  · subst e
    rw [if_pos rfl]; exact ⟨pk_us, h1⟩
  · rw [if_neg e]
    exact ⟨(pk_un e).trans (h j hj).1, fun k hk => (h2 _ (by omega)).trans ((h j hj).2 k hk)⟩
theorem e_bal_push {n o : Nat} {d : Nat → Nat} {xo xr xr' : Nat → Int32} (h : e_bal n d xo xr) (h1 : ∀ k, k < 5 → xr' (5 * n + k) = nI (o_rk o k)) (h2 : ∀ j, (j < 5 * n ∨ 5 * n + 5 ≤ j) → xr' j = xr j) : e_bal (n + 1) (q_up d n o) (upd xo n (nI o)) xr' := by
  intro j hj
  unfold q_up
  by_cases e : j = n
  · subst e
    rw [if_pos rfl]; exact ⟨pk_us, h1⟩
  · rw [if_neg e]
    exact ⟨(pk_un e).trans (h j (by omega)).1, fun k hk => (h2 _ (by omega)).trans ((h j (by omega)).2 k hk)⟩
theorem e_balY_put {n i o : Nat} {d : Nat → Nat} {xo xr xr' : Nat → Int32} (h : e_balY n d xo xr) (h1 : ∀ k, k < 5 → xr' (5 * i + k) = nI (o_pl o k)) (h2 : ∀ j, (j < 5 * i ∨ 5 * i + 5 ≤ j) → xr' j = xr j) : e_balY n (q_up d i o) (upd xo i (nI o)) xr' := by
  intro j hj
  unfold q_up
  by_cases e : j = i
  · subst e
    rw [if_pos rfl]; exact ⟨pk_us, h1⟩
  · rw [if_neg e]
    exact ⟨(pk_un e).trans (h j hj).1, fun k hk => (h2 _ (by omega)).trans ((h j hj).2 k hk)⟩
theorem e_balY_push {n o : Nat} {d : Nat → Nat} {xo xr xr' : Nat → Int32} (h : e_balY n d xo xr) (h1 : ∀ k, k < 5 → xr' (5 * n + k) = nI (o_pl o k)) (h2 : ∀ j, (j < 5 * n ∨ 5 * n + 5 ≤ j) → xr' j = xr j) : e_balY (n + 1) (q_up d n o) (upd xo n (nI o)) xr' := by
  intro j hj
  unfold q_up
  by_cases e : j = n
  · subst e
    rw [if_pos rfl]; exact ⟨pk_us, h1⟩
  · rw [if_neg e]
    exact ⟨(pk_un e).trans (h j (by omega)).1, fun k hk => (h2 _ (by omega)).trans ((h j (by omega)).2 k hk)⟩
theorem q_dr_0 (d : Nat → Nat) (i : Nat) : q_dr d i i = d := by
  funext j; unfold q_dr; rw [if_neg (by omega)]
theorem q_dr_s (d : Nat → Nat) {i k : Nat} (h : i ≤ k) : q_up (q_dr d i k) k (d (k + 1)) = q_dr d i (k + 1) := by
  funext j; unfold q_up q_dr
  by_cases e : j = k
  · subst e; rw [if_pos rfl, if_pos (by omega)]
  · rw [if_neg e]
    by_cases e2 : i ≤ j ∧ j < k
    · rw [if_pos e2, if_pos (by omega)]
    · rw [if_neg e2, if_neg (by omega)]
theorem q_dr_hi (d : Nat → Nat) {i k : Nat} : q_dr d i k (k + 1) = d (k + 1) := by
  unfold q_dr; rw [if_neg (by omega)]
theorem e_ok_dr {n i k : Nat} {d : Nat → Nat} (h : e_ok n d) (hk : k < n) : e_ok n (q_dr d i k) := by
  refine ⟨h.1, fun j hj => ?_⟩
  unfold q_dr
  by_cases e : i ≤ j ∧ j < k
  · rw [if_pos e]; exact h.2 _ (by omega)
  · rw [if_neg e]; exact h.2 _ hj
end
section
section
variable {xc xk xq : Int32} {xo xr xp xm xb xs xl xt xe xA xB xf xg xL xO xC xN : Nat → Int32}
theorem x_isC_t {post : Int32 → Prop} {a : Nat} (ha : a < 5) (H : post 1) : wpX_isCandidate post (xc, xk, xq, xo, xr, xp, xm, xb, xs, xl, xt, xe, xA, xB, xf, xg, xL, xO, xC, xN) (nI a) :=
  br_f (nI_pos (by omega)) (br_f (nI_ge (b := 5) ha (by decide)) H)
theorem x_isC_f {post : Int32 → Prop} {v : Int32} (hv : ¬ ∃ a, a < 5 ∧ v = nI a) (H : post 0) : wpX_isCandidate post (xc, xk, xq, xo, xr, xp, xm, xb, xs, xl, xt, xe, xA, xB, xf, xg, xL, xO, xC, xN) v := by
  by_cases h : v < 0
  · exact br_t h H
  · obtain ⟨j, hj, rfl⟩ := nI_of h
    refine br_f h (br_t ?_ H)
    exact nI_le (a := 5) (Nat.le_of_not_lt fun hj5 => hv ⟨j, hj5, rfl⟩) hj
theorem x_isO_lp {post : Int32 → Prop} {o : Nat} (ho : o < 3125) (H : post (if o_ok o = true then 1 else 0)) : ∃ n, wX_isOrder_20 post xc xk xq xo xr xp xm xb xs xl xt xe xA xB xf xg xL xO xC xN n 0 (nI o) 0 := by
  refine loop_0 (fun n i (s : Int32 × Int32) => wX_isOrder_20 post xc xk xq xo xr xp xm xb xs xl xt xe xA xB xf xg xL xO xC xN n s.1 s.2 (nI i)) (fun i s => s = (nI (o_seen o i), nI (o / 5 ^ i))) 5 (0, nI o) (by rw [Nat.pow_zero, Nat.div_one]; rfl) ?_ ?_
  · rintro n _ rfl
    refine br_t (Int32.le_refl _) ?_
    have h : o_ok o = decide (o_seen o 5 = 31) := by simp [o_ok, ho]
    rw [h] at H
    by_cases e : o_seen o 5 = 31
    · refine br_t ?_ (by simpa [e] using H)
      show nI (o_seen o 5) = 31
      rw [e]; rfl
    · refine br_f ?_ (by simpa [e] using H)
      intro z
      have hb : o_seen o 5 < 2 ^ 31 := by
        have g : ∀ k, o_seen o k < 2 ^ 5 := by
          intro k
          induction k with
          | zero => exact (by decide : 0 < 2 ^ 5)
          | succ k ih => exact Nat.or_lt_two_pow ih (Nat.pow_lt_pow_right (by decide) (Nat.mod_lt _ (by decide)))
        exact Nat.lt_of_lt_of_le (g 5) (by decide)
      exact e ((nI_eq (b := 31) hb (by decide)).mp z)
  · rintro n i _ hi rfl K
    have hb : o / 5 ^ i < 2 ^ 31 := Nat.lt_of_le_of_lt (o_le o i) (by omega)
    refine br_f (nI_ge (b := 5) hi (by decide)) ⟨by decide, nm_r (e' := nI (o_seen o (i + 1))) ?_ ⟨by decide, nm_r (e' := nI (o / 5 ^ (i + 1))) ?_ (nm_r (nI_1 i) (K (_, _) rfl))⟩⟩
    · show nI (o_seen o i) ||| ((1 : Int32) <<< ((nI (o / 5 ^ i) - nI (o / 5 ^ i) / 5 * 5) &&& 31)) = _
      rw [o_rem hb, bi_shl (Nat.lt_of_lt_of_le (Nat.mod_lt _ (by decide)) (by decide : 5 ≤ 31)), bi_or]; rfl
    · show nI (o / 5 ^ i) / 5 = _
      rw [o_div hb, o_shr]
theorem x_isO_t {post : Int32 → Prop} {o : Nat} (ho : o_ok o = true) (H : post 1) : wpX_isOrder post (xc, xk, xq, xo, xr, xp, xm, xb, xs, xl, xt, xe, xA, xB, xf, xg, xL, xO, xC, xN) (nI o) :=
  have h := o_ok_lt ho
  br_f (nI_pos (by omega)) (br_t (nI_le (b := 3124) (by omega) (by decide)) (x_isO_lp h (by rw [if_pos ho]; exact H)))
theorem x_isO_f {post : Int32 → Prop} {v : Int32} (hv : ¬ ∃ o, v = nI o ∧ o_ok o = true) (H : post 0) : wpX_isOrder post (xc, xk, xq, xo, xr, xp, xm, xb, xs, xl, xt, xe, xA, xB, xf, xg, xL, xO, xC, xN) v := by
  by_cases h : v < 0
  · exact br_t h H
  · obtain ⟨o, ho, rfl⟩ := nI_of h
    refine br_f h (pk_le o 3124 (fun h2 => x_isO_lp (by omega) ?_) (fun _ => H))
    rw [if_neg (fun e => hv ⟨o, rfl, e⟩)]; exact H
theorem x_put {post : SX → Prop} {i o : Nat} (hi : i < 9) (ho : o_ok o = true) (H : ∀ xr' : Nat → Int32, (∀ k, k < 5 → xr' (5 * i + k) = nI (o_rk o k)) → (∀ j, (j < 5 * i ∨ 5 * i + 5 ≤ j) → xr' j = xr j) → post (xc, 0, xq, upd xo i (nI o), xr', xp, xm, xb, xs, xl, xt, xe, xA, xB, xf, xg, xL, xO, xC, xN)) : wpX_put post (xc, xk, xq, xo, xr, xp, xm, xb, xs, xl, xt, xe, xA, xB, xf, xg, xL, xO, xC, xN) (nI i) (nI o) := by
  have h := o_ok_lt ho
  refine ⟨vp_in_nI hi (by decide), nm_r (e' := upd xo i (nI o)) (by rw [nI_clamp (by omega), bv_s (by omega)]) ⟨6, ?_⟩⟩
  refine pk_loopD (fun n e (s : Int32 × (Nat → Int32)) => wX_put_13 post (nI i) xc xk xq n s.1 (nI e - 1) (upd xo i (nI o)) s.2 xp xm xb xs xl xt xe xA xB xf xg xL xO xC xN) (fun e s => e ≤ 5 ∧ s.1 = nI (o / 5 ^ (5 - e)) ∧ (∀ k, e ≤ k → k < 5 → s.2 (5 * i + k) = nI (o_rk o k)) ∧ (∀ j, (j < 5 * i ∨ 5 * i + 5 ≤ j) → s.2 j = xr j)) ?_ ?_ 5 (nI o, xr) ?_
  · rintro n ⟨x3, xr'⟩ ⟨_, _, h2, h3⟩
    exact br_t (by decide) (H xr' (fun k hk => h2 k (Nat.zero_le _) hk) h3)
  · rintro n e ⟨x3, xr'⟩ ⟨he, h1, h2, h3⟩ K
    dsimp only at h1 h2 h3 K ⊢
    subst h1
    rw [nI_pred]
    have e5 : 5 - (e + 1) = 4 - e := by omega
    have hb : o / 5 ^ (5 - (e + 1)) < 2 ^ 31 := Nat.lt_of_le_of_lt (o_le o _) (by omega)
    refine br_f (nI_pos (by omega)) ⟨by decide, bi_in (m := 9) hi (by omega) (by decide) (by decide), nm_r (e' := upd xr' (5 * i + e) (nI (o_rk o e))) ?_ ⟨by decide, nm_r (e' := nI (o / 5 ^ (5 - e))) ?_ (nm_r (e' := nI e - 1) (Int32.sub_eq_add_neg _ _).symm (K (_, _) ?_))⟩⟩
    · rw [bi_ic (by omega) (by omega), o_rem hb, bv_b2 (Nat.lt_of_lt_of_le (Nat.mod_lt _ (by decide)) (by decide)), e5]; rfl
    · rw [o_div hb, o_shr]
      exact congrArg (fun t => nI (o / 5 ^ t)) (by omega)
    · refine ⟨by omega, rfl, fun k hk1 hk2 => ?_, fun j hj => ?_⟩
      · by_cases ek : k = e
        · subst ek; exact pk_us
        · exact (pk_un (by omega)).trans (h2 k (by omega) hk2)
      · exact (pk_un (by omega)).trans (h3 j hj)
  · exact ⟨Nat.le_refl 5, by rw [Nat.sub_self, Nat.pow_zero, Nat.div_one], fun k h1 h2 => by omega, fun j _ => rfl⟩
theorem x_ballot_full {post : Int32 → SX → Prop} {d : Nat → Nat} {v : Int32} {u : SX} (R : rx_S 9 d u) (H : post (-1001) u) : wpX_ballot post u v := by
  obtain ⟨xc, xk, xq, xo, xr, xp, xm, xb, xs, xl, xt, xe, xA, xB, xf, xg, xL, xO, xC, xN⟩ := u
  obtain ⟨rfl, _⟩ := R
  exact br_f (by decide) H
theorem x_ballot_bad {post : Int32 → SX → Prop} {n : Nat} {d : Nat → Nat} {v : Int32} {u : SX} (R : rx_S n d u) (hn : n < 9) (hv : ¬ ∃ o, v = nI o ∧ o_ok o = true) (H : post (-1000) u) : wpX_ballot post u v := by
  obtain ⟨xc, xk, xq, xo, xr, xp, xm, xb, xs, xl, xt, xe, xA, xB, xf, xg, xL, xO, xC, xN⟩ := u
  obtain ⟨rfl, _⟩ := R
  exact br_t (nI_lt (b := 9) hn (by decide)) (x_isO_f hv (br_t rfl H))
theorem x_ballot_ok {post : Int32 → SX → Prop} {n o : Nat} {d : Nat → Nat} {u : SX} (R : rx_S n d u) (hn : n < 9) (ho : o_ok o = true) (H : ∀ u', rx_S (n + 1) (q_up d n o) u' → post (nI (n + 1)) u') : wpX_ballot post u (nI o) := by
  obtain ⟨xc, xk, xq, xo, xr, xp, xm, xb, xs, xl, xt, xe, xA, xB, xf, xg, xL, xO, xC, xN⟩ := u
  obtain ⟨rfl, hok, hb, _⟩ := R
  exact br_t (nI_lt (b := 9) hn (by decide)) (x_isO_t ho (br_f (by decide) (x_put hn ho fun xr' h1 h2 => nm_r (nI_1 n) (H _ ⟨rfl, e_ok_push hok hn ho, e_bal_push hb h1 h2, Or.inl rfl⟩))))
theorem x_order_f {post : Int32 → Prop} {n : Nat} {d : Nat → Nat} {v : Int32} {u : SX} (R : rx_S n d u) (hv : ¬ ∃ i, i < n ∧ v = nI i) (H : post (-1000)) : wpX_order post u v := by
  obtain ⟨xc, xk, xq, xo, xr, xp, xm, xb, xs, xl, xt, xe, xA, xB, xf, xg, xL, xO, xC, xN⟩ := u
  obtain ⟨rfl, hok, _⟩ := R
  have hn := hok.1
  by_cases h : v < 0
  · exact br_t h H
  · obtain ⟨j, hj, rfl⟩ := nI_of h
    exact br_f h (br_f (nI_nlt (Nat.le_of_not_lt fun hj5 => hv ⟨j, hj5, rfl⟩) hj) H)
theorem x_order_t {post : Int32 → Prop} {n i : Nat} {d : Nat → Nat} {u : SX} (R : rx_S n d u) (hi : i < n) (H : post (nI (d i))) : wpX_order post u (nI i) := by
  obtain ⟨xc, xk, xq, xo, xr, xp, xm, xb, xs, xl, xt, xe, xA, xB, xf, xg, xL, xO, xC, xN⟩ := u
  obtain ⟨rfl, hok, hb, _⟩ := R
  have hn := hok.1
  refine br_f (nI_pos (by omega)) (br_t (nI_lt hi (by omega)) ⟨vp_in_nI (by omega) (by decide), ?_⟩)
  rw [nI_clamp (by omega), (hb i hi).1]; exact H
theorem x_drop_f {post : Int32 → SX → Prop} {n : Nat} {d : Nat → Nat} {v : Int32} {u : SX} (R : rx_S n d u) (hv : ¬ ∃ i, i < n ∧ v = nI i) (H : post (-1000) u) : wpX_drop post u v := by
  obtain ⟨xc, xk, xq, xo, xr, xp, xm, xb, xs, xl, xt, xe, xA, xB, xf, xg, xL, xO, xC, xN⟩ := u
  obtain ⟨rfl, hok, _⟩ := R
  have hn := hok.1
  by_cases h : v < 0
  · exact br_t h H
  · obtain ⟨j, hj, rfl⟩ := nI_of h
    exact br_f h (br_f (nI_nlt (Nat.le_of_not_lt fun hj5 => hv ⟨j, hj5, rfl⟩) hj) H)
theorem x_drop_t {post : Int32 → SX → Prop} {n i : Nat} {d : Nat → Nat} {u : SX} (R : rx_S (n + 1) d u) (hi : i < n + 1) (H : ∀ u', rx_S n (q_dr d i n) u' → post (nI n) u') : wpX_drop post u (nI i) := by
  obtain ⟨xc, xk, xq, xo, xr, xp, xm, xb, xs, xl, xt, xe, xA, xB, xf, xg, xL, xO, xC, xN⟩ := u
  obtain ⟨rfl, hok, hb, _⟩ := R
  have hn := hok.1
  refine br_f (nI_pos (by omega)) (br_t (nI_lt hi (by omega)) (nm_r (nI_pred n) ?_))
  refine pk_loop (fun m k (s : Int32 × (Nat → Int32) × (Nat → Int32)) => wX_drop_28 post m (nI k) (nI n) s.1 xq s.2.1 s.2.2 xp xm xb xs xl xt xe xA xB xf xg xL xO xC xN) (fun k s => i ≤ k ∧ e_bal (n + 1) (q_dr d i k) s.2.1 s.2.2) n i (xk, xo, xr) (by omega) ⟨Nat.le_refl i, by rw [q_dr_0]; exact hb⟩ ?_ ?_
  · rintro m ⟨xk', xo', xr'⟩ ⟨_, hB⟩
    exact br_t (Int32.le_refl _) (H _ ⟨rfl, ⟨by omega, fun j hj => (e_ok_dr hok (Nat.lt_succ_self n)).2 j (by omega)⟩, fun j hj => hB j (by omega), Or.inl rfl⟩)
  · rintro m k ⟨xk', xo', xr'⟩ hk ⟨hik, hB⟩ K
    dsimp only at hB K ⊢
    refine br_f (nI_ge hk (by omega)) ?_
    rw [nI_1, nI_clamp (by omega), (hB (k + 1) (by omega)).1, q_dr_hi]
    refine ⟨vp_in_nI (by omega) (by decide), x_put (by omega) (hok.2 _ (by omega)) fun xr'' h1 h2 => nm_e (K (0, _, _) ⟨by omega, ?_⟩)⟩
    rw [← q_dr_s d hik]
    exact e_bal_put hB h1 h2
theorem x_ballots {post : Int32 → Prop} {n : Nat} {d : Nat → Nat} {u : SX} (R : rx_S n d u) (H : post (nI n)) : wpX_ballots post u := by
  obtain ⟨xc, xk, xq, xo, xr, xp, xm, xb, xs, xl, xt, xe, xA, xB, xf, xg, xL, xO, xC, xN⟩ := u
  obtain ⟨rfl, _⟩ := R
  exact H
end
end
section
section
variable {yn yq : Int32} {yo yp ym yt yl yb yw yk yh yC yN : Nat → Int32}
theorem y_in_t {post : Int32 → Prop} {v lo hi : Int32} (h1 : ¬ v < lo) (h2 : ¬ hi < v) (H : post 1) : wpY_in post (yn, yq, yo, yp, ym, yt, yl, yb, yw, yk, yh, yC, yN) v lo hi := br_f h1 (br_f h2 H)
theorem y_in_f {post : Int32 → Prop} {v lo hi : Int32} (h : v < lo ∨ hi < v) (H : post 0) : wpY_in post (yn, yq, yo, yp, ym, yt, yl, yb, yw, yk, yh, yC, yN) v lo hi := by
  by_cases h1 : v < lo
  · exact br_t h1 H
  · exact br_f h1 (br_t (h.resolve_left h1) H)
theorem y_r_f {n : Nat} {v : Int32} (hn : n < 100000) (h : ¬ ∃ i, i < n ∧ v = nI i) : v < 0 ∨ nI n - 1 < v := by
  by_cases h1 : v < 0
  · exact Or.inl h1
  · obtain ⟨j, hj, rfl⟩ := nI_of h1
    refine Or.inr ?_
    have hj2 : ¬ j < n := fun hh => h ⟨j, hh, rfl⟩
    rw [Int32.lt_iff_toInt_lt, nI_toInt hj, show (nI n - 1).toInt = (n : Int) - 1 from by
      have := pk_sub_toInt (a := n) (b := 1) (by omega) (by decide)
      exact this]
    omega
theorem y_r_t {n i : Nat} (hn : n < 100000) (h : i < n) : ¬ nI n - 1 < nI i := by
  obtain ⟨m, rfl⟩ : ∃ m, n = m + 1 := ⟨n - 1, by omega⟩
  rw [nI_pred]; exact nI_nlt (by omega) (by omega)
theorem y_in_T {post : Int32 → Prop} {n i : Nat} {hi : Int32} (e : hi = nI n - 1) (hn : n < 100000) (h : i < n) (H : post 1) : wpY_in post (yn, yq, yo, yp, ym, yt, yl, yb, yw, yk, yh, yC, yN) (nI i) 0 hi := by
  subst e; exact y_in_t (nI_pos (by omega)) (y_r_t hn h) H
theorem y_in_F {post : Int32 → Prop} {n : Nat} {v hi : Int32} (e : hi = nI n - 1) (hn : n < 100000) (h : ¬ ∃ i, i < n ∧ v = nI i) (H : post 0) : wpY_in post (yn, yq, yo, yp, ym, yt, yl, yb, yw, yk, yh, yC, yN) v 0 hi := by
  subst e; exact y_in_f (y_r_f hn h) H
theorem y_isO_lp {post : Int32 → Prop} {o : Nat} (ho : o < 3125) (H : post (if o_ok o = true then 1 else 0)) : ∃ n, wY_isOrder_21 post yn yq yo yp ym yt yl yb yw yk yh yC yN n (nI o) 0 0 := by
  refine loop_0 (fun n i (s : Int32 × Int32) => wY_isOrder_21 post yn yq yo yp ym yt yl yb yw yk yh yC yN n s.2 s.1 (nI i)) (fun i s => s = (nI (o_seen o i), nI (o / 5 ^ i))) 5 (0, nI o) (by rw [Nat.pow_zero, Nat.div_one]; rfl) ?_ ?_
  · rintro n _ rfl
    refine br_t (Int32.le_refl _) ?_
    have h : o_ok o = decide (o_seen o 5 = 31) := by simp [o_ok, ho]
    rw [h] at H
    by_cases e : o_seen o 5 = 31
    · refine br_t ?_ (by simpa [e] using H)
      show nI (o_seen o 5) = 31
      rw [e]; rfl
    · refine br_f ?_ (by simpa [e] using H)
      intro z
      have hb : o_seen o 5 < 2 ^ 31 := by
        have g : ∀ k, o_seen o k < 2 ^ 5 := by
          intro k
          induction k with
          | zero => exact (by decide : 0 < 2 ^ 5)
          | succ k ih => exact Nat.or_lt_two_pow ih (Nat.pow_lt_pow_right (by decide) (Nat.mod_lt _ (by decide)))
        exact Nat.lt_of_lt_of_le (g 5) (by decide)
      exact e ((nI_eq (b := 31) hb (by decide)).mp z)
  · rintro n i _ hi rfl K
    have hb : o / 5 ^ i < 2 ^ 31 := Nat.lt_of_le_of_lt (o_le o i) (by omega)
    refine br_f (nI_ge (b := 5) hi (by decide)) ⟨by decide, nm_r (e' := nI (o_seen o (i + 1))) ?_ ⟨by decide, nm_r (e' := nI (o / 5 ^ (i + 1))) ?_ (nm_r (nI_1 i) (K (_, _) rfl))⟩⟩
    · show nI (o_seen o i) ||| ((1 : Int32) <<< ((nI (o / 5 ^ i) - nI (o / 5 ^ i) / 5 * 5) &&& 31)) = _
      rw [o_rem hb, bi_shl (Nat.lt_of_lt_of_le (Nat.mod_lt _ (by decide)) (by decide : 5 ≤ 31)), bi_or]; rfl
    · show nI (o / 5 ^ i) / 5 = _
      rw [o_div hb, o_shr]
theorem y_isO_t {post : Int32 → Prop} {o : Nat} (ho : o_ok o = true) (H : post 1) : wpY_isOrder post (yn, yq, yo, yp, ym, yt, yl, yb, yw, yk, yh, yC, yN) (nI o) := by
  have h := o_ok_lt ho
  unfold wpY_isOrder
  exact y_in_T (n := 3125) (by decide) (by decide) h (br_f (by decide) (y_isO_lp h (by rw [if_pos ho]; exact H)))
theorem y_isO_f {post : Int32 → Prop} {v : Int32} (hv : ¬ ∃ o, v = nI o ∧ o_ok o = true) (H : post 0) : wpY_isOrder post (yn, yq, yo, yp, ym, yt, yl, yb, yw, yk, yh, yC, yN) v := by
  unfold wpY_isOrder
  by_cases h : ∃ i, i < 3125 ∧ v = nI i
  · obtain ⟨i, hi, rfl⟩ := h
    refine y_in_t (nI_pos (by omega)) (nI_nlt (b := i) (a := 3124) (by omega) (by decide)) (br_f (by decide) (y_isO_lp hi ?_))
    rw [if_neg (fun e => hv ⟨i, rfl, e⟩)]; exact H
  · refine y_in_f ?_ (br_t rfl H)
    by_cases h1 : v < 0
    · exact Or.inl h1
    · obtain ⟨j, hj, rfl⟩ := nI_of h1
      exact Or.inr (nI_lt (a := 3124) (Nat.lt_of_not_le fun hh => h ⟨j, by omega, rfl⟩) hj)
theorem y_write {post : SY → Prop} {i o : Nat} (hi : i < 9) (ho : o_ok o = true) (H : ∀ yp' : Nat → Int32, (∀ c, c < 5 → yp' (5 * i + c) = nI (o_pl o c)) → (∀ j, (j < 5 * i ∨ 5 * i + 5 ≤ j) → yp' j = yp j) → post (yn, yq, upd yo i (nI o), yp', ym, yt, yl, yb, yw, yk, yh, yC, yN)) : wpY_write post (yn, yq, yo, yp, ym, yt, yl, yb, yw, yk, yh, yC, yN) (nI i) (nI o) := by
  have h := o_ok_lt ho
  refine ⟨vp_in_nI hi (by decide), nm_r (e' := upd yo i (nI o)) (by rw [nI_clamp (by omega)]) ⟨6, ?_⟩⟩
  refine pk_loopD (fun n e (s : Int32 × (Nat → Int32)) => wY_write_12 post (nI i) yn yq n s.1 (nI e - 1) (upd yo i (nI o)) s.2 ym yt yl yb yw yk yh yC yN) (fun e s => e ≤ 5 ∧ s.1 = nI (o / 5 ^ (5 - e)) ∧ (∀ k, e ≤ k → k < 5 → s.2 (5 * i + o_rk o k) = nI k) ∧ (∀ j, (j < 5 * i ∨ 5 * i + 5 ≤ j) → s.2 j = yp j)) ?_ ?_ 5 (nI o, yp) ?_
  · rintro n ⟨x3, yp'⟩ ⟨_, _, h2, h3⟩
    refine br_t (by decide) (H yp' (fun c hc => ?_) h3)
    have := h2 (o_pl o c) (Nat.zero_le _) (o_pl_lt o c)
    rwa [(o_fact ho hc).1] at this
  · rintro n e ⟨x3, yp'⟩ ⟨he, h1, h2, h3⟩ K
    dsimp only at h1 h2 h3 K ⊢
    subst h1
    rw [nI_pred]
    have e5 : 5 - (e + 1) = 4 - e := by omega
    have hb : o / 5 ^ (5 - (e + 1)) < 2 ^ 31 := Nat.lt_of_le_of_lt (o_le o _) (by omega)
    have hr := o_rk_lt o e
    have er : o / 5 ^ (5 - (e + 1)) % 5 = o_rk o e := by rw [e5]; rfl
    refine br_f (nI_pos (by omega)) ?_
    rw [o_rem hb, er]
    refine ⟨by decide, bi_in (m := 9) hi hr (by decide) (by decide), nm_r (e' := upd yp' (5 * i + o_rk o e) (nI e)) ?_ ⟨by decide, nm_r (e' := nI (o / 5 ^ (5 - e))) ?_ (nm_r (e' := nI e - 1) (Int32.sub_eq_add_neg _ _).symm (K (_, _) ?_))⟩⟩
    · rw [bi_ic (by omega) (by omega)]
    · rw [o_div hb, o_shr]
      exact congrArg (fun t => nI (o / 5 ^ t)) (by omega)
    · refine ⟨by omega, rfl, fun k hk1 hk2 => ?_, fun j hj => ?_⟩
      · by_cases ek : k = e
        · subst ek; exact pk_us
        · have : o_rk o k ≠ o_rk o e := fun z => ek (by rw [← (o_fact ho hk2).2, ← (o_fact ho (show e < 5 by omega)).2, z])
          exact (pk_un (by omega)).trans (h2 k (by omega) hk2)
      · exact (pk_un (by omega)).trans (h3 j hj)
  · exact ⟨Nat.le_refl 5, by rw [Nat.sub_self, Nat.pow_zero, Nat.div_one], fun k h1 h2 => by omega, fun j _ => rfl⟩
theorem y_ballot_full {post : Int32 → SY → Prop} {d : Nat → Nat} {v : Int32} {u : SY} (R : ry_S 9 d u) (H : post (-1001) u) : wpY_ballot post u v := by
  obtain ⟨yn, yq, yo, yp, ym, yt, yl, yb, yw, yk, yh, yC, yN⟩ := u
  obtain ⟨rfl, _⟩ := R
  exact br_t rfl H
theorem y_ballot_bad {post : Int32 → SY → Prop} {n : Nat} {d : Nat → Nat} {v : Int32} {u : SY} (R : ry_S n d u) (hn : n < 9) (hv : ¬ ∃ o, v = nI o ∧ o_ok o = true) (H : post (-1000) u) : wpY_ballot post u v := by
  obtain ⟨yn, yq, yo, yp, ym, yt, yl, yb, yw, yk, yh, yC, yN⟩ := u
  obtain ⟨rfl, _⟩ := R
  exact br_f (fun z => by have := (nI_eq (b := 9) (by omega) (by decide)).mp z; omega) (y_isO_f hv (br_t rfl H))
theorem y_ballot_ok {post : Int32 → SY → Prop} {n o : Nat} {d : Nat → Nat} {u : SY} (R : ry_S n d u) (hn : n < 9) (ho : o_ok o = true) (H : ∀ u', ry_S (n + 1) (q_up d n o) u' → post (nI (n + 1)) u') : wpY_ballot post u (nI o) := by
  obtain ⟨yn, yq, yo, yp, ym, yt, yl, yb, yw, yk, yh, yC, yN⟩ := u
  obtain ⟨rfl, hok, hb⟩ := R
  exact br_f (fun z => by have := (nI_eq (b := 9) (by omega) (by decide)).mp z; omega) (y_isO_t ho (br_f (by decide) (y_write hn ho fun xr' h1 h2 => nm_r (nI_1 n) (H _ ⟨rfl, e_ok_push hok hn ho, e_balY_push hb h1 h2⟩))))
theorem y_order_f {post : Int32 → Prop} {n : Nat} {d : Nat → Nat} {v : Int32} {u : SY} (R : ry_S n d u) (hv : ¬ ∃ i, i < n ∧ v = nI i) (H : post (-1000)) : wpY_order post u v := by
  obtain ⟨yn, yq, yo, yp, ym, yt, yl, yb, yw, yk, yh, yC, yN⟩ := u
  obtain ⟨rfl, hok, _⟩ := R
  have hn := hok.1
  unfold wpY_order
  exact y_in_F rfl (by omega) hv (br_t rfl H)
theorem y_order_t {post : Int32 → Prop} {n i : Nat} {d : Nat → Nat} {u : SY} (R : ry_S n d u) (hi : i < n) (H : post (nI (d i))) : wpY_order post u (nI i) := by
  obtain ⟨yn, yq, yo, yp, ym, yt, yl, yb, yw, yk, yh, yC, yN⟩ := u
  obtain ⟨rfl, hok, hb⟩ := R
  have hn := hok.1
  unfold wpY_order
  refine y_in_T rfl (by omega) hi (br_f (by decide) ⟨vp_in_nI (by omega) (by decide), ?_⟩)
  rw [nI_clamp (by omega), (hb i hi).1]; exact H
theorem y_drop_f {post : Int32 → SY → Prop} {n : Nat} {d : Nat → Nat} {v : Int32} {u : SY} (R : ry_S n d u) (hv : ¬ ∃ i, i < n ∧ v = nI i) (H : post (-1000) u) : wpY_drop post u v := by
  obtain ⟨yn, yq, yo, yp, ym, yt, yl, yb, yw, yk, yh, yC, yN⟩ := u
  obtain ⟨rfl, hok, _⟩ := R
  have hn := hok.1
  unfold wpY_drop
  exact y_in_F rfl (by omega) hv (br_t rfl H)
theorem y_drop_t {post : Int32 → SY → Prop} {n i : Nat} {d : Nat → Nat} {u : SY} (R : ry_S (n + 1) d u) (hi : i < n + 1) (H : ∀ u', ry_S n (q_dr d i n) u' → post (nI n) u') : wpY_drop post u (nI i) := by
  obtain ⟨yn, yq, yo, yp, ym, yt, yl, yb, yw, yk, yh, yC, yN⟩ := u
  obtain ⟨rfl, hok, hb⟩ := R
  have hn := hok.1
  unfold wpY_drop
  refine y_in_T rfl (by omega) hi (br_f (by decide) ?_)
  refine pk_loop (fun m k (s : (Nat → Int32) × (Nat → Int32)) => wY_drop_21 post m (nI k) (nI (n + 1)) yq s.1 s.2 ym yt yl yb yw yk yh yC yN) (fun k s => i ≤ k ∧ e_balY (n + 1) (q_dr d i k) s.1 s.2) n i (yo, yp) (by omega) ⟨Nat.le_refl i, by rw [q_dr_0]; exact hb⟩ ?_ ?_
  · rintro m ⟨yo', yp'⟩ ⟨_, hB⟩
    refine br_t ?_ (nm_r (nI_pred n) (H _ ⟨rfl, ⟨by omega, fun j hj => (e_ok_dr hok (Nat.lt_succ_self n)).2 j (by omega)⟩, fun j hj => hB j (by omega)⟩))
    rw [nI_pred]; exact Int32.le_refl _
  · rintro m k ⟨yo', yp'⟩ hk ⟨hik, hB⟩ K
    dsimp only at hB K ⊢
    refine br_f (by rw [nI_pred]; exact nI_ge hk (by omega)) ?_
    rw [nI_1, nI_clamp (by omega), (hB (k + 1) (by omega)).1, q_dr_hi]
    refine ⟨vp_in_nI (by omega) (by decide), y_write (by omega) (hok.2 _ (by omega)) fun yp'' h1 h2 => nm_e (K (_, _) ⟨by omega, ?_⟩)⟩
    rw [← q_dr_s d hik]
    exact e_balY_put hB h1 h2
theorem y_ballots {post : Int32 → Prop} {n : Nat} {d : Nat → Nat} {u : SY} (R : ry_S n d u) (H : post (nI n)) : wpY_ballots post u := by
  obtain ⟨yn, yq, yo, yp, ym, yt, yl, yb, yw, yk, yh, yC, yN⟩ := u
  obtain ⟨rfl, _⟩ := R
  exact H
end
end
section
/-- counted: the component's state as every rule finds and leaves it -/
def rx_K (n : Nat) (d : Nat → Nat) (u : SX) : Prop := match u with
  | (xc, xk, xq, xo, xr, xp, xm, xb, xs, xl, xt, xe, xA, xB, xf, xg, xL, xO, xC, xN) => xc = nI n ∧ xk = 1 ∧ e_ok n d ∧ e_bal n d xo xr ∧ e_cnt n d xp xm xb
theorem rx_K_S {n : Nat} {d : Nat → Nat} {u : SX} (h : rx_K n d u) : rx_S n d u := by
  obtain ⟨xc, xk, xq, xo, xr, xp, xm, xb, xs, xl, xt, xe, xA, xB, xf, xg, xL, xO, xC, xN⟩ := u
  obtain ⟨h1, h2, h3, h4, h5⟩ := h
  exact ⟨h1, h3, h4, Or.inr ⟨h2, h5⟩⟩
def c_T (o k l a b : Nat) : Bool := decide (o_pl o a < o_pl o b ∧ (o_pl o a < k ∨ (o_pl o a = k ∧ o_pl o b < l)))
section
variable {xc xk xq : Int32} {xo xr xp xm xb xs xl xt xe xA xB xf xg xL xO xC xN : Nat → Int32}
theorem x_ones_lp {post : Int32 → Prop} : ∀ n s acc : Nat, s < 512 → s < n → post (nI (acc + q_pc s)) → wX_onesIn_4 post xc xk xq xo xr xp xm xb xs xl xt xe xA xB xf xg xL xO xC xN n (nI acc) (nI s) := by
  intro n
  induction n with
  | zero => intro s acc _ h; omega
  | succ n ih =>
    intro s acc hs hn H
    by_cases h0 : s = 0
    · subst h0; exact br_t rfl H
    · obtain ⟨e, l⟩ := q_pc_step hs h0
      refine br_f (nI_ne0 (by omega) (by omega)) (nm_r (e' := nI (s &&& (s - 1))) ?_ (nm_r (nI_1 acc) (ih _ _ (by omega) (by omega) ?_)))
      · show nI s &&& (nI s - nI 1) = _
        rw [pk_sub (by omega), nx_and]
      · rw [e] at H
        rwa [Nat.add_assoc, Nat.add_comm 1]
theorem x_ones {post : Int32 → Prop} {s : Nat} (hs : s < 512) (H : post (nI (q_pc s))) : wpX_onesIn post (xc, xk, xq, xo, xr, xp, xm, xb, xs, xl, xt, xe, xA, xB, xf, xg, xL, xO, xC, xN) (nI s) :=
  ⟨s + 1, x_ones_lp (s + 1) s 0 hs (Nat.lt_succ_self s) (by rwa [Nat.zero_add])⟩
theorem x_isIn {A B : Prop} {s j : Nat} (hs : s < 2 ^ 31) (hj : j < 31) (f : s.testBit j = false → A) (g : s.testBit j = true → B) : wpX_isIn (fun r => (r = 0 → A) ∧ (¬ r = 0 → B)) (xc, xk, xq, xo, xr, xp, xm, xb, xs, xl, xt, xe, xA, xB, xf, xg, xL, xO, xC, xN) (nI s) (nI j) :=
  bi_0 s j hs hj (fun h => br_t rfl (f h)) (fun h => br_f (by decide) (g h))
theorem x_cB_11 {post : SX → Prop} {J : Int32 → (Nat → Int32) → (Nat → Int32) → (Nat → Int32) → (Nat → Int32) → (Nat → Int32) → (Nat → Int32) → (Nat → Int32) → (Nat → Int32) → (Nat → Int32) → (Nat → Int32) → (Nat → Int32) → (Nat → Int32) → (Nat → Int32) → (Nat → Int32) → (Nat → Int32) → (Nat → Int32) → (Nat → Int32) → Prop} {i k : Nat} {d : Nat → Nat} (hi : i < 9) (hk : k < 5) (ho : o_ok (d i) = true) (hr : ∀ k, k < 5 → xr (5 * i + k) = nI (o_rk (d i) k)) (hp : ∀ a b, a < 5 → b < 5 → xp (5 * a + b) = nI (e_M i d a b + (c_T (d i) k (k + 1) a b).toNat * 2 ^ i))
    (H : ∀ xp', (∀ a b, a < 5 → b < 5 → xp' (5 * a + b) = nI (e_M i d a b + (c_T (d i) (k + 1) (k + 2) a b).toNat * 2 ^ i)) → J (nI (k + 1)) xo xr xp' xm xb xs xl xt xe xA xB xf xg xL xO xC xN) : ∃ n, wX_countBallot_11 post J (nI i) (nI k) xc xk xq n (nI (k + 1)) xo xr xp xm xb xs xl xt xe xA xB xf xg xL xO xC xN := by
  refine pk_loop (fun m l (s : Nat → Int32) => wX_countBallot_11 post J (nI i) (nI k) xc xk xq m (nI l) xo xr s xm xb xs xl xt xe xA xB xf xg xL xO xC xN) (fun l s => k < l ∧ ∀ a b, a < 5 → b < 5 → s (5 * a + b) = nI (e_M i d a b + (c_T (d i) k l a b).toNat * 2 ^ i)) 5 (k + 1) xp (by omega) ⟨by omega, hp⟩ ?_ ?_
  · rintro m s ⟨_, hs⟩
    refine br_t (Int32.le_refl _) (nm_r (nI_1 k) (H s fun a b ha hb => ?_))
    rw [hs a b ha hb]
    have := o_pl_lt (d i) b
    have e : c_T (d i) k 5 a b = c_T (d i) (k + 1) (k + 2) a b := by
      unfold c_T
      rw [decide_eq_decide]; omega
    rw [e]
  · rintro m l s hl ⟨hkl, hs⟩ K
    have hA := o_rk_lt (d i) k
    have hB := o_rk_lt (d i) l
    have fk := (o_fact ho hk).2
    have fl := (o_fact ho hl).2
    have ek : xr ((5 : Int32) * nI i + nI k).toNatClampNeg = nI (o_rk (d i) k) := by rw [bi_ic (by omega) (by omega), hr k hk]
    have el : xr ((5 : Int32) * nI i + nI l).toNatClampNeg = nI (o_rk (d i) l) := by rw [bi_ic (by omega) (by omega), hr l hl]
    refine br_f (nI_ge (b := 5) hl (by decide)) ?_
    rw [ek, el, bi_ic (by omega) (by omega)]
    refine ⟨bi_in (m := 9) hi hk (by decide) (by decide), bi_in (m := 9) hi hl (by decide) (by decide), bi_in (m := 5) hA hB (by decide) (by decide), bi_in (m := 5) hA hB (by decide) (by decide), nm_r (e' := upd s (5 * o_rk (d i) k + o_rk (d i) l) (nI (e_M i d (o_rk (d i) k) (o_rk (d i) l) + 2 ^ i))) ?_ (nm_r (nI_1 l) (K _ ⟨by omega, fun a b ha hb => ?_⟩))⟩
    · rw [hs _ _ hA hB]
      have e : c_T (d i) k l (o_rk (d i) k) (o_rk (d i) l) = false := by
        unfold c_T
        rw [fk, fl, decide_eq_false_iff_not]; omega
      have hp2 : (2 : Nat) ^ i ≤ 2 ^ 8 := Nat.pow_le_pow_right (by decide) (by omega)
      have hq := q_mk_lt (e_pf d (o_rk (d i) k) (o_rk (d i) l)) i
      rw [e, Bool.toNat_false, Nat.zero_mul, Nat.add_zero, bi_shl (by omega), bi_or]
      unfold e_M
      rw [q_mk_or, bv_s (by omega)]
    · by_cases e : a = o_rk (d i) k ∧ b = o_rk (d i) l
      · obtain ⟨rfl, rfl⟩ := e
        have e : c_T (d i) k (l + 1) (o_rk (d i) k) (o_rk (d i) l) = true := by
          unfold c_T
          rw [fk, fl, decide_eq_true_eq]; omega
        rw [pk_us, e, Bool.toNat_true, Nat.one_mul]
      · rw [pk_un (by omega), hs a b ha hb]
        have e2 : c_T (d i) k l a b = c_T (d i) k (l + 1) a b := by
          unfold c_T
          rw [decide_eq_decide]
          have g : ¬ (o_pl (d i) a = k ∧ o_pl (d i) b = l) := by
            rintro ⟨rfl, rfl⟩
            exact e ⟨((o_fact ho ha).1).symm, ((o_fact ho hb).1).symm⟩
          omega
        rw [e2]
theorem x_cB {post : SX → Prop} {i : Nat} {d : Nat → Nat} (hi : i < 9) (ho : o_ok (d i) = true) (hr : ∀ k, k < 5 → xr (5 * i + k) = nI (o_rk (d i) k)) (hp : ∀ a b, a < 5 → b < 5 → xp (5 * a + b) = nI (e_M i d a b))
    (H : ∀ xp', (∀ a b, a < 5 → b < 5 → xp' (5 * a + b) = nI (e_M (i + 1) d a b)) → post (xc, xk, xq, xo, xr, xp', xm, xb, xs, xl, xt, xe, xA, xB, xf, xg, xL, xO, xC, xN)) : wpX_countBallot post (xc, xk, xq, xo, xr, xp, xm, xb, xs, xl, xt, xe, xA, xB, xf, xg, xL, xO, xC, xN) (nI i) := by
  refine loop_0 (fun m k (s : Nat → Int32) => wX_countBallot_2 post (nI i) xc xk xq m (nI k) xo xr s xm xb xs xl xt xe xA xB xf xg xL xO xC xN) (fun k s => ∀ a b, a < 5 → b < 5 → s (5 * a + b) = nI (e_M i d a b + (c_T (d i) k (k + 1) a b).toNat * 2 ^ i)) 5 xp ?_ ?_ ?_
  · intro a b ha hb
    have e : c_T (d i) 0 (0 + 1) a b = false := by
      unfold c_T
      rw [decide_eq_false_iff_not]; omega
    rw [e, hp a b ha hb]; simp
  · intro m s hs
    refine br_t (Int32.le_refl _) (H s fun a b ha hb => ?_)
    rw [hs a b ha hb]
    have := o_pl_lt (d i) a
    have e : c_T (d i) 5 (5 + 1) a b = e_pf d a b i := by
      unfold c_T e_pf
      rw [decide_eq_decide]; omega
    rw [e]; rfl
  · intro m k s hk hs K
    exact br_f (nI_ge (b := 5) hk (by decide)) (nm_r (nI_1 k) (x_cB_11 hi hk ho hr hs fun xp' h => K xp' h))
theorem x_cA_71 {post : SX → Prop} {J : Int32 → (Nat → Int32) → (Nat → Int32) → (Nat → Int32) → (Nat → Int32) → (Nat → Int32) → (Nat → Int32) → (Nat → Int32) → (Nat → Int32) → (Nat → Int32) → (Nat → Int32) → (Nat → Int32) → (Nat → Int32) → (Nat → Int32) → (Nat → Int32) → (Nat → Int32) → (Nat → Int32) → (Nat → Int32) → Prop} {n a : Nat} {d : Nat → Nat} (hn : n ≤ 9) (ha : a < 5) (hp : ∀ a b, a < 5 → b < 5 → xp (5 * a + b) = nI (e_M n d a b)) (hm : ∀ a' b, a' < a → b < 5 → xm (5 * a' + b) = zI (e_m n d a' b)) (hb : ∀ a', a' < a → xb a' = nI (q_mk (e_b n d a') 5)) (h0 : xb a = nI 0)
    (H : ∀ xm' xb', (∀ a' b, a' < a + 1 → b < 5 → xm' (5 * a' + b) = zI (e_m n d a' b)) → (∀ a', a' < a + 1 → xb' a' = nI (q_mk (e_b n d a') 5)) → J (nI (a + 1)) xo xr xp xm' xb' xs xl xt xe xA xB xf xg xL xO xC xN) : ∃ m, wX_countAll_71 post J (nI a) xc xk xq m 0 xo xr xp xm xb xs xl xt xe xA xB xf xg xL xO xC xN := by
  refine loop_0 (fun m b (s : (Nat → Int32) × (Nat → Int32)) => wX_countAll_71 post J (nI a) xc xk xq m (nI b) xo xr xp s.1 s.2 xs xl xt xe xA xB xf xg xL xO xC xN) (fun b s => (∀ a' b', a' < 5 → b' < 5 → (a' < a ∨ (a' = a ∧ b' < b)) → s.1 (5 * a' + b') = zI (e_m n d a' b')) ∧ (∀ a', a' < a → s.2 a' = nI (q_mk (e_b n d a') 5)) ∧ s.2 a = nI (q_mk (e_b n d a) b)) 5 (xm, xb) ⟨fun a' b' h1 h2 h3 => hm a' b' (by omega) h2, hb, h0⟩ ?_ ?_
  · rintro m ⟨xm', xb'⟩ ⟨h1, h2, h3⟩
    refine br_t (Int32.le_refl _) (nm_r (nI_1 a) (H xm' xb' (fun a' b ha' hb' => h1 a' b (by omega) hb' (by omega)) (fun a' ha' => ?_)))
    by_cases e : a' = a
    · subst e; exact h3
    · exact h2 a' (by omega)
  · rintro m b ⟨xm', xb'⟩ hb5 ⟨h1, h2, h3⟩ K
    dsimp only at h1 h2 h3 K ⊢
    have r := e_m_r hn d a b
    have ep : xp ((5 : Int32) * nI a + nI b).toNatClampNeg = nI (e_M n d a b) := by rw [bi_ic (by omega) (by omega), hp a b ha hb5]
    have eq : xp ((5 : Int32) * nI b + nI a).toNatClampNeg = nI (e_M n d b a) := by rw [bi_ic (by omega) (by omega), hp b a hb5 ha]
    refine br_f (nI_ge (b := 5) hb5 (by decide)) ⟨bi_in (m := 5) ha hb5 (by decide) (by decide), ?_⟩
    rw [ep, eq]
    refine x_ones (e_M_lt hn d a b) ⟨bi_in (m := 5) hb5 ha (by decide) (by decide), x_ones (e_M_lt hn d b a) (nm_r (e' := zI (e_m n d a b)) ?_ ⟨bi_in (m := 5) ha hb5 (by decide) (by decide), nm_r (e' := upd xm' (5 * a + b) (zI (e_m n d a b))) ?_ ?_⟩)⟩
    · rw [e_M_pc hn, e_M_pc hn, ← zI_nat, ← zI_nat, zI_sub]; rfl
    · rw [bi_ic (by omega) (by omega), zI_vb2 (by omega) (by omega)]
    · have hm1 : ∀ a' b', a' < 5 → b' < 5 → (a' < a ∨ (a' = a ∧ b' < b + 1)) → upd xm' (5 * a + b) (zI (e_m n d a b)) (5 * a' + b') = zI (e_m n d a' b') := by
        intro a' b' h4 h5 h6
        by_cases e : a' = a ∧ b' = b
        · obtain ⟨rfl, rfl⟩ := e; exact pk_us
        · rw [pk_un (by omega)]; exact h1 a' b' h4 h5 (by omega)
      refine zb_le (e_m n d a b) 0 (fun hle => nm_r (nI_1 b) (K (_, _) ⟨hm1, h2, ?_⟩)) (fun hgt => ⟨vp_in_nI ha (by decide), vp_in_nI ha (by decide), nm_r (e' := upd xb' a (nI (q_mk (e_b n d a) (b + 1)))) ?_ (nm_r (nI_1 b) (K (_, _) ⟨hm1, fun a' ha' => (pk_un (by omega)).trans (h2 a' ha'), pk_us⟩))⟩) (by omega) (by omega)
      · rw [bi_skip _ (by unfold e_b; rw [decide_eq_false_iff_not]; omega)]; exact h3
      · have hq := q_mk_lt (e_b n d a) (b + 1)
        have hp2 : (2 : Nat) ^ (b + 1) ≤ 2 ^ 5 := Nat.pow_le_pow_right (by decide) (by omega)
        rw [nI_clamp (by omega), h3, bi_add _ (by omega) (by unfold e_b; rw [decide_eq_true_eq]; omega), bv_b2 (by omega)]
theorem x_cA_57 {post : SX → Prop} {n : Nat} {d : Nat → Nat} (hn : n ≤ 9) (hp : ∀ a b, a < 5 → b < 5 → xp (5 * a + b) = nI (e_M n d a b))
    (H : ∀ xm' xb', (∀ a b, a < 5 → b < 5 → xm' (5 * a + b) = zI (e_m n d a b)) → (∀ a, a < 5 → xb' a = nI (q_mk (e_b n d a) 5)) → post (xc, xk, xq, xo, xr, xp, xm', xb', xs, xl, xt, xe, xA, xB, xf, xg, xL, xO, xC, xN)) : ∃ m, wX_countAll_57 post xc xk xq m 0 xo xr xp xm xb xs xl xt xe xA xB xf xg xL xO xC xN := by
  refine loop_0 (fun m a (s : (Nat → Int32) × (Nat → Int32)) => wX_countAll_57 post xc xk xq m (nI a) xo xr xp s.1 s.2 xs xl xt xe xA xB xf xg xL xO xC xN) (fun a s => (∀ a' b', a' < a → b' < 5 → s.1 (5 * a' + b') = zI (e_m n d a' b')) ∧ (∀ a', a' < a → s.2 a' = nI (q_mk (e_b n d a') 5))) 5 (xm, xb) ⟨fun a' b' h => by omega, fun a' h => by omega⟩ ?_ ?_
  · rintro m ⟨xm', xb'⟩ ⟨h1, h2⟩
    exact br_t (Int32.le_refl _) (H xm' xb' (fun a b ha hb => h1 a b ha hb) h2)
  · rintro m a ⟨xm', xb'⟩ ha ⟨h1, h2⟩ K
    dsimp only at h1 h2 K ⊢
    refine br_f (nI_ge (b := 5) ha (by decide)) ⟨vp_in_nI ha (by decide), nm_r (e' := upd xb' a (nI 0)) (by rw [nI_clamp (by omega), bv_b0]; rfl) ?_⟩
    exact x_cA_71 hn ha hp h1 (fun a' ha' => (pk_un (by omega)).trans (h2 a' ha')) pk_us (fun xm'' xb'' h3 h4 => K (xm'', xb'') ⟨h3, h4⟩)
theorem x_cA_36 {post : SX → Prop} {n : Nat} {d : Nat → Nat} (hok : e_ok n d) (hb : e_bal n d xo xr) (hp : ∀ a b, a < 5 → b < 5 → xp (5 * a + b) = nI 0)
    (H : ∀ xp' xm' xb', e_cnt n d xp' xm' xb' → post (nI n, xk, xq, xo, xr, xp', xm', xb', xs, xl, xt, xe, xA, xB, xf, xg, xL, xO, xC, xN)) : ∃ m, wX_countAll_36 post m 0 (nI n) xk xq xo xr xp xm xb xs xl xt xe xA xB xf xg xL xO xC xN := by
  have hn := hok.1
  refine loop_0 (fun m i (s : Nat → Int32) => wX_countAll_36 post m (nI i) (nI n) xk xq xo xr s xm xb xs xl xt xe xA xB xf xg xL xO xC xN) (fun i s => ∀ a b, a < 5 → b < 5 → s (5 * a + b) = nI (e_M i d a b)) n xp hp ?_ ?_
  · intro m xp' h
    exact br_t (Int32.le_refl _) (x_cA_57 hn h fun xm' xb' h1 h2 => H xp' xm' xb' ⟨h, h1, h2⟩)
  · intro m i xp' hi h K
    exact br_f (nI_ge hi (by omega)) (x_cB (by omega) (hok.2 i hi) (hb i hi).2 h fun xp'' h' => nm_r (nI_1 i) (K xp'' h'))
theorem x_countAll {post : SX → Prop} {n : Nat} {d : Nat → Nat} {u : SX} (R : rx_S n d u) (H : ∀ u', rx_K n d u' → post u') : wpX_countAll post u := by
  obtain ⟨xc, xk, xq, xo, xr, xp, xm, xb, xs, xl, xt, xe, xA, xB, xf, xg, xL, xO, xC, xN⟩ := u
  obtain ⟨rfl, hok, hb, hc⟩ := R
  rcases hc with rfl | ⟨rfl, hc⟩
  · refine br_t rfl ?_
    refine loop_0 (fun m k (s : Nat → Int32) => wX_countAll_15 post (nI n) 1 xq m (nI k) xo xr s xm xb xs xl xt xe xA xB xf xg xL xO xC xN) (fun k s => ∀ j, j < k → s j = nI 0) 25 xp (fun j h => by omega) ?_ ?_
    · intro m xp' h
      exact br_t (Int32.le_refl _) (x_cA_36 hok hb (fun a b ha hb => h _ (by omega)) fun xp' xm' xb' hc => H _ ⟨rfl, rfl, hok, hb, hc⟩)
    · intro m k xp' hk h K
      refine br_f (nI_ge (b := 25) hk (by decide)) ⟨vp_in_nI hk (by decide), nm_r (e' := upd xp' k (nI 0)) (by rw [nI_clamp (by omega), bv_s0]; rfl) (nm_r (nI_1 k) (K _ fun j hj => ?_))⟩
      by_cases e : j = k
      · subst e; exact pk_us
      · exact (pk_un e).trans (h j (by omega))
  · exact br_f (by decide) (H _ ⟨rfl, rfl, hok, hb, hc⟩)
end
end
section
/-- the margin over the ballots with bits in s -/
def e_ms (n : Nat) (d : Nat → Nat) (s a b : Nat) : Int := (q_cn (fun i => s.testBit i && e_pf d a b i) n : Int) - (q_cn (fun i => s.testBit i && e_pf d b a i) n : Int)
theorem e_ms_511 {n : Nat} (hn : n ≤ 9) (d : Nat → Nat) (a b : Nat) : e_ms n d 511 a b = e_m n d a b := by
  have g : ∀ p : Nat → Bool, q_cn (fun i => (511 : Nat).testBit i && p i) n = q_cn p n := by
    intro p
    refine q_cn_congr fun i hi => ?_
    rw [show (511 : Nat) = 2 ^ 9 - 1 from rfl, Nat.testBit_two_pow_sub_one]
    simp [show i < 9 by omega]
  unfold e_ms e_m e_c
  rw [g, g]
def ry_K (n : Nat) (d : Nat → Nat) (v : SY) : Prop := match v with
  | (yn, yq, yo, yp, ym, yt, yl, yb, yw, yk, yh, yC, yN) => yn = nI n ∧ e_ok n d ∧ e_balY n d yo yp ∧ (∀ a b, a < 5 → b < 5 → ym (5 * a + b) = zI (e_m n d a b))
theorem ry_K_S {n : Nat} {d : Nat → Nat} {v : SY} (h : ry_K n d v) : ry_S n d v := by
  obtain ⟨yn, yq, yo, yp, ym, yt, yl, yb, yw, yk, yh, yC, yN⟩ := v
  obtain ⟨h1, h2, h3, _⟩ := h
  exact ⟨h1, h2, h3⟩
section
variable {yn yq : Int32} {yo yp ym yt yl yb yw yk yh yC yN : Nat → Int32}
theorem y_mO {post : Int32 → Prop} {n s a b : Nat} {d : Nat → Nat} (hok : e_ok n d) (hb : e_balY n d yo yp) (hs : s < 2 ^ 31) (ha : a < 5) (hb5 : b < 5) (H : post (zI (e_ms n d s a b))) : wpY_marginOf post (nI n, yq, yo, yp, ym, yt, yl, yb, yw, yk, yh, yC, yN) (nI a) (nI b) (nI s) := by
  have hn := hok.1
  refine loop_0 (fun m i (x : Int32) => wY_marginOf_6 post (nI a) (nI b) (nI s) (nI n) yq yo yp ym yt yl yb yw yk yh yC yN m x (nI i)) (fun i x => x = zI (e_ms i d s a b)) n 0 rfl ?_ ?_
  · rintro m _ rfl
    exact br_t (Int32.le_refl _) H
  · rintro m i _ hi rfl K
    have ho := hok.2 i hi
    have hpa : yp ((5 : Int32) * nI i + nI a).toNatClampNeg = nI (o_pl (d i) a) := by rw [bi_ic (by omega) (by omega), (hb i hi).2 a ha]
    have hpb : yp ((5 : Int32) * nI i + nI b).toNatClampNeg = nI (o_pl (d i) b) := by rw [bi_ic (by omega) (by omega), (hb i hi).2 b hb5]
    have la := o_pl_lt (d i) a
    have lb := o_pl_lt (d i) b
    refine br_f (nI_ge hi (by omega)) (bi_1 s i hs (by omega) (fun ht => pk_eq a b (fun e => ?_) (fun e => ?_)) (fun ht => ?_))
    · refine nm_r (nI_1 i) (K _ ?_)
      subst e
      unfold e_ms
      exact congrArg zI (by simp only [q_cn, e_pf]; simp)
    · refine ⟨bi_in (m := 9) (by omega) ha (by decide) (by decide), bi_in (m := 9) (by omega) hb5 (by decide) (by decide), ?_⟩
      rw [hpa, hpb]
      refine pk_le (o_pl (d i) b) (o_pl (d i) a) (fun h => nm_r (e' := zI (e_ms (i + 1) d s a b)) ?_ (nm_r (nI_1 i) (K _ rfl))) (fun h => nm_r (e' := zI (e_ms (i + 1) d s a b)) ?_ (nm_r (nI_1 i) (K _ rfl)))
      · have hne : o_pl (d i) a ≠ o_pl (d i) b := fun z => e (o_inj ho ha hb5 z)
        have h1 : ¬ o_pl (d i) a < o_pl (d i) b := by omega
        have h2 : o_pl (d i) b < o_pl (d i) a := by omega
        show zI _ + zI (-1) = _
        rw [zI_add]
        refine congrArg zI ?_
        unfold e_ms
        simp only [q_cn, e_pf, ht, h1, h2, decide_true, decide_false, Bool.true_and, Bool.toNat_true, Bool.toNat_false]
        omega
      · have h2 : ¬ o_pl (d i) b < o_pl (d i) a := by omega
        show zI _ + zI 1 = _
        rw [zI_add]
        refine congrArg zI ?_
        unfold e_ms
        simp only [q_cn, e_pf, ht, h, h2, decide_true, decide_false, Bool.true_and, Bool.toNat_true, Bool.toNat_false]
        omega
    · refine nm_r (nI_1 i) (K _ ?_)
      unfold e_ms
      refine congrArg zI ?_
      simp only [q_cn, ht, Bool.false_and, Bool.toNat_false, Nat.add_zero]
theorem y_count {post : SY → Prop} {n : Nat} {d : Nat → Nat} {v : SY} (R : ry_S n d v) (H : ∀ v', ry_K n d v' → post v') : wpY_count post v := by
  obtain ⟨yn, yq, yo, yp, ym, yt, yl, yb, yw, yk, yh, yC, yN⟩ := v
  obtain ⟨rfl, hok, hb⟩ := R
  have hn := hok.1
  refine loop_0 (fun m k (s : Nat → Int32) => wY_count_2 post (nI n) yq m (nI k) yo yp s yt yl yb yw yk yh yC yN) (fun k s => ∀ j, j < k → s j = zI (e_m n d (j / 5) (j % 5))) 25 ym (fun j h => by omega) ?_ ?_
  · intro m ym' h
    refine br_t (Int32.le_refl _) (H _ ⟨rfl, hok, hb, fun a b ha hb' => ?_⟩)
    rw [h _ (by omega), show (5 * a + b) / 5 = a by omega, show (5 * a + b) % 5 = b by omega]
  · intro m k ym' hk h K
    refine br_f (nI_ge (b := 25) hk (by decide)) ⟨by decide, by decide, ?_⟩
    rw [o_rem (by omega), o_div (by omega)]
    refine y_mO (s := 511) hok hb (by decide) (by omega) (by omega) ⟨vp_in_nI hk (by decide), nm_r (e' := upd ym' k (zI (e_m n d (k / 5) (k % 5)))) (by rw [nI_clamp (by omega), e_ms_511 hn]) (nm_r (nI_1 k) (K _ fun j hj => ?_))⟩
    by_cases e : j = k
    · subst e; exact pk_us
    · exact (pk_un e).trans (h j (by omega))
theorem y_margin_t {post : Int32 → Prop} {n a b : Nat} {d : Nat → Nat} {v : SY} (R : ry_S n d v) (ha : a < 5) (hb : b < 5) (H : post (zI (e_m n d a b))) : wpY_margin post v (nI a) (nI b) := by
  obtain ⟨yn, yq, yo, yp, ym, yt, yl, yb, yw, yk, yh, yC, yN⟩ := v
  obtain ⟨rfl, hok, hB⟩ := R
  unfold wpY_margin
  refine y_in_T (n := 5) (by decide) (by decide) ha (br_f (by decide) (y_in_T (n := 5) (by decide) (by decide) hb (br_f (by decide) (y_mO (s := 511) hok hB (by decide) ha hb ?_))))
  rw [e_ms_511 hok.1]; exact H
theorem y_margin_f {post : Int32 → Prop} {v1 v2 : Int32} {v : SY} (h : ¬ ((∃ a, a < 5 ∧ v1 = nI a) ∧ (∃ b, b < 5 ∧ v2 = nI b))) (H : post 0) : wpY_margin post v v1 v2 := by
  obtain ⟨yn, yq, yo, yp, ym, yt, yl, yb, yw, yk, yh, yC, yN⟩ := v
  unfold wpY_margin
  by_cases h1 : ∃ a, a < 5 ∧ v1 = nI a
  · have h2 : ¬ ∃ b, b < 5 ∧ v2 = nI b := fun z => h ⟨h1, z⟩
    obtain ⟨a, ha, rfl⟩ := h1
    exact y_in_T (n := 5) (by decide) (by decide) ha (br_f (by decide) (y_in_F (n := 5) (by decide) (by decide) h2 (br_t rfl H)))
  · exact y_in_F (n := 5) (by decide) (by decide) h1 (br_t rfl H)
theorem y_bts {A B : Prop} {n a b : Nat} {d : Nat → Nat} (hn : n ≤ 9) (hm : ∀ a b, a < 5 → b < 5 → ym (5 * a + b) = zI (e_m n d a b)) (ha : a < 5) (hb : b < 5) (f : e_b n d a b = false → A) (g : e_b n d a b = true → B) : wpY_beats (fun r => (r = 0 → A) ∧ (¬ r = 0 → B)) (yn, yq, yo, yp, ym, yt, yl, yb, yw, yk, yh, yC, yN) (nI a) (nI b) := by
  have r := e_m_r hn d a b
  refine ⟨bi_in (m := 5) ha hb (by decide) (by decide), ?_⟩
  rw [bi_ic (by omega) (by omega), hm a b ha hb]
  exact zb_le (e_m n d a b) 0 (fun h => br_t rfl (f (by unfold e_b; rw [decide_eq_false_iff_not]; omega))) (fun h => br_f (by decide) (g (by unfold e_b; rw [decide_eq_true_eq]; omega))) (by omega) (by omega)
theorem y_bB {post : Int32 → Prop} {n a : Nat} {d : Nat → Nat} (hn : n ≤ 9) (hm : ∀ a b, a < 5 → b < 5 → ym (5 * a + b) = zI (e_m n d a b)) (ha : a < 5) (H : post (nI (q_mk (e_b n d a) 5))) : wpY_beatenBy post (yn, yq, yo, yp, ym, yt, yl, yb, yw, yk, yh, yC, yN) (nI a) := by
  refine loop_0 (fun m b (x : Int32) => wY_beatenBy_4 post (nI a) yn yq yo yp ym yt yl yb yw yk yh yC yN m x (nI b)) (fun b x => x = nI (q_mk (e_b n d a) b)) 5 0 rfl ?_ ?_
  · rintro m _ rfl
    exact br_t (Int32.le_refl _) H
  · rintro m b _ hb rfl K
    exact br_f (nI_ge (b := 5) hb (by decide)) (y_bts hn hm ha hb (fun h => nm_r (nI_1 b) (K _ (by rw [bi_skip _ h]))) (fun h => nm_r (bi_add _ (by omega) h) (nm_r (nI_1 b) (K _ rfl))))
end
end
section
def k_fi (d : Nat → Nat) (s c i : Nat) : Bool := decide (q_cn (fun b => s.testBit b && e_pf d b c i) 5 = 0)
def k_la (d : Nat → Nat) (s c i : Nat) : Bool := decide (q_cn (fun b => s.testBit b && e_pf d c b i) 5 = 0)
def k_p (n : Nat) (d : Nat → Nat) (s c : Nat) : Nat := q_sm (fun b => if s.testBit b then e_c n d c b else 0) 5
/-- firsts, minus lasts, points among the candidates of s -/
def k_v (n : Nat) (d : Nat → Nat) (r s c : Nat) : Int := if r = 0 then (q_cn (k_fi d s c) n : Int) else if r = 1 then - (q_cn (k_la d s c) n : Int) else (k_p n d s c : Int)
def k_w (n : Nat) (d : Nat → Nat) (c k : Nat) : Nat := q_cn (fun i => decide (o_pl (d i) c < k)) n
def k_hf (n : Nat) (d : Nat → Nat) (k : Nat) : Prop := ∃ c, c < 5 ∧ n < 2 * k_w n d c k
def k_dp (n : Nat) (d : Nat → Nat) (k : Nat) : Prop := 1 ≤ k ∧ k ≤ 5 ∧ (k < 5 → k_hf n d k) ∧ ∀ j, 1 ≤ j → j < k → ¬ k_hf n d j
theorem k_dp_u {n : Nat} {d : Nat → Nat} {k k' : Nat} (h : k_dp n d k) (h' : k_dp n d k') : k = k' := by
  obtain ⟨h1, h2, h3, h4⟩ := h
  obtain ⟨g1, g2, g3, g4⟩ := h'
  rcases Nat.lt_trichotomy k k' with h | h | h
  · exact absurd (h3 (by omega)) (g4 k h1 h)
  · exact h
  · exact absurd (g3 (by omega)) (h4 k' g1 h)
def k_cop (n : Nat) (d : Nat → Nat) (c : Nat) : Nat → Nat
  | 0 => 0
  | b + 1 => k_cop n d c b + (if b = c then 0 else if 0 < e_m n d c b then 2 else if e_m n d c b = 0 then 1 else 0)
def k_min (n : Nat) (d : Nat → Nat) (c : Nat) : Nat → Int
  | 0 => 100
  | b + 1 => if b ≠ c ∧ e_m n d c b < k_min n d c b then e_m n d c b else k_min n d c b
/-- what a score is -/
def k_s (n : Nat) (d : Nat → Nat) (r c : Nat) (z : Int) : Prop :=
  if r ≤ 2 then z = k_v n d r 31 c else if r = 3 then z = (k_cop n d c 5 : Int) else if r = 4 then z = k_min n d c 5 else ∃ k, k_dp n d k ∧ z = (k_w n d c k : Int)
theorem k_p_le {n : Nat} {d : Nat → Nat} {s c : Nat} (hn : n ≤ 9) : ∀ m, q_sm (fun b => if s.testBit b then e_c n d c b else 0) m ≤ 9 * m := by
  intro m
  induction m with
  | zero => exact Nat.le_refl 0
  | succ m ih =>
    simp only [q_sm]
    have h := e_c_le n d c m
    split <;> omega
theorem k_cop_le {n : Nat} {d : Nat → Nat} {c : Nat} : ∀ m, k_cop n d c m ≤ 2 * m := by
  intro m
  induction m with
  | zero => exact Nat.le_refl 0
  | succ m ih =>
    simp only [k_cop]
    split
    · omega
    · split
      · omega
      · split <;> omega
theorem k_min_r {n : Nat} {d : Nat → Nat} {c : Nat} (hn : n ≤ 9) : ∀ m, -9 ≤ k_min n d c m ∧ k_min n d c m ≤ 100 := by
  intro m
  induction m with
  | zero => exact (by decide : (-9 : Int) ≤ 100 ∧ (100 : Int) ≤ 100)
  | succ m ih =>
    simp only [k_min]
    have h := e_m_r hn d c m
    split <;> omega
theorem k_v_r {n : Nat} {d : Nat → Nat} {r s c : Nat} (hn : n ≤ 9) : -45 ≤ k_v n d r s c ∧ k_v n d r s c ≤ 45 := by
  have h1 := q_cn_le (k_fi d s c) n
  have h2 := q_cn_le (k_la d s c) n
  have h3 : k_p n d s c ≤ 45 := k_p_le hn 5
  unfold k_v
  split
  · omega
  · split <;> omega
theorem k_s_r {n : Nat} {d : Nat → Nat} {r c : Nat} {z : Int} (hn : n ≤ 9) (h : k_s n d r c z) : -100 ≤ z ∧ z ≤ 100 := by
  unfold k_s at h
  split at h
  · have := k_v_r (d := d) (r := r) (s := 31) (c := c) hn; omega
  · split at h
    · have := k_cop_le (n := n) (d := d) (c := c) 5; omega
    · split at h
      · have := k_min_r (d := d) (c := c) hn 5; omega
      · obtain ⟨k, _, rfl⟩ := h
        have : k_w n d c k ≤ n := q_cn_le _ _
        omega
theorem k_s_u {n : Nat} {d : Nat → Nat} {r c : Nat} {z z' : Int} (h : k_s n d r c z) (h' : k_s n d r c z') : z = z' := by
  unfold k_s at h h'
  split at h
  · rw [if_pos ‹_›] at h'; rw [h, h']
  · rw [if_neg ‹_›] at h'
    split at h
    · rw [if_pos ‹_›] at h'; rw [h, h']
    · rw [if_neg ‹_›] at h'
      split at h
      · rw [if_pos ‹_›] at h'; rw [h, h']
      · rw [if_neg ‹_›] at h'
        obtain ⟨k, hk, rfl⟩ := h
        obtain ⟨k', hk', rfl⟩ := h'
        rw [k_dp_u hk hk']
/-- the best so far: the set and the score -/
def k_gr (f : Nat → Int) : Nat → Nat × Int
  | 0 => (0, -1000)
  | c + 1 => if (k_gr f c).2 < f c then (2 ^ c, f c) else if f c = (k_gr f c).2 then ((k_gr f c).1 ||| 2 ^ c, (k_gr f c).2) else k_gr f c
theorem k_gr_r {f : Nat → Int} (hf : ∀ c, c < 5 → -100 ≤ f c ∧ f c ≤ 100) : ∀ c, c ≤ 5 → -1000 ≤ (k_gr f c).2 ∧ (k_gr f c).2 ≤ 100 := by
  intro c
  induction c with
  | zero => intro _; exact (by decide : (-1000 : Int) ≤ -1000 ∧ (-1000 : Int) ≤ 100)
  | succ c ih =>
    intro hc
    have h1 := hf c (by omega)
    have h2 := ih (by omega)
    simp only [k_gr]
    split
    · dsimp only; omega
    · split
      · dsimp only; omega
      · exact h2
theorem k_gr_congr {f g : Nat → Int} {m : Nat} (h : ∀ c, c < m → f c = g c) : k_gr f m = k_gr g m := by
  induction m with
  | zero => rfl
  | succ m ih => simp only [k_gr]; rw [ih (fun c hc => h c (by omega)), h m (by omega)]
theorem q_cn_zero {p : Nat → Bool} {n : Nat} : q_cn p n = 0 ↔ ∀ i, i < n → p i = false := by
  induction n with
  | zero => exact ⟨fun _ i hi => by omega, fun _ => rfl⟩
  | succ n ih =>
    simp only [q_cn]
    constructor
    · intro h i hi
      by_cases e : i = n
      · subst e; cases hp : p i
        · rfl
        · rw [hp] at h; simp at h
      · exact ih.mp (by omega) i (by omega)
    · intro h
      rw [h n (by omega), ih.mpr (fun i hi => h i (by omega))]; rfl
theorem q_sm_cn (t p : Nat → Bool) (f : Nat → Nat) (m : Nat) : q_sm (fun b => if t b then f b + (p b).toNat else 0) m = q_sm (fun b => if t b then f b else 0) m + q_cn (fun b => t b && p b) m := by
  induction m with
  | zero => rfl
  | succ m ih =>
    simp only [q_sm, q_cn]
    rw [ih]
    cases t m
    · simp
    · simp only [if_true, Bool.true_and]; omega
theorem k_p_s (n : Nat) (d : Nat → Nat) (s c : Nat) : k_p (n + 1) d s c = k_p n d s c + q_cn (fun b => s.testBit b && e_pf d c b n) 5 := by
  unfold k_p
  rw [← q_sm_cn]
  rfl
theorem q_31 {b : Nat} (hb : b < 5) : (31 : Nat).testBit b = true := by
  rw [show (31 : Nat) = 2 ^ 5 - 1 from rfl, Nat.testBit_two_pow_sub_one]; simp [hb]
theorem k_fi_iff {d : Nat → Nat} {s c i : Nat} : k_fi d s c i = true ↔ ∀ b, b < 5 → s.testBit b = true → o_pl (d i) c ≤ o_pl (d i) b := by
  unfold k_fi
  rw [decide_eq_true_eq, q_cn_zero]
  constructor
  · intro h b hb hs
    have := h b hb
    rw [hs, Bool.true_and, e_pf, decide_eq_false_iff_not] at this
    omega
  · intro h b hb
    cases hs : s.testBit b
    · rfl
    · rw [Bool.true_and, e_pf, decide_eq_false_iff_not]
      have := h b hb hs
      omega
theorem k_la_iff {d : Nat → Nat} {s c i : Nat} : k_la d s c i = true ↔ ∀ b, b < 5 → s.testBit b = true → o_pl (d i) b ≤ o_pl (d i) c := by
  unfold k_la
  rw [decide_eq_true_eq, q_cn_zero]
  constructor
  · intro h b hb hs
    have := h b hb
    rw [hs, Bool.true_and, e_pf, decide_eq_false_iff_not] at this
    omega
  · intro h b hb
    cases hs : s.testBit b
    · rfl
    · rw [Bool.true_and, e_pf, decide_eq_false_iff_not]
      have := h b hb hs
      omega
theorem q_beq {a b : Bool} (h : a = true ↔ b = true) : a = b := by
  cases a <;> cases b <;> simp_all
theorem k_fi_0 {d : Nat → Nat} {c i : Nat} (ho : o_ok (d i) = true) (hc : c < 5) : decide (o_rk (d i) 0 = c) = k_fi d 31 c i := by
  refine q_beq ?_
  rw [decide_eq_true_eq, k_fi_iff]
  constructor
  · rintro rfl b hb _
    rw [(o_fact ho (by decide)).2]; exact Nat.zero_le _
  · intro h
    have h2 := h (o_rk (d i) 0) (o_rk_lt _ _) (q_31 (o_rk_lt _ _))
    rw [(o_fact ho (by decide)).2] at h2
    have h3 := (o_fact ho hc).1
    rwa [show o_pl (d i) c = 0 by omega] at h3
theorem k_la_4 {d : Nat → Nat} {c i : Nat} (ho : o_ok (d i) = true) (hc : c < 5) : decide (o_rk (d i) 4 = c) = k_la d 31 c i := by
  refine q_beq ?_
  rw [decide_eq_true_eq, k_la_iff]
  constructor
  · rintro rfl b hb _
    have := o_pl_lt (d i) b
    rw [(o_fact ho (by decide)).2]; omega
  · intro h
    have h2 := h (o_rk (d i) 4) (o_rk_lt _ _) (q_31 (o_rk_lt _ _))
    rw [(o_fact ho (by decide)).2] at h2
    have h3 := (o_fact ho hc).1
    have := o_pl_lt (d i) c
    rwa [show o_pl (d i) c = 4 by omega] at h3
end
section
section
variable {xc xk xq : Int32} {xo xr xp xm xb xs xl xt xe xA xB xf xg xL xO xC xN : Nat → Int32}
theorem x_pts {post : Int32 → Prop} {n a s : Nat} {d : Nat → Nat} (hn : n ≤ 9) (hp : ∀ a b, a < 5 → b < 5 → xp (5 * a + b) = nI (e_M n d a b)) (ha : a < 5) (hs : s < 32) (H : post (nI (k_p n d s a))) : wpX_pointsOf post (xc, xk, xq, xo, xr, xp, xm, xb, xs, xl, xt, xe, xA, xB, xf, xg, xL, xO, xC, xN) (nI a) (nI s) := by
  refine loop_0 (fun m b (x : Int32) => wX_pointsOf_5 post (nI a) (nI s) xc xk xq xo xr xp xm xb xs xl xt xe xA xB xf xg xL xO xC xN m x (nI b)) (fun b x => x = nI (q_sm (fun b => if s.testBit b then e_c n d a b else 0) b)) 5 0 rfl ?_ ?_
  · rintro m _ rfl
    exact br_t (Int32.le_refl _) H
  · rintro m b _ hb rfl K
    have ep : xp ((5 : Int32) * nI a + nI b).toNatClampNeg = nI (e_M n d a b) := by rw [bi_ic (by omega) (by omega), hp a b ha hb]
    refine br_f (nI_ge (b := 5) hb (by decide)) (x_isIn (by omega) (by omega) (fun h => nm_r (nI_1 b) (K _ ?_)) (fun h => ⟨bi_in (m := 5) ha hb (by decide) (by decide), ?_⟩))
    · simp only [q_sm, h]; simp
    · rw [ep]
      refine x_ones (e_M_lt hn d a b) (nm_r (e' := nI (q_sm (fun b => if s.testBit b then e_c n d a b else 0) (b + 1))) ?_ (nm_r (nI_1 b) (K _ rfl)))
      rw [e_M_pc hn, nI_add]
      simp only [q_sm, h, if_true]
theorem x_cop {post : Int32 → Prop} {n a : Nat} {d : Nat → Nat} (hn : n ≤ 9) (hm : ∀ a b, a < 5 → b < 5 → xm (5 * a + b) = zI (e_m n d a b)) (ha : a < 5) (H : post (nI (k_cop n d a 5))) : wpX_copeland post (xc, xk, xq, xo, xr, xp, xm, xb, xs, xl, xt, xe, xA, xB, xf, xg, xL, xO, xC, xN) (nI a) := by
  refine loop_0 (fun m b (x : Int32) => wX_copeland_4 post (nI a) xc xk xq xo xr xp xm xb xs xl xt xe xA xB xf xg xL xO xC xN m x (nI b)) (fun b x => x = nI (k_cop n d a b)) 5 0 rfl ?_ ?_
  · rintro m _ rfl
    exact br_t (Int32.le_refl _) H
  · rintro m b _ hb rfl K
    have r := e_m_r hn d a b
    have em : xm ((5 : Int32) * nI a + nI b).toNatClampNeg = zI (e_m n d a b) := by rw [bi_ic (by omega) (by omega), hm a b ha hb]
    refine br_f (nI_ge (b := 5) hb (by decide)) (pk_eq b a (fun e => nm_r (nI_1 b) (K _ ?_)) (fun e => ⟨bi_in (m := 5) ha hb (by decide) (by decide), nm_r em ?_⟩))
    · simp only [k_cop, e]; simp
    · refine zb_le (e_m n d a b) 0 (fun h => zb_eq (e_m n d a b) 0 (fun h0 => nm_r (nI_1 _) (nm_r (nI_1 b) (K _ ?_))) (fun h0 => nm_r (Int32.add_zero _) (nm_r (nI_1 b) (K _ ?_))) (by omega) (by omega)) (fun h => nm_r (nI_add _ 2) (nm_r (nI_1 b) (K _ ?_))) (by omega) (by omega)
      · simp only [k_cop]; rw [if_neg e, if_neg (by omega), if_pos h0]
      · simp only [k_cop]; rw [if_neg e, if_neg (by omega), if_neg h0]; rfl
      · simp only [k_cop]; rw [if_neg e, if_pos (by omega)]
theorem x_smin {post : Int32 → Prop} {n a : Nat} {d : Nat → Nat} (hn : n ≤ 9) (hm : ∀ a b, a < 5 → b < 5 → xm (5 * a + b) = zI (e_m n d a b)) (ha : a < 5) (H : post (zI (k_min n d a 5))) : wpX_smallestMargin post (xc, xk, xq, xo, xr, xp, xm, xb, xs, xl, xt, xe, xA, xB, xf, xg, xL, xO, xC, xN) (nI a) := by
  refine loop_0 (fun m b (x : Int32) => wX_smallestMargin_5 post (nI a) xc xk xq xo xr xp xm xb xs xl xt xe xA xB xf xg xL xO xC xN m x (nI b)) (fun b x => x = zI (k_min n d a b)) 5 100 rfl ?_ ?_
  · rintro m _ rfl
    exact br_t (Int32.le_refl _) H
  · rintro m b _ hb rfl K
    have r := e_m_r hn d a b
    have r2 := k_min_r (d := d) (c := a) hn b
    have em : xm ((5 : Int32) * nI a + nI b).toNatClampNeg = zI (e_m n d a b) := by rw [bi_ic (by omega) (by omega), hm a b ha hb]
    refine br_f (nI_ge (b := 5) hb (by decide)) (pk_eq b a (fun e => nm_r (nI_1 b) (K _ ?_)) (fun e => ⟨bi_in (m := 5) ha hb (by decide) (by decide), ?_⟩))
    · simp only [k_min, e]; simp
    · rw [em]
      refine zb_le (k_min n d a b) (e_m n d a b) (fun h => nm_r (nI_1 b) (K _ ?_)) (fun h => ⟨bi_in (m := 5) ha hb (by decide) (by decide), nm_r rfl (nm_r (nI_1 b) (K _ ?_))⟩) (by omega) (by omega)
      · simp only [k_min]; rw [if_neg (by omega)]
      · simp only [k_min]; rw [if_pos ⟨e, h⟩]
theorem x_cAF_32 {post : SX → Prop} {J : Int32 → (Nat → Int32) → (Nat → Int32) → (Nat → Int32) → (Nat → Int32) → (Nat → Int32) → (Nat → Int32) → (Nat → Int32) → (Nat → Int32) → (Nat → Int32) → (Nat → Int32) → (Nat → Int32) → (Nat → Int32) → (Nat → Int32) → (Nat → Int32) → (Nat → Int32) → (Nat → Int32) → (Nat → Int32) → Prop} {i k : Nat} {d : Nat → Nat} (hi : i < 9) (hk : k ≤ 5) (ho : o_ok (d i) = true) (hr : ∀ k, k < 5 → xr (5 * i + k) = nI (o_rk (d i) k)) (hs : ∀ c, c < 5 → xs c = nI (k_w i d c k))
    (H : ∀ xs', (∀ c, c < 5 → xs' c = nI (k_w (i + 1) d c k)) → J (nI (i + 1)) xo xr xp xm xb xs' xl xt xe xA xB xf xg xL xO xC xN) : ∃ m, wX_countAmongFirst_32 post J (nI k) (nI i) xc xk xq m 0 xo xr xp xm xb xs xl xt xe xA xB xf xg xL xO xC xN := by
  refine loop_0 (fun m l (s : Nat → Int32) => wX_countAmongFirst_32 post J (nI k) (nI i) xc xk xq m (nI l) xo xr xp xm xb s xl xt xe xA xB xf xg xL xO xC xN) (fun l s => ∀ c, c < 5 → s c = nI (k_w i d c k + (decide (o_pl (d i) c < l)).toNat)) k xs (fun c hc => by rw [hs c hc]; simp) ?_ ?_
  · intro m s h
    exact br_t (Int32.le_refl _) (nm_r (nI_1 i) (H s fun c hc => h c hc))
  · intro m l s hl h K
    have hA := o_rk_lt (d i) l
    have fl := (o_fact ho (show l < 5 by omega)).2
    have el : xr ((5 : Int32) * nI i + nI l).toNatClampNeg = nI (o_rk (d i) l) := by rw [bi_ic (by omega) (by omega), hr l (by omega)]
    refine br_f (nI_ge hl (by omega)) ⟨bi_in (m := 9) hi (by omega) (by decide) (by decide), ?_⟩
    rw [el, nI_clamp (by omega), h _ hA]
    refine ⟨vp_in_nI hA (by decide), vp_in_nI hA (by decide), nm_r rfl (nm_r (nI_1 l) (K _ fun c hc => ?_))⟩
    by_cases e : c = o_rk (d i) l
    · subst e
      rw [pk_us, fl, nI_1]
      simp
    · rw [pk_un e, h c hc]
      have g : o_pl (d i) c ≠ l := fun z => e (by rw [← z, (o_fact ho hc).1])
      have e2 : decide (o_pl (d i) c < l) = decide (o_pl (d i) c < l + 1) := by rw [decide_eq_decide]; omega
      rw [e2]
theorem x_cAF {post : SX → Prop} {n k : Nat} {d : Nat → Nat} (hok : e_ok n d) (hb : e_bal n d xo xr) (hk : k ≤ 5) (H : ∀ xs', (∀ c, c < 5 → xs' c = nI (k_w n d c k)) → post (nI n, xk, xq, xo, xr, xp, xm, xb, xs', xl, xt, xe, xA, xB, xf, xg, xL, xO, xC, xN)) : wpX_countAmongFirst post (nI n, xk, xq, xo, xr, xp, xm, xb, xs, xl, xt, xe, xA, xB, xf, xg, xL, xO, xC, xN) (nI k) := by
  have hn := hok.1
  refine loop_0 (fun m c (s : Nat → Int32) => wX_countAmongFirst_2 post (nI k) (nI n) xk xq m (nI c) xo xr xp xm xb s xl xt xe xA xB xf xg xL xO xC xN) (fun c s => ∀ j, j < c → s j = nI 0) 5 xs (fun j h => by omega) ?_ ?_
  · intro m s h
    refine br_t (Int32.le_refl _) ?_
    refine loop_0 (fun m i (s : Nat → Int32) => wX_countAmongFirst_22 post (nI k) (nI n) xk xq m (nI i) xo xr xp xm xb s xl xt xe xA xB xf xg xL xO xC xN) (fun i s => ∀ c, c < 5 → s c = nI (k_w i d c k)) n s h ?_ ?_
    · intro m s h
      exact br_t (Int32.le_refl _) (H s h)
    · intro m i s hi h K
      exact br_f (nI_ge hi (by omega)) (x_cAF_32 (by omega) hk (hok.2 i hi) (hb i hi).2 h fun s' h' => K s' h')
  · intro m c s hc h K
    refine br_f (nI_ge (b := 5) hc (by decide)) ⟨vp_in_nI hc (by decide), nm_r (e' := upd s c (nI 0)) (by rw [nI_clamp (by omega)]; rfl) (nm_r (nI_1 c) (K _ fun j hj => ?_))⟩
    by_cases e : j = c
    · subst e; exact pk_us
    · exact (pk_un e).trans (h j (by omega))
theorem x_hH {A B : Prop} {n k : Nat} {d : Nat → Nat} (hn : n ≤ 9) (hs : ∀ c, c < 5 → xs c = nI (k_w n d c k)) (f : ¬ k_hf n d k → A) (g : k_hf n d k → B) : wpX_hasHalf (fun r => (r = 0 → A) ∧ (¬ r = 0 → B)) (nI n, xk, xq, xo, xr, xp, xm, xb, xs, xl, xt, xe, xA, xB, xf, xg, xL, xO, xC, xN) := by
  refine loop_0 (fun m c (_ : Unit) => wX_hasHalf_2 (fun r => (r = 0 → A) ∧ (¬ r = 0 → B)) (nI n) xk xq xo xr xp xm xb xs xl xt xe xA xB xf xg xL xO xC xN m (nI c)) (fun c _ => ∀ j, j < c → ¬ n < 2 * k_w n d j k) 5 () (fun j h => by omega) ?_ ?_
  · rintro m _ h
    exact br_t (Int32.le_refl _) (br_t rfl (f (fun ⟨c, hc, z⟩ => h c hc z)))
  · rintro m c _ hc h K
    have l : k_w n d c k ≤ n := q_cn_le _ _
    refine br_f (nI_ge (b := 5) hc (by decide)) ⟨vp_in_nI hc (by decide), ?_⟩
    rw [nI_clamp (by omega), hs c hc, show (2 : Int32) = nI 2 from rfl, pk_mul]
    refine pk_le (2 * k_w n d c k) n (fun h2 => nm_r (nI_1 c) (K () fun j hj => ?_)) (fun h2 => br_f (by decide) (g ⟨c, hc, h2⟩))
    by_cases e : j = c
    · subst e; omega
    · exact h j (by omega)
theorem x_fS_31 {post : SX → Prop} {n : Nat} {d : Nat → Nat} (hok : e_ok n d) (hb : e_bal n d xo xr) (hs : ∀ c, c < 5 → xs c = nI 0) (H : ∀ xs', (∀ c, c < 5 → xs' c = nI (q_cn (fun i => decide (o_rk (d i) 0 = c)) n)) → post (nI n, xk, xq, xo, xr, xp, xm, xb, xs', xl, xt, xe, xA, xB, xf, xg, xL, xO, xC, xN)) : ∃ m, wX_findScores_31 post 0 (nI n) xk xq m 0 xo xr xp xm xb xs xl xt xe xA xB xf xg xL xO xC xN := by
  have hn := hok.1
  refine loop_0 (fun m i (s : Nat → Int32) => wX_findScores_31 post 0 (nI n) xk xq m (nI i) xo xr xp xm xb s xl xt xe xA xB xf xg xL xO xC xN) (fun i s => ∀ c, c < 5 → s c = nI (q_cn (fun i => decide (o_rk (d i) 0 = c)) i)) n xs hs ?_ ?_
  · intro m s h
    exact br_t (Int32.le_refl _) (H s h)
  · intro m i s hi h K
    have hA := o_rk_lt (d i) 0
    have el : xr ((5 : Int32) * nI i + 0).toNatClampNeg = nI (o_rk (d i) 0) := by
      have := bi_ic (a := i) (b := 0) (by omega) (by omega)
      rw [nI_0] at this
      rw [this, (hb i hi).2 0 (by decide)]
    refine br_f (nI_ge hi (by omega)) (br_t rfl ⟨bi_in (b := 0) (m := 9) (by omega) (by decide) (by decide) (by decide), ?_⟩)
    rw [el, nI_clamp (by omega), h _ hA]
    refine ⟨vp_in_nI hA (by decide), br_t rfl ⟨vp_in_nI hA (by decide), nm_r rfl (nm_r (nI_1 i) (K _ fun c hc => ?_))⟩⟩
    by_cases e : c = o_rk (d i) 0
    · subst e
      rw [pk_us, nI_1]
      simp [q_cn]
    · rw [pk_un e, h c hc]
      have e2 : o_rk (d i) 0 ≠ c := fun z => e z.symm
      simp [q_cn, e2]
theorem x_fS_31b {post : SX → Prop} {n : Nat} {d : Nat → Nat} (hok : e_ok n d) (hb : e_bal n d xo xr) (hs : ∀ c, c < 5 → xs c = nI 0) (H : ∀ xs', (∀ c, c < 5 → xs' c = zI (-(q_cn (fun i => decide (o_rk (d i) 4 = c)) n : Int))) → post (nI n, xk, xq, xo, xr, xp, xm, xb, xs', xl, xt, xe, xA, xB, xf, xg, xL, xO, xC, xN)) : ∃ m, wX_findScores_31 post 1 (nI n) xk xq m 0 xo xr xp xm xb xs xl xt xe xA xB xf xg xL xO xC xN := by
  have hn := hok.1
  refine loop_0 (fun m i (s : Nat → Int32) => wX_findScores_31 post 1 (nI n) xk xq m (nI i) xo xr xp xm xb s xl xt xe xA xB xf xg xL xO xC xN) (fun i s => ∀ c, c < 5 → s c = zI (-(q_cn (fun i => decide (o_rk (d i) 4 = c)) i : Int))) n xs hs ?_ ?_
  · intro m s h
    exact br_t (Int32.le_refl _) (H s h)
  · intro m i s hi h K
    have hA := o_rk_lt (d i) 4
    have el : xr ((5 : Int32) * nI i + 4).toNatClampNeg = nI (o_rk (d i) 4) := by
      have := bi_ic (a := i) (b := 4) (by omega) (by omega)
      rw [show nI 4 = 4 from rfl] at this
      rw [this, (hb i hi).2 4 (by decide)]
    refine br_f (nI_ge hi (by omega)) (br_f (by decide) ⟨bi_in (b := 4) (m := 9) (by omega) (by decide) (by decide) (by decide), ?_⟩)
    rw [el, nI_clamp (by omega), h _ hA]
    refine ⟨vp_in_nI hA (by decide), br_f (by decide) ⟨vp_in_nI hA (by decide), nm_r rfl (nm_r (nI_1 i) (K _ fun c hc => ?_))⟩⟩
    by_cases e : c = o_rk (d i) 4
    · subst e
      rw [pk_us]
      show zI _ + zI (-1) = _
      rw [zI_add]
      refine congrArg zI ?_
      simp only [q_cn, decide_true, Bool.toNat_true]; omega
    · rw [pk_un e, h c hc]
      have e2 : o_rk (d i) 4 ≠ c := fun z => e z.symm
      simp [q_cn, e2]
theorem x_fS_95 {post : SX → Prop} {n : Nat} {d : Nat → Nat} (hok : e_ok n d) (hb : e_bal n d xo xr) (hs : ∀ c, c < 5 → xs c = nI (k_w n d c 1)) (H : ∀ xs' k, k_dp n d k → (∀ c, c < 5 → xs' c = nI (k_w n d c k)) → post (nI n, xk, xq, xo, xr, xp, xm, xb, xs', xl, xt, xe, xA, xB, xf, xg, xL, xO, xC, xN)) : ∃ m, wX_findScores_95 post m 1 (nI n) xk xq xo xr xp xm xb xs xl xt xe xA xB xf xg xL xO xC xN := by
  have hn := hok.1
  refine pk_loop (fun m k (s : Nat → Int32) => wX_findScores_95 post m (nI k) (nI n) xk xq xo xr xp xm xb s xl xt xe xA xB xf xg xL xO xC xN) (fun k s => 1 ≤ k ∧ (∀ j, 1 ≤ j → j < k → ¬ k_hf n d j) ∧ ∀ c, c < 5 → s c = nI (k_w n d c k)) 5 1 xs (by decide) ⟨Nat.le_refl 1, fun j h1 h2 => by omega, hs⟩ ?_ ?_
  · rintro m s ⟨_, h1, h2⟩
    exact br_t (Int32.le_refl _) (H s 5 ⟨by decide, by decide, fun z => by omega, h1⟩ h2)
  · rintro m k s hk ⟨hk1, h1, h2⟩ K
    refine br_f (nI_ge (b := 5) hk (by decide)) (x_hH hn h2 (fun h => nm_r (nI_1 k) (x_cAF hok hb (by omega) fun s' h' => K s' ⟨by omega, fun j hj1 hj2 => ?_, h'⟩)) (fun h => H s k ⟨hk1, by omega, fun _ => h, h1⟩ h2))
    by_cases e : j = k
    · subst e; exact h
    · exact h1 j hj1 (by omega)
theorem x_fS {post : SX → Prop} {n r : Nat} {d : Nat → Nat} (hr : r ≤ 5) (hok : e_ok n d) (hb : e_bal n d xo xr) (hc : e_cnt n d xp xm xb) (H : ∀ xs' : Nat → Int32, (∀ c, c < 5 → ∃ z, k_s n d r c z ∧ xs' c = zI z) → post (nI n, xk, xq, xo, xr, xp, xm, xb, xs', xl, xt, xe, xA, xB, xf, xg, xL, xO, xC, xN)) : wpX_findScores post (nI n, xk, xq, xo, xr, xp, xm, xb, xs, xl, xt, xe, xA, xB, xf, xg, xL, xO, xC, xN) (nI r) := by
  have hn := hok.1
  obtain ⟨hp, hm, _⟩ := hc
  refine loop_0 (fun m c (s : Nat → Int32) => wX_findScores_2 post (nI r) (nI n) xk xq m (nI c) xo xr xp xm xb s xl xt xe xA xB xf xg xL xO xC xN) (fun c s => ∀ j, j < c → s j = nI 0) 5 xs (fun j h => by omega) ?_ ?_
  · intro m s h
    refine br_t (Int32.le_refl _) ?_
    rcases (by omega : r = 0 ∨ r = 1 ∨ r = 5 ∨ (r = 2 ∨ r = 3 ∨ r = 4)) with rfl | rfl | rfl | hr
    · refine br_t rfl (x_fS_31 hok hb h fun s' h' => H s' fun c hc => ⟨_, rfl, ?_⟩)
      rw [h' c hc, ← zI_nat]
      refine congrArg zI ?_
      show (_ : Int) = ((q_cn (k_fi d 31 c) n : Nat) : Int)
      rw [q_cn_congr fun i hi => k_fi_0 (hok.2 i hi) hc]
    · refine br_f (by decide) (br_t rfl (x_fS_31b hok hb h fun s' h' => H s' fun c hc => ⟨_, rfl, ?_⟩))
      rw [h' c hc]
      refine congrArg zI ?_
      show (_ : Int) = -((q_cn (k_la d 31 c) n : Nat) : Int)
      rw [q_cn_congr fun i hi => k_la_4 (hok.2 i hi) hc]
    · exact br_f (by decide) (br_f (by decide) (br_t rfl (x_cAF (k := 1) hok hb (by decide) fun s' h' => x_fS_95 hok hb h' fun s'' k hk h'' => H s'' fun c hc => ⟨_, ⟨k, hk, rfl⟩, by rw [h'' c hc, zI_nat]⟩)))
    · refine br_f (fun z => by have := (nI_eq (b := 0) (by omega) (by decide)).mp z; omega) (br_f (fun z => by have := (nI_eq (b := 1) (by omega) (by decide)).mp z; omega) (br_f (fun z => by have := (nI_eq (b := 5) (by omega) (by decide)).mp z; omega) ?_))
      refine loop_0 (fun m c (s : Nat → Int32) => wX_findScores_123 post (nI r) (nI n) xk xq m (nI c) xo xr xp xm xb s xl xt xe xA xB xf xg xL xO xC xN) (fun c s => ∀ j, j < c → ∃ z, k_s n d r j z ∧ s j = zI z) 5 s (fun j h => by omega) ?_ ?_
      · intro m s h
        exact br_t (Int32.le_refl _) (H s h)
      · intro m c s hc h K
        have g : ∀ z, k_s n d r c z → ∀ j, j < c + 1 → ∃ z', k_s n d r j z' ∧ upd s c (zI z) j = zI z' := by
          intro z hz j hj
          by_cases e : j = c
          · subst e; exact ⟨z, hz, pk_us⟩
          · rw [pk_un e]; exact h j (by omega)
        refine br_f (nI_ge (b := 5) hc (by decide)) ?_
        rcases hr with rfl | rfl | rfl
        · refine br_t rfl (x_pts (s := 31) hn hp hc (by decide) ⟨vp_in_nI hc (by decide), nm_r (e' := upd s c (zI (k_p n d 31 c : Int))) (by rw [nI_clamp (by omega), zI_nat]) (nm_r (nI_1 c) (K _ (g _ rfl)))⟩)
        · refine br_f (by decide) (br_t rfl (x_cop hn hm hc ⟨vp_in_nI hc (by decide), nm_r (e' := upd s c (zI (k_cop n d c 5 : Int))) (by rw [nI_clamp (by omega), zI_nat]) (nm_r (nI_1 c) (K _ (g _ rfl)))⟩))
        · refine br_f (by decide) (br_f (by decide) (x_smin hn hm hc ⟨vp_in_nI hc (by decide), nm_r (e' := upd s c (zI (k_min n d c 5))) (by rw [nI_clamp (by omega)]) (nm_r (nI_1 c) (K _ (g _ rfl)))⟩))
  · intro m c s hc h K
    refine br_f (nI_ge (b := 5) hc (by decide)) ⟨vp_in_nI hc (by decide), nm_r (e' := upd s c (nI 0)) (by rw [nI_clamp (by omega)]; rfl) (nm_r (nI_1 c) (K _ fun j hj => ?_))⟩
    by_cases e : j = c
    · subst e; exact pk_us
    · exact (pk_un e).trans (h j (by omega))
theorem x_gS_14 {post : Int32 → SX → Prop} {f : Nat → Int} (hf : ∀ c, c < 5 → (-100 ≤ f c ∧ f c ≤ 100) ∧ xs c = zI (f c)) (H : post (nI (k_gr f 5).1) (xc, xk, xq, xo, xr, xp, xm, xb, xs, xl, xt, xe, xA, xB, xf, xg, xL, xO, xC, xN)) : ∃ m, wX_greatestScores_14 post xc xk xq xo xr xp xm xb xs xl xt xe xA xB xf xg xL xO xC xN m 0 (-1000) 0 := by
  have hr := k_gr_r fun c hc => (hf c hc).1
  refine loop_0 (fun m c (s : Int32 × Int32) => wX_greatestScores_14 post xc xk xq xo xr xp xm xb xs xl xt xe xA xB xf xg xL xO xC xN m s.1 s.2 (nI c)) (fun c s => s = (nI (k_gr f c).1, zI (k_gr f c).2)) 5 (0, -1000) rfl ?_ ?_
  · rintro m _ rfl
    exact br_t (Int32.le_refl _) H
  · rintro m c _ hc rfl K
    have h1 := hr c (by omega)
    have h2 := (hf c hc).1
    have e : xs (nI c).toNatClampNeg = zI (f c) := by rw [nI_clamp (by omega), (hf c hc).2]
    refine br_f (nI_ge (b := 5) hc (by decide)) ⟨vp_in_nI hc (by decide), ?_⟩
    dsimp only at K ⊢
    unfold wX_greatestScores_33
    rw [e]
    refine zb_le (f c) (k_gr f c).2 (fun h => ⟨vp_in_nI hc (by decide), zb_lt (f c) (k_gr f c).2 (fun h3 => nm_r (nI_1 c) (K (_, _) ?_)) (fun h3 => ⟨vp_in_nI hc (by decide), nm_r rfl (nm_r rfl (nm_r (nI_1 c) (K (_, _) ?_)))⟩) (by omega) (by omega)⟩) (fun h => ⟨vp_in_nI hc (by decide), zb_lt (f c) (k_gr f c).2 (fun h3 => absurd h3 (by omega)) (fun h3 => ⟨vp_in_nI hc (by decide), nm_r rfl (nm_r rfl (nm_r (nI_1 c) (K (_, _) ?_)))⟩) (by omega) (by omega)⟩) (by omega) (by omega)
    · simp only [k_gr]; rw [if_neg (by omega), if_neg (by omega)]; rfl
    · simp only [k_gr]; rw [if_neg (by omega), if_pos (by omega), bi_shl (by omega), bi_or, show f c = (k_gr f c).2 by omega]; rfl
    · simp only [k_gr]; rw [if_pos h, bi_shl (by omega)]
      exact congrArg (fun t => (t, zI (f c))) (Int32.zero_or)
end
end
section
theorem k_fi_cn {d : Nat → Nat} {s c i : Nat} : (q_cn (fun b => s.testBit b && e_pf d b c i) 5 = 0) ↔ k_fi d s c i = true := by
  unfold k_fi; rw [decide_eq_true_eq]
theorem k_la_cn {d : Nat → Nat} {s c i : Nat} : (q_cn (fun b => s.testBit b && e_pf d c b i) 5 = 0) ↔ k_la d s c i = true := by
  unfold k_la; rw [decide_eq_true_eq]
section
variable {yn yq : Int32} {yo yp ym yt yl yb yw yk yh yC yN : Nat → Int32}
theorem y_ar {post : Int32 → Prop} {n i c s : Nat} {d : Nat → Nat} (hn : n ≤ 9) (hi : i < n) (hb : e_balY n d yo yp) (hs : s < 2 ^ 31) (hc : c < 5) (w : Bool) (H : post (nI (q_cn (fun b => s.testBit b && (if w then e_pf d c b i else e_pf d b c i)) 5))) : wpY_around post (yn, yq, yo, yp, ym, yt, yl, yb, yw, yk, yh, yC, yN) (nI i) (nI c) (nI s) (if w then 1 else 0) := by
  refine loop_0 (fun m b (x : Int32) => wY_around_6 post (nI i) (nI c) (nI s) (if w then 1 else 0) yn yq yo yp ym yt yl yb yw yk yh yC yN m x (nI b)) (fun b x => x = nI (q_cn (fun b => s.testBit b && (if w then e_pf d c b i else e_pf d b c i)) b)) 5 0 rfl ?_ ?_
  · rintro m _ rfl
    exact br_t (Int32.le_refl _) H
  · rintro m b _ hb5 rfl K
    have hpc : yp ((5 : Int32) * nI i + nI c).toNatClampNeg = nI (o_pl (d i) c) := by rw [bi_ic (by omega) (by omega), (hb i hi).2 c hc]
    have hpb : yp ((5 : Int32) * nI i + nI b).toNatClampNeg = nI (o_pl (d i) b) := by rw [bi_ic (by omega) (by omega), (hb i hi).2 b hb5]
    have lc := o_pl_lt (d i) c
    have lb := o_pl_lt (d i) b
    refine br_f (nI_ge (b := 5) hb5 (by decide)) ⟨bi_in (m := 9) (by omega) hb5 (by decide) (by decide), bi_in (m := 9) (by omega) hc (by decide) (by decide), nm_r (e' := zI ((o_pl (d i) b : Int) - (o_pl (d i) c : Int))) (by rw [hpb, hpc, ← zI_nat, ← zI_nat, zI_sub]) (bi_1 s b hs (by omega) (fun ht => ?_) (fun ht => nm_r (nI_1 b) (K _ ?_)))⟩
    · cases w
      · refine br_t rfl (zb_le 0 ((o_pl (d i) b : Int) - (o_pl (d i) c : Int)) (fun h => nm_r (nI_1 b) (K _ ?_)) (fun h => nm_r (nI_1 _) (nm_r (nI_1 b) (K _ ?_))) (by omega) (by omega))
        · have h2 : ¬ o_pl (d i) b < o_pl (d i) c := by omega
          simp [q_cn, e_pf, ht, h2]
        · have h2 : o_pl (d i) b < o_pl (d i) c := by omega
          simp [q_cn, e_pf, ht, h2]
      · refine br_f (by decide) (zb_le ((o_pl (d i) b : Int) - (o_pl (d i) c : Int)) 0 (fun h => nm_r (nI_1 b) (K _ ?_)) (fun h => nm_r (nI_1 _) (nm_r (nI_1 b) (K _ ?_))) (by omega) (by omega))
        · have h2 : ¬ o_pl (d i) c < o_pl (d i) b := by omega
          simp [q_cn, e_pf, ht, h2]
        · have h2 : o_pl (d i) c < o_pl (d i) b := by omega
          simp [q_cn, e_pf, ht, h2]
    · simp [q_cn, ht]
theorem y_val {post : Int32 → Prop} {n r c s : Nat} {d : Nat → Nat} (hr : r ≤ 2) (hn : n ≤ 9) (hb : e_balY n d yo yp) (hs : s < 2 ^ 31) (hc : c < 5) (H : post (zI (k_v n d r s c))) : wpY_value post (nI n, yq, yo, yp, ym, yt, yl, yb, yw, yk, yh, yC, yN) (nI r) (nI c) (nI s) := by
  refine loop_0 (fun m i (x : Int32) => wY_value_6 post (nI r) (nI c) (nI s) (nI n) yq yo yp ym yt yl yb yw yk yh yC yN m x (nI i)) (fun i x => x = zI (k_v i d r s c)) n 0 ?_ ?_ ?_
  · rcases (by omega : r = 0 ∨ r = 1 ∨ r = 2) with rfl | rfl | rfl
    · rfl
    · rfl
    · have e : k_p 0 d s c = 0 := by simp [k_p, q_sm, e_c, q_cn]
      show (0 : Int32) = zI (k_p 0 d s c : Int)
      rw [e]; rfl
  · rintro m _ rfl
    exact br_t (Int32.le_refl _) H
  · rintro m i _ hi rfl K
    refine br_f (nI_ge hi (by omega)) (y_ar hn hi hb hs hc true (y_ar hn hi hb hs hc false ?_))
    have b1 : q_cn (fun b => s.testBit b && e_pf d b c i) 5 ≤ 5 := q_cn_le _ _
    have b2 : q_cn (fun b => s.testBit b && e_pf d c b i) 5 ≤ 5 := q_cn_le _ _
    have c1 := @k_fi_cn d s c i
    have c2 := @k_la_cn d s c i
    simp only [if_true, Bool.false_eq_true, if_false]
    rcases (by omega : r = 0 ∨ r = 1 ∨ r = 2) with rfl | rfl | rfl
    · refine br_t rfl (pk_eq (q_cn (fun b => s.testBit b && e_pf d b c i) 5) 0 (fun h => nm_r (e' := zI (k_v (i + 1) d 0 s c)) ?_ (br_f (by decide) (br_f (by decide) (nm_r (nI_1 i) (K _ rfl))))) (fun h => br_f (by decide) (br_f (by decide) (nm_r (nI_1 i) (K _ ?_)))))
      · show zI _ + zI 1 = _
        rw [zI_add]
        refine congrArg zI ?_
        simp only [k_v, if_true, q_cn, c1.mp h, Bool.toNat_true]; omega
      · have h2 : k_fi d s c i = false := by
          cases e : k_fi d s c i
          · rfl
          · exact absurd (c1.mpr e) h
        simp only [k_v, if_true, q_cn, h2, Bool.toNat_false, Nat.add_zero]
    · refine br_f (by decide) (br_t rfl (pk_eq (q_cn (fun b => s.testBit b && e_pf d c b i) 5) 0 (fun h => nm_r (e' := zI (k_v (i + 1) d 1 s c)) ?_ (br_f (by decide) (nm_r (nI_1 i) (K _ rfl)))) (fun h => br_f (by decide) (nm_r (nI_1 i) (K _ ?_)))))
      · show zI _ + zI (-1) = _
        rw [zI_add]
        refine congrArg zI ?_
        simp only [k_v, Nat.one_ne_zero, if_false, if_true, q_cn, c2.mp h, Bool.toNat_true]; omega
      · have h2 : k_la d s c i = false := by
          cases e : k_la d s c i
          · rfl
          · exact absurd (c2.mpr e) h
        simp only [k_v, Nat.one_ne_zero, if_false, if_true, q_cn, h2, Bool.toNat_false, Nat.add_zero]
    · refine br_f (by decide) (br_f (by decide) (br_t rfl (nm_r (e' := zI (k_v (i + 1) d 2 s c)) ?_ (nm_r (nI_1 i) (K _ rfl)))))
      rw [← zI_nat, zI_add]
      refine congrArg zI ?_
      show (k_p i d s c : Int) + _ = (k_p (i + 1) d s c : Int)
      rw [k_p_s]; omega
theorem y_wi {post : Int32 → Prop} {n c k : Nat} {d : Nat → Nat} (hn : n ≤ 9) (hb : e_balY n d yo yp) (hk : k ≤ 5) (hc : c < 5) (H : post (nI (k_w n d c k))) : wpY_within post (nI n, yq, yo, yp, ym, yt, yl, yb, yw, yk, yh, yC, yN) (nI c) (nI k) := by
  refine loop_0 (fun m i (x : Int32) => wY_within_5 post (nI c) (nI k) (nI n) yq yo yp ym yt yl yb yw yk yh yC yN m x (nI i)) (fun i x => x = nI (k_w i d c k)) n 0 rfl ?_ ?_
  · rintro m _ rfl
    exact br_t (Int32.le_refl _) H
  · rintro m i _ hi rfl K
    have hpc : yp ((5 : Int32) * nI i + nI c).toNatClampNeg = nI (o_pl (d i) c) := by rw [bi_ic (by omega) (by omega), (hb i hi).2 c hc]
    have lc := o_pl_lt (d i) c
    refine br_f (nI_ge hi (by omega)) ⟨bi_in (m := 9) (by omega) hc (by decide) (by decide), ?_⟩
    rw [hpc]
    refine pk_le k (o_pl (d i) c) (fun h => nm_r (nI_1 i) (K _ ?_)) (fun h => nm_r (nI_1 _) (nm_r (nI_1 i) (K _ ?_)))
    · have h2 : ¬ o_pl (d i) c < k := by omega
      simp [k_w, q_cn, h2]
    · simp [k_w, q_cn, h]
theorem y_dep {post : Int32 → Prop} {n : Nat} {d : Nat → Nat} (hn : n ≤ 9) (hb : e_balY n d yo yp) (H : ∀ k, k_dp n d k → post (nI k)) : wpY_depth post (nI n, yq, yo, yp, ym, yt, yl, yb, yw, yk, yh, yC, yN) := by
  refine pk_loop (fun m k (_ : Unit) => wY_depth_2 post (nI n) yq yo yp ym yt yl yb yw yk yh yC yN m (nI k)) (fun k _ => 1 ≤ k ∧ ∀ j, 1 ≤ j → j < k → ¬ k_hf n d j) 5 1 () (by decide) ⟨Nat.le_refl 1, fun j h1 h2 => by omega⟩ ?_ ?_
  · rintro m _ ⟨_, h⟩
    exact br_t (Int32.le_refl _) (H 5 ⟨by decide, by decide, fun z => by omega, h⟩)
  · rintro m k _ hk ⟨hk1, h⟩ K
    refine br_f (nI_ge (b := 5) hk (by decide)) ?_
    refine loop_0 (fun m' c (_ : Unit) => wY_depth_9 post (wY_depth_2 post (nI n) yq yo yp ym yt yl yb yw yk yh yC yN m) (nI k) (nI n) yq yo yp ym yt yl yb yw yk yh yC yN m' (nI c)) (fun c _ => ∀ j, j < c → ¬ n < 2 * k_w n d j k) 5 () (fun j h => by omega) ?_ ?_
    · rintro m' _ g
      refine br_t (Int32.le_refl _) (nm_r (nI_1 k) (K () ⟨by omega, fun j hj1 hj2 => ?_⟩))
      by_cases e : j = k
      · subst e; rintro ⟨c, hc, z⟩; exact g c hc z
      · exact h j hj1 (by omega)
    · rintro m' c _ hc g K'
      have l : k_w n d c k ≤ n := q_cn_le _ _
      refine br_f (nI_ge (b := 5) hc (by decide)) (y_wi hn hb (by omega) hc ?_)
      rw [show (2 : Int32) = nI 2 from rfl, pk_mul]
      refine pk_le (2 * k_w n d c k) n (fun h2 => nm_r (nI_1 c) (K' () fun j hj => ?_)) (fun h2 => H k ⟨hk1, by omega, fun _ => ⟨c, hc, h2⟩, h⟩)
      by_cases e : j = c
      · subst e; omega
      · exact g j (by omega)
theorem y_sO_40 {post : Int32 → Prop} {n r a : Nat} {d : Nat → Nat} (hr : r = 3 ∨ r = 4) (hn : n ≤ 9) (hm : ∀ a b, a < 5 → b < 5 → ym (5 * a + b) = zI (e_m n d a b)) (ha : a < 5) (H : post (if r = 3 then nI (k_cop n d a 5) else zI (k_min n d a 5))) : ∃ m, wY_scoreOf_40 post (nI r) (nI a) yn yq yo yp ym yt yl yb yw yk yh yC yN m 0 100 0 := by
  refine loop_0 (fun m b (s : Int32 × Int32) => wY_scoreOf_40 post (nI r) (nI a) yn yq yo yp ym yt yl yb yw yk yh yC yN m s.1 s.2 (nI b)) (fun b s => s = (nI (k_cop n d a b), zI (k_min n d a b))) 5 (0, 100) rfl ?_ ?_
  · rintro m _ rfl
    refine br_t (Int32.le_refl _) ?_
    rcases hr with rfl | rfl
    · exact br_t rfl H
    · exact br_f (by decide) H
  · rintro m b _ hb rfl K
    have r1 := e_m_r hn d a b
    have r2 := k_min_r (d := d) (c := a) hn b
    have em : ym ((5 : Int32) * nI a + nI b).toNatClampNeg = zI (e_m n d a b) := by rw [bi_ic (by omega) (by omega), hm a b ha hb]
    have T : ∀ x : Nat, b ≠ a → x = k_cop n d a (b + 1) → wY_scoreOf_87 post (wY_scoreOf_40 post (nI r) (nI a) yn yq yo yp ym yt yl yb yw yk yh yC yN m) (nI r) (nI a) (nI x) (zI (k_min n d a b)) (nI b) (zI (e_m n d a b)) yn yq yo yp ym yt yl yb yw yk yh yC yN := by
      rintro _ e rfl
      refine br_f (fun z => e ((nI_eq (by omega) (by omega)).mp z)) (zb_le (k_min n d a b) (e_m n d a b) (fun h => nm_r (nI_1 b) (K (_, _) ?_)) (fun h => nm_r (nI_1 b) (K (_, _) ?_)) (by omega) (by omega))
      · simp only [k_min]; rw [if_neg (by omega)]; rfl
      · simp only [k_min]; rw [if_pos ⟨e, h⟩]; rfl
    refine br_f (nI_ge (b := 5) hb (by decide)) ⟨bi_in (m := 5) ha hb (by decide) (by decide), nm_r em (pk_eq b a (fun e => br_t (congrArg nI e) (nm_r (nI_1 b) (K (_, _) ?_))) (fun e => ?_))⟩
    · simp only [k_min, k_cop, e]; simp
    · refine zb_le (e_m n d a b) 0 (fun h => zb_eq (e_m n d a b) 0 (fun h0 => nm_r (nI_1 _) (T _ e ?_)) (fun h0 => nm_r (Int32.add_zero _) (T _ e ?_)) (by omega) (by omega)) (fun h => nm_r (nI_add _ 2) (T _ e ?_)) (by omega) (by omega)
      · simp only [k_cop]; rw [if_neg e, if_neg (by omega), if_pos h0]
      · simp only [k_cop]; rw [if_neg e, if_neg (by omega), if_neg h0]; rfl
      · simp only [k_cop]; rw [if_neg e, if_pos (by omega)]
theorem y_sO {post : Int32 → Prop} {n r a : Nat} {d : Nat → Nat} (hr : r ≤ 5) (hn : n ≤ 9) (hb : e_balY n d yo yp) (hm : ∀ a b, a < 5 → b < 5 → ym (5 * a + b) = zI (e_m n d a b)) (ha : a < 5) (H : ∀ z, k_s n d r a z → post (zI z)) : wpY_scoreOf post (nI n, yq, yo, yp, ym, yt, yl, yb, yw, yk, yh, yC, yN) (nI r) (nI a) := by
  refine pk_lt 2 r (fun h2 => pk_eq r 5 (fun h5 => ?_) (fun h5 => ?_)) (fun h2 => y_val (s := 31) h2 hn hb (by decide) ha (H _ (by unfold k_s; rw [if_pos h2])))
  · subst h5
    refine y_dep hn hb fun k hk => y_wi hn hb hk.2.1 ha ?_
    rw [← zI_nat]
    exact H _ ⟨k, hk, rfl⟩
  · have h34 : r = 3 ∨ r = 4 := by omega
    refine y_sO_40 h34 hn hm ha ?_
    rcases h34 with rfl | rfl
    · rw [if_pos rfl, ← zI_nat]; exact H _ rfl
    · rw [if_neg (by decide)]; exact H _ rfl
theorem y_hi {post : Int32 → Prop} {n r : Nat} {d : Nat → Nat} {f : Nat → Int} (hr : r ≤ 5) (hn : n ≤ 9) (hb : e_balY n d yo yp) (hm : ∀ a b, a < 5 → b < 5 → ym (5 * a + b) = zI (e_m n d a b)) (hf : ∀ c, c < 5 → k_s n d r c (f c)) (H : post (nI (k_gr f 5).1)) : wpY_highest post (nI n, yq, yo, yp, ym, yt, yl, yb, yw, yk, yh, yC, yN) (nI r) := by
  have hg : ∀ c, c < 5 → -100 ≤ f c ∧ f c ≤ 100 := fun c hc => k_s_r hn (hf c hc)
  have hR := k_gr_r hg
  refine loop_0 (fun m c (s : Int32 × Int32) => wY_highest_9 post (nI r) (nI n) yq yo yp ym yt yl yb yw yk yh yC yN m s.1 s.2 (nI c)) (fun c s => s = (nI (k_gr f c).1, zI (k_gr f c).2)) 5 (0, -1000) rfl ?_ ?_
  · rintro m _ rfl
    exact br_t (Int32.le_refl _) H
  · rintro m c _ hc rfl K
    have h1 := hR c (by omega)
    have h2 := hg c hc
    refine br_f (nI_ge (b := 5) hc (by decide)) (y_sO hr hn hb hm hc fun z hz => ?_)
    have ez : z = f c := k_s_u hz (hf c hc)
    subst ez
    dsimp only at K ⊢
    refine zb_le (f c) (k_gr f c).2 (fun h => zb_le (f c) (k_gr f c).2 (fun _ => zb_eq (f c) (k_gr f c).2 (fun h3 => nm_r rfl (nm_r (nI_1 c) (K (_, _) ?_))) (fun h3 => nm_r (nI_1 c) (K (_, _) ?_)) (by omega) (by omega)) (fun h3 => absurd h (by omega)) (by omega) (by omega)) (fun h => zb_le (f c) (k_gr f c).2 (fun h3 => absurd h3 (by omega)) (fun _ => br_t rfl (nm_r rfl (nm_r (nI_1 c) (K (_, _) ?_)))) (by omega) (by omega)) (by omega) (by omega)
    · simp only [k_gr]; rw [if_neg (by omega), if_pos h3, bi_shl (by omega), bi_or]; rfl
    · simp only [k_gr]; rw [if_neg (by omega), if_neg h3]; rfl
    · simp only [k_gr]; rw [if_pos h, bi_shl (by omega)]
      exact congrArg (fun t => (t, zI (f c))) (Int32.zero_or)
end
end
section
theorem bi_m1 {s : Nat} (h : 0 < s) : nI s - 1 = nI (s - 1) := pk_sub (b := 1) h
theorem bi_and (p p' : Nat → Bool) (n : Nat) : nI (q_mk p n) &&& nI (q_mk p' n) = nI (q_mk (fun i => p i && p' i) n) := by
  rw [nx_and]
  apply congrArg nI
  apply q_mk_eq (Nat.lt_of_le_of_lt Nat.and_le_left (q_mk_lt p n))
  intro i hi
  rw [Nat.testBit_and, q_mk_bit, q_mk_bit]; simp [hi]
theorem q_mk_all (n : Nat) : q_mk (fun _ => true) n = 2 ^ n - 1 := by
  have h : 2 ^ n - 1 < 2 ^ n := Nat.sub_lt (Nat.two_pow_pos n) (by decide)
  refine (q_mk_eq h fun i hi => ?_).symm
  rw [Nat.testBit_two_pow_sub_one]; simp [hi]
theorem bv_t1 : vp_nar .boolean 1 = nI 1 := rfl
theorem bv_t0 : vp_nar .boolean 0 = nI 0 := rfl
/-- the least value among the members of s -/
def l_w (f : Nat → Int) (s : Nat) : Nat → Int
  | 0 => 1000
  | c + 1 => if s.testBit c = true ∧ f c < l_w f s c then f c else l_w f s c
/-- the sets that are left when one of the worst of s goes -/
def l_sh (L : Nat → Bool) (f : Nat → Int) (s : Nat) (w : Int) : Nat → Nat → Bool
  | 0 => L
  | c + 1 => fun t => if s.testBit c = true ∧ f c = w ∧ t = q_nd s (2 ^ c) then true else l_sh L f s w c t
def l_L (f : Nat → Nat → Int) : Nat → Nat → Bool
  | 0 => fun t => decide (t = 31)
  | k + 1 => if l_L f k (31 - k) = true ∧ (31 - k) &&& (31 - k - 1) ≠ 0 then l_sh (l_L f k) (f (31 - k)) (31 - k) (l_w (f (31 - k)) (31 - k) 5) 5 else l_L f k
theorem l_w_r {f : Nat → Int} {s : Nat} (hf : ∀ c, c < 5 → -45 ≤ f c ∧ f c ≤ 45) : ∀ c, c ≤ 5 → -45 ≤ l_w f s c ∧ l_w f s c ≤ 1000 := by
  intro c
  induction c with
  | zero => intro _; exact (by decide : (-45 : Int) ≤ 1000 ∧ (1000 : Int) ≤ 1000)
  | succ c ih =>
    intro hc
    have h1 := hf c (by omega)
    have h2 := ih (by omega)
    simp only [l_w]
    split <;> omega
theorem l_nd : ∀ s, s < 32 → ∀ c, c < 5 → s.testBit c = true → q_nd s (2 ^ c) < s := by decide +kernel
theorem l_sing : ∀ s, s < 32 → 0 < s → s &&& (s - 1) = 0 → s = 1 ∨ s = 2 ∨ s = 4 ∨ s = 8 ∨ s = 16 := by decide +kernel
theorem l_pow : ∀ c, c < 5 → (2 ^ c) &&& (2 ^ c - 1) = 0 := by decide +kernel
theorem l_sh_hi {L : Nat → Bool} {f : Nat → Int} {s : Nat} {w : Int} (hs : s < 32) {t : Nat} (ht : s ≤ t) : ∀ c, c ≤ 5 → l_sh L f s w c t = L t := by
  intro c
  induction c with
  | zero => intro _; rfl
  | succ c ih =>
    intro hc
    simp only [l_sh]
    rw [if_neg, ih (by omega)]
    rintro ⟨h1, _, rfl⟩
    have := l_nd s hs c (by omega) h1
    omega
/-- what the component has gathered when the sets above e are done -/
def l_acc (f : Nat → Nat → Int) (e : Nat) : Nat := q_mk (fun c => decide (e < 2 ^ c) && l_L f (31 - e) (2 ^ c)) 5
theorem l_acc_31 (f : Nat → Nat → Int) : l_acc f 31 = 0 := by
  unfold l_acc
  rw [q_mk_congr (p' := fun _ => false)]
  · rfl
  · intro c hc
    have : ¬ 31 < 2 ^ c := by
      have : 2 ^ c ≤ 2 ^ 4 := Nat.pow_le_pow_right (by decide) (by omega)
      omega
    simp [this]
theorem l_acc_s {f : Nat → Nat → Int} {e : Nat} (he : e + 1 ≤ 31) (h : (e + 1) &&& e = 0 → l_L f (31 - (e + 1)) (e + 1) = false) : l_acc f (e + 1) = l_acc f e := by
  unfold l_acc
  refine q_mk_congr fun c hc => ?_
  have e2 : 31 - e = (31 - (e + 1)) + 1 := by omega
  have e3 : 31 - (31 - (e + 1)) = e + 1 := by omega
  rw [e2]
  simp only [l_L]
  rw [e3, Nat.add_sub_cancel]
  by_cases h1 : 2 ^ c = e + 1
  · have h2 : ¬ e + 1 < 2 ^ c := by omega
    have h3 : e < 2 ^ c := by omega
    have h4 : (e + 1) &&& e = 0 := by
      have := l_pow c hc
      rw [h1] at this; exact this
    rw [if_neg (fun z => z.2 h4), h1, h h4]
    simp [h2]
  · have h2 : decide (e + 1 < 2 ^ c) = decide (e < 2 ^ c) := by rw [decide_eq_decide]; omega
    rw [h2]
    by_cases h3 : e < 2 ^ c
    · rw [decide_eq_true h3, Bool.true_and, Bool.true_and]
      split
      · rw [l_sh_hi (by omega) (by omega) 5 (by decide)]
      · rfl
    · simp [h3]
theorem l_acc_or {f : Nat → Nat → Int} {e : Nat} (he : e + 1 ≤ 31) (h0 : (e + 1) &&& e = 0) (h : l_L f (31 - (e + 1)) (e + 1) = true) : nI (l_acc f (e + 1)) ||| nI (e + 1) = nI (l_acc f e) := by
  rw [bi_or]
  apply congrArg nI
  have hlt : l_acc f (e + 1) ||| (e + 1) < 2 ^ 5 := Nat.or_lt_two_pow (q_mk_lt _ _) (by omega)
  refine q_mk_eq hlt fun c hc => ?_
  unfold l_acc
  rw [Nat.testBit_or, q_mk_bit]
  have e2 : 31 - e = (31 - (e + 1)) + 1 := by omega
  have e3 : 31 - (31 - (e + 1)) = e + 1 := by omega
  rw [e2]
  simp only [l_L]
  rw [e3, Nat.add_sub_cancel, if_neg (fun z => z.2 h0)]
  have hs := l_sing (e + 1) (by omega) (by omega) h0
  have hx : ∃ j, j < 5 ∧ e + 1 = 2 ^ j := by
    rcases hs with h | h | h | h | h
    · exact ⟨0, by decide, h⟩
    · exact ⟨1, by decide, h⟩
    · exact ⟨2, by decide, h⟩
    · exact ⟨3, by decide, h⟩
    · exact ⟨4, by decide, h⟩
  obtain ⟨j, hj, ej⟩ := hx
  by_cases hcj : c = j
  · subst hcj
    have h3 : e < 2 ^ c := by omega
    rw [ej, Nat.testBit_two_pow, ← ej, h]
    simp [h3]
  · have hne : 2 ^ c ≠ 2 ^ j := fun z => hcj ((Nat.pow_right_inj (a := 2) (by decide)).mp z)
    rw [ej, Nat.testBit_two_pow]
    have h2 : decide (2 ^ j < 2 ^ c) = decide (e < 2 ^ c) := by rw [decide_eq_decide]; omega
    rw [h2]
    simp [hc, hcj, Ne.symm hcj]
section
variable {xc xk xq : Int32} {xo xr xp xm xb xs xl xt xe xA xB xf xg xL xO xC xN : Nat → Int32}
theorem x_ext {post : Int32 → Prop} {n s c : Nat} {d : Nat → Nat} (hok : e_ok n d) (hp : ∀ a b, a < 5 → b < 5 → xp (5 * a + b) = nI (e_M n d a b)) (hs : s < 32) (hc : c < 5) (w : Bool) (H : post (nI (q_cn (if w then k_fi d s c else k_la d s c) n))) : wpX_extremeCount post (nI n, xk, xq, xo, xr, xp, xm, xb, xs, xl, xt, xe, xA, xB, xf, xg, xL, xO, xC, xN) (nI s) (nI c) (if w then 1 else 0) := by
  have hn := hok.1
  refine nm_r (e' := nI (q_mk (fun _ => true) n)) (by rw [bi_shl (by omega), bi_m1 (Nat.two_pow_pos n), q_mk_all]) ?_
  refine loop_0 (fun m b (x : Int32) => wX_extremeCount_13 post (nI s) (nI c) (if w then 1 else 0) (nI n) xk xq xo xr xp xm xb xs xl xt xe xA xB xf xg xL xO xC xN m x (nI b)) (fun b x => x = nI (q_mk (fun i => decide (q_cn (fun b => s.testBit b && (if w then e_pf d b c i else e_pf d c b i)) b = 0)) n)) 5 _ rfl ?_ ?_
  · rintro m _ rfl
    refine br_t (Int32.le_refl _) (x_ones (Nat.lt_of_lt_of_le (q_mk_lt _ n) (Nat.pow_le_pow_right (n := 2) (j := 9) (by decide) hn)) ?_)
    rw [q_pc_mk hn]
    cases w
    · exact H
    · exact H
  · rintro m b _ hb rfl K
    have hlt : ∀ i, i < n → b ≠ c → e_pf d c b i = !e_pf d b c i := by
      intro i hi hbc
      have : o_pl (d i) b ≠ o_pl (d i) c := fun z => hbc (o_inj (hok.2 i hi) hb hc z)
      unfold e_pf
      rcases Nat.lt_or_gt_of_ne this with h | h
      · have h2 : ¬ o_pl (d i) c < o_pl (d i) b := by omega
        simp [h, h2]
      · have h2 : ¬ o_pl (d i) b < o_pl (d i) c := by omega
        simp [h, h2]
    refine br_f (nI_ge (b := 5) hb (by decide)) (pk_eq b c (fun e => nm_r (nI_1 b) (K _ ?_)) (fun e => x_isIn (by omega) (by omega) (fun h => nm_r (nI_1 b) (K _ ?_)) (fun h => ?_)))
    · subst e
      refine congrArg nI (q_mk_congr fun i hi => ?_)
      cases w <;> simp [q_cn, e_pf]
    · refine congrArg nI (q_mk_congr fun i hi => ?_)
      simp [q_cn, h]
    · have ep : xp ((5 : Int32) * nI c + nI b).toNatClampNeg = nI (e_M n d c b) := by rw [bi_ic (by omega) (by omega), hp c b hc hb]
      have eq : xp ((5 : Int32) * nI b + nI c).toNatClampNeg = nI (e_M n d b c) := by rw [bi_ic (by omega) (by omega), hp b c hb hc]
      cases w
      · refine br_t rfl ⟨bi_in (m := 5) hb hc (by decide) (by decide), nm_r rfl (nm_r (nI_1 b) (K _ ?_))⟩
        rw [eq]
        unfold e_M
        rw [bi_and]
        refine congrArg nI (q_mk_congr fun i hi => ?_)
        simp only [q_cn, h, Bool.true_and, Bool.false_eq_true, if_false, hlt i hi e]
        cases e_pf d b c i <;> simp
      · refine br_f (by decide) ⟨bi_in (m := 5) hc hb (by decide) (by decide), nm_r rfl (nm_r (nI_1 b) (K _ ?_))⟩
        rw [ep]
        unfold e_M
        rw [bi_and]
        refine congrArg nI (q_mk_congr fun i hi => ?_)
        simp only [q_cn, h, Bool.true_and, if_true, hlt i hi e]
        cases e_pf d b c i <;> simp
theorem x_el_103 {post : SX → Prop} {s : Nat} {f : Nat → Int} {w : Int} {L : Nat → Bool} (hs : s < 32) (hf : ∀ c, c < 5 → -45 ≤ f c ∧ f c ≤ 45) (hw : -45 ≤ w ∧ w ≤ 1000) (hx : ∀ c, c < 5 → s.testBit c = true → xs c = zI (f c)) (hl : ∀ t, t < 32 → xl t = nI (L t).toNat)
    (H : ∀ xl', (∀ t, t < 32 → xl' t = nI (l_sh L f s w 5 t).toNat) → post (xc, xk, xq, xo, xr, xp, xm, xb, xs, xl', xt, xe, xA, xB, xf, xg, xL, xO, xC, xN)) : ∃ m, wX_eliminate_103 post (nI s) (zI w) xc xk xq m 0 xo xr xp xm xb xs xl xt xe xA xB xf xg xL xO xC xN := by
  refine loop_0 (fun m c (x : Nat → Int32) => wX_eliminate_103 post (nI s) (zI w) xc xk xq m (nI c) xo xr xp xm xb xs x xt xe xA xB xf xg xL xO xC xN) (fun c x => ∀ t, t < 32 → x t = nI (l_sh L f s w c t).toNat) 5 xl hl ?_ ?_
  · intro m x h
    exact br_t (Int32.le_refl _) (H x h)
  · intro m c x hc h K
    refine br_f (nI_ge (b := 5) hc (by decide)) (x_isIn (by omega) (by omega) (fun hb => nm_r (nI_1 c) (K _ fun t ht => ?_)) (fun hb => ⟨vp_in_nI hc (by decide), ?_⟩))
    · rw [h t ht]; simp [l_sh, hb]
    · have r := hf c hc
      rw [nI_clamp (by omega), hx c hc hb]
      have hq : q_nd s (2 ^ c) < 32 := Nat.lt_of_le_of_lt (q_nd_le _ _) hs
      refine zb_eq (f c) w (fun e => ⟨?_, nm_r (e' := upd x (q_nd s (2 ^ c)) (nI 1)) ?_ (nm_r (nI_1 c) (K _ fun t ht => ?_))⟩) (fun e => nm_r (nI_1 c) (K _ fun t ht => ?_)) (by omega) (by omega)
      · rw [bi_shl (by omega), bi_nd]; exact vp_in_nI hq (by decide)
      · rw [bi_shl (by omega), bi_nd, nI_clamp (by omega), bv_t1]
      · by_cases et : t = q_nd s (2 ^ c)
        · subst et
          rw [pk_us]; simp [l_sh, hb, e]
        · rw [pk_un et, h t ht]; simp [l_sh, et]
      · rw [h t ht]; simp [l_sh, e]
theorem x_el {post : SX → Prop} {n r s : Nat} {d : Nat → Nat} {L : Nat → Bool} (hr : r ≤ 2) (hok : e_ok n d) (hp : ∀ a b, a < 5 → b < 5 → xp (5 * a + b) = nI (e_M n d a b)) (hs : s < 32) (hl : ∀ t, t < 32 → xl t = nI (L t).toNat)
    (H : ∀ xs' xl', (∀ t, t < 32 → xl' t = nI (l_sh L (k_v n d r s) s (l_w (k_v n d r s) s 5) 5 t).toNat) → post (nI n, xk, xq, xo, xr, xp, xm, xb, xs', xl', xt, xe, xA, xB, xf, xg, xL, xO, xC, xN)) : wpX_eliminate post (nI n, xk, xq, xo, xr, xp, xm, xb, xs, xl, xt, xe, xA, xB, xf, xg, xL, xO, xC, xN) (nI (r + 6)) (nI s) := by
  have hn := hok.1
  have hf : ∀ c, c < 5 → -45 ≤ k_v n d r s c ∧ k_v n d r s c ≤ 45 := fun c _ => k_v_r hn
  have hW := l_w_r (s := s) hf
  refine loop_0 (fun m c (x : Int32 × (Nat → Int32)) => wX_eliminate_7 post (nI (r + 6)) (nI s) (nI n) xk xq m x.1 (nI c) xo xr xp xm xb x.2 xl xt xe xA xB xf xg xL xO xC xN) (fun c x => x.1 = zI (l_w (k_v n d r s) s c) ∧ ∀ c', c' < c → s.testBit c' = true → x.2 c' = zI (k_v n d r s c')) 5 (1000, xs) ⟨rfl, fun c h => by omega⟩ ?_ ?_
  · rintro m ⟨x, xs'⟩ ⟨h1, h2⟩
    dsimp only at h1 h2 ⊢
    subst h1
    exact br_t (Int32.le_refl _) (x_el_103 hs hf (hW 5 (by decide)) h2 hl fun xl' h => H xs' xl' h)
  · rintro m c ⟨x, xs'⟩ hc ⟨h1, h2⟩ K
    dsimp only at h1 h2 K ⊢
    subst h1
    have r1 := hf c hc
    have r2 := hW c (by omega)
    have T : s.testBit c = true → ∀ z : Int32, z = zI (k_v n d r s c) → wX_eliminate_74 post (wX_eliminate_7 post (nI (r + 6)) (nI s) (nI n) xk xq m) (nI (r + 6)) (nI s) (zI (l_w (k_v n d r s) s c)) (nI c) z (nI c) (nI n) xk xq xo xr xp xm xb xs' xl xt xe xA xB xf xg xL xO xC xN := by
      rintro hb _ rfl
      refine ⟨vp_in_nI hc (by decide), nm_r (e' := upd xs' c (zI (k_v n d r s c))) (by rw [nI_clamp (by omega)]) ⟨vp_in_nI hc (by decide), ?_⟩⟩
      have hU : ∀ c', c' < c + 1 → s.testBit c' = true → upd xs' c (zI (k_v n d r s c)) c' = zI (k_v n d r s c') := by
        intro c' hc' hb'
        by_cases e : c' = c
        · subst e; exact pk_us
        · rw [pk_un e]; exact h2 c' (by omega) hb'
      rw [nI_clamp (by omega), pk_us]
      refine zb_le (l_w (k_v n d r s) s c) (k_v n d r s c) (fun h => nm_r (nI_1 c) (K (_, _) ⟨?_, hU⟩)) (fun h => ⟨vp_in_nI hc (by decide), nm_r rfl (nm_r (nI_1 c) (K (_, _) ⟨?_, hU⟩))⟩) (by omega) (by omega)
      · simp only [l_w]; rw [if_neg (by omega)]; rfl
      · simp only [l_w]; rw [if_pos ⟨hb, h⟩]; rfl
    refine br_f (nI_ge (b := 5) hc (by decide)) (x_isIn (by omega) (by omega) (fun hb => nm_r (nI_1 c) (K (_, _) ⟨?_, fun c' hc' hb' => ?_⟩)) (fun hb => ?_))
    · exact congrArg zI (by simp [l_w, hb])
    · by_cases e : c' = c
      · subst e; rw [hb] at hb'; exact absurd hb' (by decide)
      · exact h2 c' (by omega) hb'
    · rcases (by omega : r = 0 ∨ r = 1 ∨ r = 2) with rfl | rfl | rfl
      · exact br_t rfl (x_ext hok hp hs hc true (T hb _ (by rw [← zI_nat]; rfl)))
      · exact br_f (by decide) (br_t rfl (x_ext hok hp hs hc false (T hb _ (by rw [← zI_nat, zI_neg]; rfl))))
      · exact br_f (by decide) (br_f (by decide) (x_pts hn hp hc hs (T hb _ (by rw [← zI_nat]; rfl))))
theorem x_bE {post : Int32 → SX → Prop} {n r : Nat} {d : Nat → Nat} {u : SX} (hr : r ≤ 2) (R : rx_K n d u) (H : ∀ u', rx_K n d u' → post (nI (l_acc (k_v n d r) 0)) u') : wpX_byElimination post u (nI (r + 6)) := by
  obtain ⟨xc, xk, xq, xo, xr, xp, xm, xb, xs, xl, xt, xe, xA, xB, xf, xg, xL, xO, xC, xN⟩ := u
  obtain ⟨rfl, rfl, hok, hb, hcn⟩ := R
  have hp := hcn.1
  refine loop_0 (fun m t (x : Nat → Int32) => wX_byElimination_2 post (nI (r + 6)) (nI n) 1 xq m (nI t) xo xr xp xm xb xs x xt xe xA xB xf xg xL xO xC xN) (fun t x => ∀ j, j < t → x j = nI 0) 31 xl (fun j h => by omega) ?_ ?_
  · intro m x h
    refine br_t (Int32.le_refl _) (nm_r (e' := upd x 31 (nI 1)) (by rw [bv_t1]) ⟨32, ?_⟩)
    refine pk_loopD (fun m e (s : Int32 × (Nat → Int32) × (Nat → Int32)) => wX_byElimination_34 post (nI (r + 6)) m s.1 (nI e) (nI n) 1 xq xo xr xp xm xb s.2.1 s.2.2 xt xe xA xB xf xg xL xO xC xN) (fun e s => e ≤ 31 ∧ s.1 = nI (l_acc (k_v n d r) e) ∧ ∀ t, t < 32 → s.2.2 t = nI (l_L (k_v n d r) (31 - e) t).toNat) ?_ ?_ 31 (0, xs, upd x 31 (nI 1)) ⟨by decide, by rw [l_acc_31]; rfl, fun t ht => ?_⟩
    · rintro m ⟨a, xs', xl'⟩ ⟨_, h1, _⟩
      dsimp only at h1 ⊢
      subst h1
      exact br_t (Int32.le_refl _) (H _ ⟨rfl, rfl, hok, hb, hcn⟩)
    · rintro m e ⟨a, xs', xl'⟩ ⟨he, h1, h2⟩ K
      dsimp only at h1 h2 K ⊢
      subst h1
      have e2 : 31 - e = (31 - (e + 1)) + 1 := by omega
      have e3 : 31 - (31 - (e + 1)) = e + 1 := by omega
      refine br_f (nI_nle (by omega) (by omega)) ⟨vp_in_nI (by omega) (by decide), ?_⟩
      rw [nI_clamp (by omega), h2 (e + 1) (by omega), nI_pred, nx_and]
      have hst : (l_L (k_v n d r) (31 - (e + 1)) (e + 1) = true → (e + 1) &&& e = 0) → l_L (k_v n d r) (31 - e) = l_L (k_v n d r) (31 - (e + 1)) := by
        intro g
        rw [e2]
        simp only [l_L]
        rw [e3, Nat.add_sub_cancel, if_neg (fun z => z.2 (g z.1))]
      cases hL : l_L (k_v n d r) (31 - (e + 1)) (e + 1)
      · refine br_t rfl (nm_r (pk_m1 e) (K (_, _, _) ⟨by omega, congrArg nI (l_acc_s he (fun _ => hL)), fun t ht => ?_⟩))
        show xl' t = _
        rw [hst (fun z => by rw [hL] at z; exact absurd z (by decide)), h2 t ht]
      · refine br_f (by decide) (pk_eq ((e + 1) &&& e) 0 (fun h0 => nm_r (l_acc_or he h0 hL) (nm_r (pk_m1 e) (K (_, _, _) ⟨by omega, rfl, fun t ht => ?_⟩))) (fun h0 => ?_) rfl rfl (Nat.lt_of_le_of_lt Nat.and_le_left (by omega)))
        · show xl' t = _
          rw [hst (fun _ => h0), h2 t ht]
        · refine x_el hr hok hp (by omega) h2 fun xs'' xl'' h3 => nm_r (pk_m1 e) (K (_, _, _) ⟨by omega, congrArg nI (l_acc_s he (fun z => absurd z h0)), fun t ht => ?_⟩)
          show xl'' t = _
          rw [h3 t ht, e2]
          simp only [l_L]
          rw [e3, Nat.add_sub_cancel, if_pos ⟨hL, h0⟩]
    · show upd x 31 (nI 1) t = _
      by_cases e : t = 31
      · subst e; rw [pk_us]; rfl
      · rw [pk_un e, h t (by omega)]; simp [l_L, e]
  · intro m t x ht h K
    refine br_f (nI_ge (b := 31) ht (by decide)) ⟨vp_in_nI (by omega) (by decide), nm_r (e' := upd x t (nI 0)) (by rw [nI_clamp (by omega), bv_t0]) (nm_r (nI_1 t) (K _ fun j hj => ?_))⟩
    by_cases e : j = t
    · subst e; exact pk_us
    · exact (pk_un e).trans (h j (by omega))
end
end
section
section
variable {yn yq : Int32} {yo yp ym yt yl yb yw yk yh yC yN : Nat → Int32}
theorem y_sh_51 {post : SY → Prop} {n r s : Nat} {d : Nat → Nat} {w : Int} {L : Nat → Bool} (hr : r ≤ 2) (hn : n ≤ 9) (hb : e_balY n d yo yp) (hs : s < 32) (hw : -45 ≤ w ∧ w ≤ 1000) (hl : ∀ t, t < 32 → yl t = nI (L t).toNat)
    (H : ∀ yl', (∀ t, t < 32 → yl' t = nI (l_sh L (k_v n d r s) s w 5 t).toNat) → post (nI n, yq, yo, yp, ym, yt, yl', yb, yw, yk, yh, yC, yN)) : ∃ m, wY_shrink_51 post (nI s) (nI r) (zI w) (nI n) yq m 0 yo yp ym yt yl yb yw yk yh yC yN := by
  refine loop_0 (fun m c (x : Nat → Int32) => wY_shrink_51 post (nI s) (nI r) (zI w) (nI n) yq m (nI c) yo yp ym yt x yb yw yk yh yC yN) (fun c x => ∀ t, t < 32 → x t = nI (l_sh L (k_v n d r s) s w c t).toNat) 5 yl hl ?_ ?_
  · intro m x h
    exact br_t (Int32.le_refl _) (H x h)
  · intro m c x hc h K
    refine br_f (nI_ge (b := 5) hc (by decide)) (bi_1 s c (by omega) (by omega) (fun hb1 => y_val hr hn hb (by omega) hc ?_) (fun hb0 => nm_r (nI_1 c) (K _ fun t ht => ?_)))
    · have r1 := k_v_r (d := d) (r := r) (s := s) (c := c) hn
      have hq : q_nd s (2 ^ c) < 32 := Nat.lt_of_le_of_lt (q_nd_le _ _) hs
      refine zb_eq (k_v n d r s c) w (fun e => ⟨?_, nm_r (e' := upd x (q_nd s (2 ^ c)) (nI 1)) ?_ (nm_r (nI_1 c) (K _ fun t ht => ?_))⟩) (fun e => nm_r (nI_1 c) (K _ fun t ht => ?_)) (by omega) (by omega)
      · rw [bi_shl (by omega), bi_nd]; exact vp_in_nI hq (by decide)
      · rw [bi_shl (by omega), bi_nd, nI_clamp (by omega), bv_t1]
      · by_cases et : t = q_nd s (2 ^ c)
        · subst et
          rw [pk_us]; simp [l_sh, hb1, e]
        · rw [pk_un et, h t ht]; simp [l_sh, et]
      · rw [h t ht]; simp [l_sh, e]
    · rw [h t ht]; simp [l_sh, hb0]
theorem y_sh {post : SY → Prop} {n r s : Nat} {d : Nat → Nat} {L : Nat → Bool} (hr : r ≤ 2) (hn : n ≤ 9) (hb : e_balY n d yo yp) (hs : s < 32) (hl : ∀ t, t < 32 → yl t = nI (L t).toNat)
    (H : ∀ yl', (∀ t, t < 32 → yl' t = nI (l_sh L (k_v n d r s) s (l_w (k_v n d r s) s 5) 5 t).toNat) → post (nI n, yq, yo, yp, ym, yt, yl', yb, yw, yk, yh, yC, yN)) : wpY_shrink post (nI n, yq, yo, yp, ym, yt, yl, yb, yw, yk, yh, yC, yN) (nI s) (nI r) := by
  have hf : ∀ c, c < 5 → -45 ≤ k_v n d r s c ∧ k_v n d r s c ≤ 45 := fun c _ => k_v_r hn
  have hW := l_w_r (s := s) hf
  refine loop_0 (fun m c (x : Int32) => wY_shrink_7 post (nI s) (nI r) (nI n) yq yo yp ym yt yl yb yw yk yh yC yN m x (nI c)) (fun c x => x = zI (l_w (k_v n d r s) s c)) 5 1000 rfl ?_ ?_
  · rintro m _ rfl
    exact br_t (Int32.le_refl _) (y_sh_51 hr hn hb hs (hW 5 (by decide)) hl H)
  · rintro m c _ hc rfl K
    have r1 := hf c hc
    have r2 := hW c (by omega)
    refine br_f (nI_ge (b := 5) hc (by decide)) (y_val hr hn hb (by omega) hc (bi_1 s c (by omega) (by omega) (fun hb1 => ?_) (fun hb0 => nm_r (nI_1 c) (K _ ?_))))
    · refine zb_le (l_w (k_v n d r s) s c) (k_v n d r s c) (fun h => nm_r (nI_1 c) (K _ ?_)) (fun h => nm_r (nI_1 c) (K _ ?_)) (by omega) (by omega)
      · refine congrArg zI ?_
        simp only [l_w]; rw [if_neg (by omega)]
      · refine congrArg zI ?_
        simp only [l_w]; rw [if_pos ⟨hb1, h⟩]
    · exact congrArg zI (by simp [l_w, hb0])
theorem y_el {post : Int32 → SY → Prop} {n r : Nat} {d : Nat → Nat} {v : SY} (hr : r ≤ 2) (R : ry_K n d v) (H : ∀ v', ry_K n d v' → post (nI (l_acc (k_v n d r) 0)) v') : wpY_eliminate post v (nI r) := by
  obtain ⟨yn, yq, yo, yp, ym, yt, yl, yb, yw, yk, yh, yC, yN⟩ := v
  obtain ⟨rfl, hok, hb, hm⟩ := R
  have hn := hok.1
  refine loop_0 (fun m t (x : Nat → Int32) => wY_eliminate_2 post (nI r) (nI n) yq m (nI t) yo yp ym yt x yb yw yk yh yC yN) (fun t x => ∀ j, j < t → x j = nI (decide (j = 31)).toNat) 32 yl (fun j h => by omega) ?_ ?_
  · intro m x h
    refine br_t (Int32.le_refl _) ⟨32, ?_⟩
    refine pk_loopD (fun m e (x : Nat → Int32) => wY_eliminate_34 post (nI r) m (nI e) (nI n) yq yo yp ym yt x yb yw yk yh yC yN) (fun e x => e ≤ 31 ∧ ∀ t, t < 32 → x t = nI (l_L (k_v n d r) (31 - e) t).toNat) ?_ ?_ 31 x ⟨by decide, h⟩
    · rintro m x ⟨_, h2⟩
      refine br_t (Int32.le_refl _) ?_
      refine loop_0 (fun m c (a : Int32) => wY_eliminate_71 post (nI n) yq yo yp ym yt x yb yw yk yh yC yN m a (nI c)) (fun c a => a = nI (q_mk (fun c => decide (0 < 2 ^ c) && l_L (k_v n d r) (31 - 0) (2 ^ c)) c)) 5 0 rfl ?_ ?_
      · rintro m _ rfl
        exact br_t (Int32.le_refl _) (H _ ⟨rfl, hok, hb, hm⟩)
      · rintro m c _ hc rfl K
        have hp : (2 : Nat) ^ c < 32 := Nat.pow_lt_pow_right (a := 2) (n := 5) (by decide) hc
        have hp0 : 0 < (2 : Nat) ^ c := Nat.two_pow_pos c
        refine br_f (nI_ge (b := 5) hc (by decide)) ?_
        rw [bi_shl (by omega), nI_clamp (by omega), h2 _ hp]
        refine ⟨vp_in_nI hp (by decide), ?_⟩
        cases hL : l_L (k_v n d r) (31 - 0) (2 ^ c)
        · exact br_t rfl (nm_r (nI_1 c) (K _ (congrArg nI (bi_skip (fun c => decide (0 < 2 ^ c) && l_L (k_v n d r) (31 - 0) (2 ^ c)) (by simp [hL])).symm)))
        · refine br_f (by decide) (nm_r (e' := nI (q_mk (fun c => decide (0 < 2 ^ c) && l_L (k_v n d r) (31 - 0) (2 ^ c)) (c + 1))) ?_ (nm_r (nI_1 c) (K _ rfl)))
          rw [← bi_shl (by omega)]
          exact bi_add (fun c => decide (0 < 2 ^ c) && l_L (k_v n d r) (31 - 0) (2 ^ c)) (by omega) (by simp [hL, hp0])
    · rintro m e x ⟨he, h2⟩ K
      have e2 : 31 - e = (31 - (e + 1)) + 1 := by omega
      have e3 : 31 - (31 - (e + 1)) = e + 1 := by omega
      refine br_f (nI_nle (by omega) (by omega)) ⟨vp_in_nI (by omega) (by decide), ?_⟩
      rw [nI_clamp (by omega), h2 (e + 1) (by omega), nI_pred, nx_and]
      have hst : (l_L (k_v n d r) (31 - (e + 1)) (e + 1) = true → (e + 1) &&& e = 0) → l_L (k_v n d r) (31 - e) = l_L (k_v n d r) (31 - (e + 1)) := by
        intro g
        rw [e2]
        simp only [l_L]
        rw [e3, Nat.add_sub_cancel, if_neg (fun z => z.2 (g z.1))]
      cases hL : l_L (k_v n d r) (31 - (e + 1)) (e + 1)
      · refine br_t rfl (nm_r (pk_m1 e) (K _ ⟨by omega, fun t ht => ?_⟩))
        rw [hst (fun z => by rw [hL] at z; exact absurd z (by decide)), h2 t ht]
      · refine br_f (by decide) (pk_eq ((e + 1) &&& e) 0 (fun h0 => nm_r (pk_m1 e) (K _ ⟨by omega, fun t ht => ?_⟩)) (fun h0 => ?_) rfl rfl (Nat.lt_of_le_of_lt Nat.and_le_left (by omega)))
        · rw [hst (fun _ => h0), h2 t ht]
        · refine y_sh hr hn hb (by omega) h2 fun yl'' h3 => nm_r (pk_m1 e) (K _ ⟨by omega, fun t ht => ?_⟩)
          rw [h3 t ht, e2]
          simp only [l_L]
          rw [e3, Nat.add_sub_cancel, if_pos ⟨hL, h0⟩]
  · intro m t x ht h K
    refine br_f (nI_ge (b := 32) ht (by decide)) (pk_eq t 31 (fun e => ⟨vp_in_nI ht (by decide), nm_r (e' := upd x t (nI 1)) (by rw [nI_clamp (by omega), bv_t1]) (nm_r (nI_1 t) (K _ fun j hj => ?_))⟩) (fun e => ⟨vp_in_nI ht (by decide), nm_r (e' := upd x t (nI 0)) (by rw [nI_clamp (by omega), bv_t0]) (nm_r (nI_1 t) (K _ fun j hj => ?_))⟩))
    · by_cases e2 : j = t
      · subst e2; rw [pk_us]; simp [e]
      · exact (pk_un e2).trans (h j (by omega))
    · by_cases e2 : j = t
      · subst e2; rw [pk_us]; simp [e]
      · exact (pk_un e2).trans (h j (by omega))
end
end
section
theorem q_cn_pos {p : Nat → Bool} {n : Nat} : 0 < q_cn p n ↔ ∃ i, i < n ∧ p i = true := by
  constructor
  · intro h
    refine Classical.byContradiction fun g => ?_
    have : q_cn p n = 0 := q_cn_zero.mpr fun i hi => by
      cases e : p i
      · rfl
      · exact absurd ⟨i, hi, e⟩ g
    omega
  · rintro ⟨i, hi, h⟩
    refine Nat.pos_of_ne_zero fun z => ?_
    have := q_cn_zero.mp z i hi
    rw [h] at this; exact absurd this (by decide)
theorem q_cn_up (p : Nat → Bool) {a b : Nat} (h : a ≤ b) : q_cn p a ≤ q_cn p b := by
  induction b with
  | zero => have : a = 0 := by omega
            subst this; exact Nat.le_refl _
  | succ b ih =>
    by_cases e : a = b + 1
    · subst e; exact Nat.le_refl _
    · have := ih (by omega)
      simp only [q_cn]; omega
theorem q_cn_mono {p p' : Nat → Bool} {n : Nat} (h : ∀ i, i < n → p i = true → p' i = true) : q_cn p n ≤ q_cn p' n := by
  induction n with
  | zero => exact Nat.le_refl _
  | succ n ih =>
    have h1 := ih (fun i hi => h i (by omega))
    have h2 : (p n).toNat ≤ (p' n).toNat := by
      cases e : p n
      · exact Nat.zero_le _
      · rw [h n (by omega) e]; exact Nat.le_refl _
    simp only [q_cn]; omega
theorem q_cn_slt {p p' : Nat → Bool} {n i : Nat} (h : ∀ i, i < n → p i = true → p' i = true) (hi : i < n) (h1 : p i = false) (h2 : p' i = true) : q_cn p n < q_cn p' n := by
  induction n with
  | zero => omega
  | succ n ih =>
    simp only [q_cn]
    by_cases e : i = n
    · subst e
      have := q_cn_mono (p := p) (p' := p') (n := i) (fun j hj => h j (by omega))
      rw [h1, h2, Bool.toNat_true, Bool.toNat_false]; omega
    · have h3 := ih (fun j hj => h j (by omega)) (by omega)
      have h4 : (p n).toNat ≤ (p' n).toNat := by
        cases e : p n
        · exact Nat.zero_le _
        · rw [h n (by omega) e]; exact Nat.le_refl _
      omega
/-- at most k steps along E, over five -/
def r_W (E : Nat → Nat → Bool) : Nat → Nat → Nat → Bool
  | 0 => fun a b => decide (a = b)
  | k + 1 => fun a b => r_W E k a b || decide (0 < q_cn (fun c => r_W E k a c && E c b) 5)
theorem r_W_s {E : Nat → Nat → Bool} {k a b : Nat} : r_W E (k + 1) a b = true ↔ r_W E k a b = true ∨ ∃ c, c < 5 ∧ r_W E k a c = true ∧ E c b = true := by
  simp only [r_W, Bool.or_eq_true, decide_eq_true_eq, q_cn_pos, Bool.and_eq_true]
theorem r_W_up {E : Nat → Nat → Bool} {k a b : Nat} (h : r_W E k a b = true) : r_W E (k + 1) a b = true := r_W_s.mpr (Or.inl h)
theorem r_W_stab {E : Nat → Nat → Bool} {k a : Nat} (h : ∀ b, b < 5 → r_W E (k + 1) a b = true → r_W E k a b = true) : ∀ j, ∀ b, b < 5 → r_W E (k + j) a b = true → r_W E k a b = true := by
  intro j
  induction j with
  | zero => intro b _ hb; exact hb
  | succ j ih =>
    intro b hb hw
    rcases r_W_s.mp hw with hw | ⟨c, hc, hw, he⟩
    · exact ih b hb hw
    · exact h b hb (r_W_s.mpr (Or.inr ⟨c, hc, ih c hc hw, he⟩))
theorem r_W_45 {E : Nat → Nat → Bool} {a b : Nat} (ha : a < 5) (hb : b < 5) (h : r_W E 5 a b = true) : r_W E 4 a b = true := by
  have hcn : ∀ k, (∀ b, b < 5 → r_W E (k + 1) a b = true → r_W E k a b = true) ∨ q_cn (r_W E k a) 5 < q_cn (r_W E (k + 1) a) 5 := by
    intro k
    by_cases g : ∃ b, b < 5 ∧ r_W E (k + 1) a b = true ∧ r_W E k a b = false
    · obtain ⟨b, hb, h1, h2⟩ := g
      exact Or.inr (q_cn_slt (fun i _ hi => r_W_up hi) hb h2 h1)
    · refine Or.inl fun b hb h1 => ?_
      cases e : r_W E k a b
      · exact absurd ⟨b, hb, h1, e⟩ g
      · rfl
  have up : ∀ k j, r_W E k a b = true → r_W E (k + j) a b = true := by
    intro k j hk
    induction j with
    | zero => exact hk
    | succ j ih => exact r_W_up ih
  have h0 : 0 < q_cn (r_W E 0 a) 5 := q_cn_pos.mpr ⟨a, ha, by simp [r_W]⟩
  have hle := q_cn_le (r_W E 5 a) 5
  rcases hcn 0 with g | g0
  · exact up 0 4 (r_W_stab g 5 b hb h)
  rcases hcn 1 with g | g1
  · exact up 1 3 (r_W_stab g 4 b hb h)
  rcases hcn 2 with g | g2
  · exact up 2 2 (r_W_stab g 3 b hb h)
  rcases hcn 3 with g | g3
  · exact up 3 1 (r_W_stab g 2 b hb h)
  rcases hcn 4 with g | g4
  · exact g b hb h
  have g0' : q_cn (r_W E 0 a) 5 < q_cn (r_W E 1 a) 5 := g0
  have g1' : q_cn (r_W E 1 a) 5 < q_cn (r_W E 2 a) 5 := g1
  have g2' : q_cn (r_W E 2 a) 5 < q_cn (r_W E 3 a) 5 := g2
  have g3' : q_cn (r_W E 3 a) 5 < q_cn (r_W E 4 a) 5 := g3
  have g4' : q_cn (r_W E 4 a) 5 < q_cn (r_W E 5 a) 5 := g4
  omega
theorem r_W_e {E : Nat → Nat → Bool} {a b c : Nat} (ha : a < 5) (hb : b < 5) (hc : c < 5) (h : r_W E 4 a c = true) (he : E c b = true) : r_W E 4 a b = true :=
  r_W_45 ha hb (r_W_s.mpr (Or.inr ⟨c, hc, h, he⟩))
theorem r_W_t {E : Nat → Nat → Bool} {a c : Nat} (ha : a < 5) (hc : c < 5) (h : r_W E 4 a c = true) : ∀ k b, b < 5 → r_W E k c b = true → r_W E 4 a b = true := by
  intro k
  induction k with
  | zero =>
    intro b hb h2
    simp only [r_W, decide_eq_true_eq] at h2
    subst h2; exact h
  | succ k ih =>
    intro b hb h2
    rcases r_W_s.mp h2 with h2 | ⟨x, hx, h2, he⟩
    · exact ih b hb h2
    · exact r_W_e ha hb hx (ih x hx h2) he
theorem r_W_1 {E : Nat → Nat → Bool} {a b : Nat} (ha : a < 5) (hb : b < 5) (he : E a b = true) : r_W E 4 a b = true := by
  have : r_W E 1 a b = true := r_W_s.mpr (Or.inr ⟨a, ha, by simp [r_W], he⟩)
  exact r_W_up (r_W_up (r_W_up this))
/-- at least t -/
def r_E (g : Nat → Nat → Nat) (t a b : Nat) : Bool := decide (t ≤ g a b)
/-- the strengths of ways over g -/
def r_St (g s : Nat → Nat → Nat) : Prop := (∀ a b, a < 5 → b < 5 → s a b ≤ 9) ∧ (∀ a, a < 5 → s a a = 0) ∧ ∀ a b, a < 5 → b < 5 → a ≠ b → ∀ t, 1 ≤ t → (t ≤ s a b ↔ r_W (r_E g t) 4 a b = true)
theorem r_St_u {g s s' : Nat → Nat → Nat} (h : r_St g s) (h' : r_St g s') {a b : Nat} (ha : a < 5) (hb : b < 5) : s a b = s' a b := by
  by_cases e : a = b
  · subst e; rw [h.2.1 a ha, h'.2.1 a ha]
  · have k : ∀ t, 1 ≤ t → (t ≤ s a b ↔ t ≤ s' a b) := fun t ht => (h.2.2 a b ha hb e t ht).trans (h'.2.2 a b ha hb e t ht).symm
    have k1 := k (s a b)
    have k2 := k (s' a b)
    omega
/-- a sound matrix -/
def r_So (g s : Nat → Nat → Nat) : Prop := ∀ a b, a < 5 → b < 5 → a ≠ b → ∀ t, 1 ≤ t → t ≤ s a b → r_W (r_E g t) 4 a b = true
theorem r_So_0 (g : Nat → Nat → Nat) : r_So g g := fun a b ha hb _ t _ h => r_W_1 ha hb (decide_eq_true h)
theorem r_So_min {g s : Nat → Nat → Nat} (h : r_So g s) {a b c t : Nat} (ha : a < 5) (hb : b < 5) (hc : c < 5) (hac : a ≠ c) (hcb : c ≠ b) (ht : 1 ≤ t) (h1 : t ≤ s a c) (h2 : t ≤ s c b) : r_W (r_E g t) 4 a b = true :=
  r_W_t ha hc (h a c ha hc hac t ht h1) 4 b hb (h c b hc hb hcb t ht h2)
/-- a stage of the component -/
def p_st (s : Nat → Nat → Nat) (c : Nat) : Nat → Nat → Nat := fun a b => if a ≠ c ∧ b ≠ a ∧ b ≠ c then max (s a b) (min (s a c) (s c b)) else s a b
def p_W (g : Nat → Nat → Nat) : Nat → Nat → Nat → Nat
  | 0 => g
  | c + 1 => p_st (p_W g c) c
theorem p_W_9 {g : Nat → Nat → Nat} (hg : ∀ a b, a < 5 → b < 5 → g a b ≤ 9) : ∀ k, k ≤ 5 → ∀ a b, a < 5 → b < 5 → p_W g k a b ≤ 9 := by
  intro k
  induction k with
  | zero => intro _; exact hg
  | succ k ih =>
    intro hk a b ha hb
    have h1 := ih (by omega) a b ha hb
    have h2 := ih (by omega) a k ha (by omega)
    simp only [p_W, p_st]
    split <;> omega
theorem p_W_d {g : Nat → Nat → Nat} (hg : ∀ a, a < 5 → g a a = 0) : ∀ k, ∀ a, a < 5 → p_W g k a a = 0 := by
  intro k
  induction k with
  | zero => exact hg
  | succ k ih =>
    intro a ha
    simp only [p_W, p_st]
    rw [if_neg (by omega)]; exact ih a ha
theorem p_W_so (g : Nat → Nat → Nat) : ∀ k, k ≤ 5 → r_So g (p_W g k) := by
  intro k
  induction k with
  | zero => intro _; exact r_So_0 g
  | succ k ih =>
    intro hk a b ha hb hab t ht h
    have I := ih (by omega)
    simp only [p_W, p_st] at h
    split at h
    · rename_i hc
      by_cases h1 : t ≤ p_W g k a b
      · exact I a b ha hb hab t ht h1
      · exact r_So_min I ha hb (show k < 5 by omega) hc.1 (fun z => hc.2.2 z.symm) ht (by omega) (by omega)
    · exact I a b ha hb hab t ht h
theorem p_W_ge (g : Nat → Nat → Nat) : ∀ k a b, g a b ≤ p_W g k a b := by
  intro k
  induction k with
  | zero => intro a b; exact Nat.le_refl _
  | succ k ih =>
    intro a b
    have := ih a b
    simp only [p_W, p_st]
    split <;> omega
theorem p_W_cl (g : Nat → Nat → Nat) : ∀ k, k ≤ 5 → ∀ a b c, c < k → a ≠ b → a ≠ c → c ≠ b → min (p_W g k a c) (p_W g k c b) ≤ p_W g k a b := by
  intro k
  induction k with
  | zero => intro _ a b c hc; omega
  | succ k ih =>
    intro hk a b c hc hab hac hcb
    have I := ih (by omega)
    by_cases e : c = k
    · subst e
      simp only [p_W, p_st]
      rw [if_neg (by omega), if_neg (by omega), if_pos (by omega)]
      omega
    · have h1 := I a b c (by omega) hab hac hcb
      have h2 := I a k c (by omega)
      have h3 := I k b c (by omega)
      simp only [p_W, p_st]
      by_cases ea : a = k
      · subst ea
        have q1 : ∀ x, p_st (p_W g a) a a x = p_W g a a x := fun x => if_neg (fun z => z.1 rfl)
        show min (p_st (p_W g a) a a c) (p_st (p_W g a) a c b) ≤ p_st (p_W g a) a a b
        rw [q1, q1]
        unfold p_st
        split <;> omega
      · by_cases eb : b = k
        · subst eb
          rw [if_pos (by omega), if_neg (by omega), if_neg (by omega)]
          omega
        · rw [if_pos (by omega), if_pos (by omega), if_pos (by omega)]
          have h2' := h2 ea hac e
          have h3' := h3 (fun z => eb z.symm) (fun z => e z.symm) hcb
          omega
theorem p_W_St {g : Nat → Nat → Nat} (hg : ∀ a b, a < 5 → b < 5 → g a b ≤ 9) (h0 : ∀ a, a < 5 → g a a = 0) : r_St g (p_W g 5) := by
  refine ⟨p_W_9 hg 5 (by decide), p_W_d h0 5, fun a b ha hb hab t ht => ⟨p_W_so g 5 (by decide) a b ha hb hab t ht, ?_⟩⟩
  have k : ∀ j b, b < 5 → a ≠ b → r_W (r_E g t) j a b = true → t ≤ p_W g 5 a b := by
    intro j
    induction j with
    | zero =>
      intro b hb hab h
      simp only [r_W, decide_eq_true_eq] at h
      exact absurd h hab
    | succ j ih =>
      intro b hb hab h
      rcases r_W_s.mp h with h | ⟨c, hc, hw, he⟩
      · exact ih b hb hab h
      · have he := of_decide_eq_true he
        by_cases e1 : a = c
        · subst e1
          have := p_W_ge g 5 a b
          omega
        · by_cases e2 : c = b
          · subst e2; exact ih c hc hab hw
          · have h1 := ih c hc e1 hw
            have h2 := p_W_ge g 5 c b
            have h3 := p_W_cl g 5 (by decide) a b c hc hab e1 e2
            omega
  exact k 4 b hb hab
/-- complete for walks of at most r steps -/
def r_Cm (g s : Nat → Nat → Nat) (r : Nat) : Prop := ∀ a b, a < 5 → b < 5 → a ≠ b → ∀ t, 1 ≤ t → r_W (r_E g t) r a b = true → t ≤ s a b
theorem r_Cm_1 (g : Nat → Nat → Nat) : r_Cm g g 1 := by
  intro a b ha hb hab t ht h
  rcases r_W_s.mp h with h | ⟨c, hc, h, he⟩
  · simp only [r_W, decide_eq_true_eq] at h
    exact absurd h hab
  · simp only [r_W, decide_eq_true_eq] at h
    subst h; exact of_decide_eq_true he
theorem r_Cm_s {g s s' : Nat → Nat → Nat} {r : Nat} (hr : 1 ≤ r) (h : r_Cm g s r) (h1 : ∀ a b, a < 5 → b < 5 → s a b ≤ s' a b) (h2 : ∀ a b c, a < 5 → b < 5 → c < 5 → a ≠ b → a ≠ c → c ≠ b → min (s a c) (s c b) ≤ s' a b) : r_Cm g s' (r + 1) := by
  intro a b ha hb hab t ht hw
  have h3 := h1 a b ha hb
  rcases r_W_s.mp hw with hw | ⟨c, hc, hw2, he⟩
  · have := h a b ha hb hab t ht hw
    omega
  · have one : ∀ x y, x < 5 → y < 5 → x ≠ y → r_E g t x y = true → t ≤ s x y := by
      intro x y hx hy hxy hE
      refine h x y hx hy hxy t ht ?_
      have : r_W (r_E g t) 1 x y = true := r_W_s.mpr (Or.inr ⟨x, hx, by simp [r_W], hE⟩)
      have up : ∀ j, r_W (r_E g t) (1 + j) x y = true := by
        intro j
        induction j with
        | zero => exact this
        | succ j ih => exact r_W_up ih
      have := up (r - 1)
      rwa [show 1 + (r - 1) = r by omega] at this
    by_cases e1 : a = c
    · subst e1
      have := one a b ha hb hab he
      omega
    · by_cases e2 : c = b
      · subst e2
        have := h a c ha hc hab t ht hw2
        omega
      · have k1 := h a c ha hc e1 t ht hw2
        have k2 := one c b hc hb e2 he
        have k3 := h2 a b c ha hb hc hab e1 e2
        omega
theorem r_St_of {g s : Nat → Nat → Nat} (h9 : ∀ a b, a < 5 → b < 5 → s a b ≤ 9) (h0 : ∀ a, a < 5 → s a a = 0) (hs : r_So g s) (hc : r_Cm g s 5) : r_St g s :=
  ⟨h9, h0, fun a b ha hb hab t ht => ⟨hs a b ha hb hab t ht, fun h => hc a b ha hb hab t ht (r_W_up h)⟩⟩
/-- the component's closing of what one can come to -/
def r_C (R : Nat → Nat → Bool) : Nat → Nat → Nat → Bool
  | 0 => R
  | c + 1 => fun a b => r_C R c a b || (r_C R c a c && r_C R c c b)
theorem r_C_ge (R : Nat → Nat → Bool) : ∀ k a b, R a b = true → r_C R k a b = true := by
  intro k
  induction k with
  | zero => intro a b h; exact h
  | succ k ih => intro a b h; simp [r_C, ih a b h]
theorem r_C_s {R : Nat → Nat → Bool} {k a b : Nat} : r_C R (k + 1) a b = true ↔ r_C R k a b = true ∨ (r_C R k a k = true ∧ r_C R k k b = true) := by
  simp only [r_C, Bool.or_eq_true, Bool.and_eq_true]
theorem r_C_cl (R : Nat → Nat → Bool) : ∀ k a b c, c < k → r_C R k a c = true → r_C R k c b = true → r_C R k a b = true := by
  intro k
  induction k with
  | zero => intro a b c hc; omega
  | succ k ih =>
    intro a b c hc h1 h2
    rw [r_C_s] at h1 h2 ⊢
    by_cases e : c = k
    · subst e
      rcases h1 with h1 | h1
      · rcases h2 with h2 | h2
        · exact Or.inr ⟨h1, h2⟩
        · exact Or.inr ⟨h1, h2.2⟩
      · rcases h2 with h2 | h2
        · exact Or.inr ⟨h1.1, h2⟩
        · exact Or.inr ⟨h1.1, h2.2⟩
    · have I := fun a b => ih a b c (by omega)
      rcases h1 with h1 | h1
      · rcases h2 with h2 | h2
        · exact Or.inl (I a b h1 h2)
        · exact Or.inr ⟨I a k h1 h2.1, h2.2⟩
      · rcases h2 with h2 | h2
        · exact Or.inr ⟨h1.1, I k b h1.2 h2⟩
        · exact Or.inr ⟨h1.1, h2.2⟩
theorem r_C_tr {R : Nat → Nat → Bool} {a b c : Nat} (hc : c < 5) (h1 : r_C R 5 a c = true) (h2 : r_C R 5 c b = true) : r_C R 5 a b = true := r_C_cl R 5 a b c hc h1 h2
theorem r_C_min {R : Nat → Nat → Bool} {T : Nat → Nat → Prop} (h : ∀ a b, a < 5 → b < 5 → R a b = true → T a b) (ht : ∀ a b c, a < 5 → b < 5 → c < 5 → T a c → T c b → T a b) : ∀ k, k ≤ 5 → ∀ a b, a < 5 → b < 5 → r_C R k a b = true → T a b := by
  intro k
  induction k with
  | zero => intro _; exact h
  | succ k ih =>
    intro hk a b ha hb h1
    rcases r_C_s.mp h1 with h1 | h1
    · exact ih (by omega) a b ha hb h1
    · exact ht a b k ha hb (by omega) (ih (by omega) a k ha (by omega) h1.1) (ih (by omega) k b (by omega) hb h1.2)
theorem r_C_W {R : Nat → Nat → Bool} {a b : Nat} (ha : a < 5) (hb : b < 5) (hab : a ≠ b) : r_C R 5 a b = true ↔ r_W R 4 a b = true := by
  constructor
  · exact r_C_min (T := fun a b => r_W R 4 a b = true) (fun a b ha hb h => r_W_1 ha hb h) (fun a b c ha hb hc h1 h2 => r_W_t ha hc h1 4 b hb h2) 5 (by decide) a b ha hb
  · have k : ∀ j b, b < 5 → a ≠ b → r_W R j a b = true → r_C R 5 a b = true := by
      intro j
      induction j with
      | zero =>
        intro b hb hab h
        simp only [r_W, decide_eq_true_eq] at h
        exact absurd h hab
      | succ j ih =>
        intro b hb hab h
        rcases r_W_s.mp h with h | ⟨c, hc, h, he⟩
        · exact ih b hb hab h
        · by_cases e : a = c
          · subst e; exact r_C_ge R 5 a b he
          · exact r_C_tr hc (ih c hc e h) (r_C_ge R 5 c b he)
    exact k 4 b hb hab
end
section
theorem lp_good {W : Nat → Int32 → Int32 → Prop} (g0 : Bool) (bad : Nat → Bool) {J : Bool → Prop} (hx : ∀ n (g : Bool), J g → W (n + 1) (nI g.toNat) (nI 5)) (h0 : ∀ n b, b < 5 → J false → W (n + 1) (nI 0) (nI b)) (hs : ∀ n b, b < 5 → W n (nI (!bad b).toNat) (nI (b + 1)) → W (n + 1) (nI 1) (nI b)) (H : J (g0 && decide (q_cn bad 5 = 0))) : ∃ n, W n (nI g0.toNat) (nI 0) := by
  refine loop_0 (fun n b x => W n x (nI b)) (fun b x => x = nI (g0 && decide (q_cn bad b = 0)).toNat) 5 _ ?_ ?_ ?_
  · simp [q_cn]
  · rintro n _ rfl
    exact hx n _ H
  · rintro n b _ hb rfl K
    cases e : g0 && decide (q_cn bad b = 0)
    · refine h0 n b hb ?_
      have h5 : (g0 && decide (q_cn bad 5 = 0)) = false := by
        cases g0
        · rfl
        · rw [Bool.true_and, decide_eq_false_iff_not] at e ⊢
          have := q_cn_up bad (show b ≤ 5 by omega)
          omega
      rwa [h5] at H
    · rw [Bool.and_eq_true, decide_eq_true_eq] at e
      refine hs n b hb (K _ ?_)
      rw [e.1, Bool.true_and]
      simp only [q_cn, e.2]
      cases bad b <;> rfl
theorem lp_clr {W : Nat → Int32 → Int32 → Prop} {J : Int32 → Prop} {a : Nat} (ha : a < 5) (bad p : Nat → Bool) (hx : ∀ n x, J x → W (n + 1) x (nI 5)) (hs : ∀ n b x, b < 5 → (bad b = true → W n (x &&& (((1 : Int32) <<< (nI a &&& 31)) ^^^ (-1))) (nI (b + 1))) → (bad b = false → W n x (nI (b + 1))) → W (n + 1) x (nI b))
    (H : J (nI (q_mk (fun j => p j && (decide (j ≠ a) || decide (q_cn bad 5 = 0))) 5))) : ∃ n, W n (nI (q_mk p 5)) (nI 0) := by
  refine loop_0 (fun n b x => W n x (nI b)) (fun b x => x = nI (q_mk (fun j => p j && (decide (j ≠ a) || decide (q_cn bad b = 0))) 5)) 5 _ ?_ ?_ ?_
  · exact congrArg nI (q_mk_congr fun j hj => by simp [q_cn])
  · rintro n _ rfl
    exact hx n _ H
  · rintro n b _ hb rfl K
    refine hs n b _ hb (fun h => K _ ?_) (fun h => K _ ?_)
    · rw [bi_clr _ (by decide) (by omega)]
      refine congrArg nI (q_mk_congr fun j hj => ?_)
      simp only [q_cn, h, Bool.toNat_true]
      by_cases e : j = a
      · subst e; simp
      · simp [e]
    · refine congrArg nI (q_mk_congr fun j hj => ?_)
      simp only [q_cn, h, Bool.toNat_false, Nat.add_zero]
/-- the outer loop of clearing -/
theorem q_clr_s (good : Nat → Bool) (a : Nat) : q_mk (fun j => (decide (a ≤ j) || good j) && (decide (j ≠ a) || good a)) 5 = q_mk (fun j => decide (a + 1 ≤ j) || good j) 5 := by
  refine q_mk_congr fun j hj => ?_
  by_cases e : j = a
  · subst e
    have h : ¬ j + 1 ≤ j := by omega
    simp [h]
  · have h : decide (a ≤ j) = decide (a + 1 ≤ j) := by rw [decide_eq_decide]; omega
    simp [e, h]
theorem q_clr_0 (good : Nat → Bool) : 31 = q_mk (fun j => decide (0 ≤ j) || good j) 5 := by
  rw [q_mk_congr (p' := fun _ => true) (fun j hj => by simp), q_mk_all]
theorem q_clr_5 (good : Nat → Bool) : q_mk (fun j => decide (5 ≤ j) || good j) 5 = q_mk good 5 :=
  q_mk_congr fun j hj => by
    have h : ¬ 5 ≤ j := by omega
    simp [h]
def e_g (n : Nat) (d : Nat → Nat) (a b : Nat) : Nat := (e_m n d a b).toNat
theorem e_g_9 {n : Nat} (hn : n ≤ 9) (d : Nat → Nat) (a b : Nat) : e_g n d a b ≤ 9 := by
  have := e_m_r hn d a b
  unfold e_g; omega
theorem e_g_0 (n : Nat) (d : Nat → Nat) (a : Nat) : e_g n d a a = 0 := by
  unfold e_g; rw [e_m_self]; rfl
theorem e_g_b (n : Nat) (d : Nat → Nat) (a b : Nat) : r_E (e_g n d) 1 a b = e_b n d a b := by
  unfold r_E e_g e_b
  rw [decide_eq_decide]; omega
theorem p_st_mix (s F : Nat → Nat → Nat) (c a : Nat) (hF : ∀ x b, F x b = if x < a then p_st s c x b else s x b) (b : Nat) : p_st F c a b = p_st s c a b := by
  have h1 : F c b = s c b := by
    rw [hF]
    split
    · unfold p_st; rw [if_neg (fun z => z.1 rfl)]
    · rfl
  have h2 : ∀ x, F a x = s a x := fun x => by rw [hF, if_neg (by omega)]
  unfold p_st
  rw [h1, h2, h2]
/-- who wins by strengths -/
def r_wn (s : Nat → Nat → Nat) (a : Nat) : Bool := decide (q_cn (fun b => decide (s a b < s b a)) 5 = 0)
section
variable {xc xk xq : Int32} {xo xr xp xm xb xs xl xt xe xA xB xf xg xL xO xC xN : Nat → Int32}
theorem x_pO {post : SX → Prop} {a c : Nat} {s : Nat → Nat → Nat} (ha : a < 5) (hc : c < 5) (hac : a ≠ c) (h9 : ∀ a b, a < 5 → b < 5 → s a b ≤ 9) (ht : ∀ a b, a < 5 → b < 5 → xt (5 * a + b) = nI (s a b))
    (H : ∀ xt', (∀ a' b, a' < 5 → b < 5 → xt' (5 * a' + b) = nI (if a' = a then p_st s c a b else s a' b)) → post (xc, xk, xq, xo, xr, xp, xm, xb, xs, xl, xt', xe, xA, xB, xf, xg, xL, xO, xC, xN)) : wpX_passOver post (xc, xk, xq, xo, xr, xp, xm, xb, xs, xl, xt, xe, xA, xB, xf, xg, xL, xO, xC, xN) (nI a) (nI c) := by
  refine loop_0 (fun m b (x : Nat → Int32) => wX_passOver_2 post (nI a) (nI c) xc xk xq m (nI b) xo xr xp xm xb xs xl x xe xA xB xf xg xL xO xC xN) (fun b x => ∀ a' b', a' < 5 → b' < 5 → x (5 * a' + b') = nI (if a' = a ∧ b' < b then p_st s c a b' else s a' b')) 5 xt (fun a' b' h1 h2 => by rw [if_neg (by omega)]; exact ht a' b' h1 h2) ?_ ?_
  · intro m x h
    refine br_t (Int32.le_refl _) (H x fun a' b' h1 h2 => ?_)
    rw [h a' b' h1 h2]
    by_cases e : a' = a
    · rw [if_pos ⟨e, h2⟩, if_pos e]
    · rw [if_neg (fun z => e z.1), if_neg e]
  · intro m b x hb h K
    have same : p_st s c a b = s a b → ∀ a' b', a' < 5 → b' < 5 → x (5 * a' + b') = nI (if a' = a ∧ b' < b + 1 then p_st s c a b' else s a' b') := by
      intro he a' b' h1 h2
      rw [h a' b' h1 h2]
      by_cases e : a' = a ∧ b' = b
      · obtain ⟨rfl, rfl⟩ := e
        rw [if_neg (by omega), if_pos (by omega), he]
      · by_cases e2 : a' = a ∧ b' < b
        · rw [if_pos e2, if_pos (by omega)]
        · rw [if_neg e2, if_neg (by omega)]
    refine br_f (nI_ge (b := 5) hb (by decide)) (pk_eq b a (fun e => nm_r (nI_1 b) (K _ (same ?_))) (fun eba => pk_eq b c (fun e => nm_r (nI_1 b) (K _ (same ?_))) (fun ebc => ⟨bi_in (m := 5) ha hc (by decide) (by decide), bi_in (m := 5) hc hb (by decide) (by decide), ?_⟩)))
    · unfold p_st; rw [if_neg (fun z => z.2.1 e)]
    · unfold p_st; rw [if_neg (fun z => z.2.2 e)]
    · have v1 : x ((5 : Int32) * nI a + nI c).toNatClampNeg = nI (s a c) := by
        rw [bi_ic (by omega) (by omega), h a c ha hc]
        split
        · unfold p_st; rw [if_neg (fun z => z.2.2 rfl)]
        · rfl
      have v2 : x ((5 : Int32) * nI c + nI b).toNatClampNeg = nI (s c b) := by
        rw [bi_ic (by omega) (by omega), h c b hc hb, if_neg (fun z => hac z.1.symm)]
      have v3 : x ((5 : Int32) * nI a + nI b).toNatClampNeg = nI (s a b) := by
        rw [bi_ic (by omega) (by omega), h a b ha hb, if_neg (by omega)]
      have l1 := h9 a c ha hc
      have l2 := h9 c b hc hb
      have l3 := h9 a b ha hb
      have ps : p_st s c a b = max (s a b) (min (s a c) (s c b)) := by unfold p_st; rw [if_pos ⟨hac, eba, ebc⟩]
      have T : ∀ z, z = min (s a c) (s c b) → wX_passOver_66 post (wX_passOver_2 post (nI a) (nI c) xc xk xq m) (nI a) (nI c) (nI b) (nI z) xc xk xq xo xr xp xm xb xs xl x xe xA xB xf xg xL xO xC xN := by
        intro z hz
        refine ⟨bi_in (m := 5) ha hb (by decide) (by decide), ?_⟩
        rw [v3]
        refine pk_le z (s a b) (fun hle => nm_r (nI_1 b) (K _ (same (by omega)))) (fun hgt => ⟨bi_in (m := 5) ha hb (by decide) (by decide), nm_r (e' := upd x (5 * a + b) (nI z)) (by rw [bi_ic (by omega) (by omega), bv_b2 (by omega)]) (nm_r (nI_1 b) (K _ fun a' b' h1 h2 => ?_))⟩)
        by_cases e : a' = a ∧ b' = b
        · obtain ⟨rfl, rfl⟩ := e
          rw [pk_us, if_pos (by omega), ps]
          exact congrArg nI (by omega)
        · rw [pk_un (by omega), h a' b' h1 h2]
          by_cases e2 : a' = a ∧ b' < b
          · rw [if_pos e2, if_pos (by omega)]
          · rw [if_neg e2, if_neg (by omega)]
      rw [v1, v2]
      exact pk_le (s c b) (s a c) (fun hle => ⟨bi_in (m := 5) hc hb (by decide) (by decide), T _ (by omega)⟩) (fun hgt => ⟨bi_in (m := 5) ha hc (by decide) (by decide), T _ (by omega)⟩)
theorem x_fSt {post : SX → Prop} {n : Nat} {d : Nat → Nat} (hn : n ≤ 9) (hm : ∀ a b, a < 5 → b < 5 → xm (5 * a + b) = zI (e_m n d a b)) (H : ∀ xt' s, r_St (e_g n d) s → (∀ a b, a < 5 → b < 5 → xt' (5 * a + b) = nI (s a b)) → post (xc, xk, xq, xo, xr, xp, xm, xb, xs, xl, xt', xe, xA, xB, xf, xg, xL, xO, xC, xN)) : wpX_findStrengths post (xc, xk, xq, xo, xr, xp, xm, xb, xs, xl, xt, xe, xA, xB, xf, xg, xL, xO, xC, xN) := by
  have h9 := p_W_9 (fun a b (_ : a < 5) (_ : b < 5) => e_g_9 hn d a b)
  refine loop_0 (fun m k (x : Nat → Int32) => wX_findStrengths_2 post xc xk xq m (nI k) xo xr xp xm xb xs xl x xe xA xB xf xg xL xO xC xN) (fun k x => ∀ j, j < k → x j = nI (e_g n d (j / 5) (j % 5))) 25 xt (fun j h => by omega) ?_ ?_
  · intro m x h
    refine br_t (Int32.le_refl _) ?_
    refine loop_0 (fun m c (x : Nat → Int32) => wX_findStrengths_41 post m (nI c) xc xk xq xo xr xp xm xb xs xl x xe xA xB xf xg xL xO xC xN) (fun c x => ∀ a b, a < 5 → b < 5 → x (5 * a + b) = nI (p_W (e_g n d) c a b)) 5 x (fun a b ha hb => by rw [h _ (by omega), show (5 * a + b) / 5 = a by omega, show (5 * a + b) % 5 = b by omega]; rfl) ?_ ?_
    · intro m x h
      exact br_t (Int32.le_refl _) (H x _ (p_W_St (fun a b _ _ => e_g_9 hn d a b) (fun a _ => e_g_0 n d a)) h)
    · intro m c x hc h K
      refine br_f (nI_ge (b := 5) hc (by decide)) ?_
      have g9 := h9 c (by omega)
      have g9' : ∀ a b, a < 5 → b < 5 → p_st (p_W (e_g n d) c) c a b ≤ 9 := h9 (c + 1) (by omega)
      refine loop_0 (fun m' a (x : Nat → Int32) => wX_findStrengths_48 post (wX_findStrengths_41 post m) (nI c) m' (nI a) xc xk xq xo xr xp xm xb xs xl x xe xA xB xf xg xL xO xC xN) (fun a x => ∀ a' b, a' < 5 → b < 5 → x (5 * a' + b) = nI (if a' < a then p_st (p_W (e_g n d) c) c a' b else p_W (e_g n d) c a' b)) 5 x (fun a' b h1 h2 => by rw [if_neg (by omega)]; exact h a' b h1 h2) ?_ ?_
      · intro m' x h
        refine br_t (Int32.le_refl _) (nm_r (nI_1 c) (K x fun a b ha hb => ?_))
        rw [h a b ha hb, if_pos ha]; rfl
      · intro m' a x ha h K'
        refine br_f (nI_ge (b := 5) ha (by decide)) (pk_eq a c (fun e => nm_r (nI_1 a) (K' x fun a' b h1 h2 => ?_)) (fun e => ?_))
        · rw [h a' b h1 h2]
          by_cases e2 : a' = a
          · subst e2
            rw [if_neg (by omega), if_pos (by omega)]
            unfold p_st; rw [if_neg (fun z => z.1 e)]
          · by_cases e3 : a' < a
            · rw [if_pos e3, if_pos (by omega)]
            · rw [if_neg e3, if_neg (by omega)]
        · refine x_pO (s := fun a' b => if a' < a then p_st (p_W (e_g n d) c) c a' b else p_W (e_g n d) c a' b) ha hc e ?_ h fun x' h' => nm_r (nI_1 a) (K' x' fun a' b h1 h2 => ?_)
          · intro a' b h1 h2
            split
            · exact g9' a' b h1 h2
            · exact g9 a' b h1 h2
          · rw [h' a' b h1 h2]
            refine congrArg nI ?_
            by_cases e2 : a' = a
            · subst e2
              rw [if_pos rfl, if_pos (by omega)]
              exact p_st_mix (p_W (e_g n d) c) _ c a' (fun _ _ => rfl) b
            · rw [if_neg e2]
              by_cases e3 : a' < a
              · rw [if_pos e3, if_pos (by omega)]
              · rw [if_neg e3, if_neg (by omega)]
  · intro m k x hk h K
    have r := e_m_r hn d (k / 5) (k % 5)
    have em : xm (nI k).toNatClampNeg = zI (e_m n d (k / 5) (k % 5)) := by
      have := hm (k / 5) (k % 5) (by omega) (by omega)
      rw [show 5 * (k / 5) + k % 5 = k by omega] at this
      rw [nI_clamp (by omega), this]
    have U : ∀ v, v = nI (e_g n d (k / 5) (k % 5)) → ∀ j, j < k + 1 → upd x k v j = nI (e_g n d (j / 5) (j % 5)) := by
      rintro _ rfl j hj
      by_cases e : j = k
      · subst e; exact pk_us
      · exact (pk_un e).trans (h j (by omega))
    refine br_f (nI_ge (b := 25) hk (by decide)) ⟨vp_in_nI hk (by decide), ?_⟩
    rw [em, nI_clamp (by omega)]
    refine zb_le (e_m n d (k / 5) (k % 5)) 0 (fun hle => ⟨vp_in_nI hk (by decide), nm_r rfl (nm_r (nI_1 k) (K _ (U _ ?_)))⟩) (fun hgt => ⟨vp_in_nI hk (by decide), vp_in_nI hk (by decide), nm_r rfl (nm_r (nI_1 k) (K _ (U _ ?_)))⟩) (by omega) (by omega)
    · rw [bv_b0]
      unfold e_g
      rw [Int.toNat_of_nonpos hle]; rfl
    · rw [zI_vb (by omega) (by omega)]
      unfold e_g
      rw [← zI_nat, Int.toNat_of_nonneg (by omega)]
theorem x_bS {post : Int32 → SX → Prop} {n : Nat} {d : Nat → Nat} {u : SX} (R : rx_K n d u) (H : ∀ u' s, r_St (e_g n d) s → rx_K n d u' → post (nI (q_mk (r_wn s) 5)) u') : wpX_byStrength post u := by
  obtain ⟨xc, xk, xq, xo, xr, xp, xm, xb, xs, xl, xt, xe, xA, xB, xf, xg, xL, xO, xC, xN⟩ := u
  obtain ⟨rfl, rfl, hok, hb, hcn⟩ := R
  have hn := hok.1
  unfold wpX_byStrength
  refine x_fSt hn hcn.2.1 fun x s hs hx => ?_
  refine loop_0 (fun m a (y : Int32) => wX_byStrength_8 post (nI n) 1 xq xo xr xp xm xb xs xl x xe xA xB xf xg xL xO xC xN m y (nI a)) (fun a y => y = nI (q_mk (r_wn s) a)) 5 0 rfl ?_ ?_
  · rintro m _ rfl
    exact br_t (Int32.le_refl _) (H _ s hs ⟨rfl, rfl, hok, hb, hcn⟩)
  · rintro m a _ ha rfl K
    refine br_f (nI_ge (b := 5) ha (by decide)) ?_
    have T : ∀ g, g = r_wn s a → wX_byStrength_65 post (wX_byStrength_8 post (nI n) 1 xq xo xr xp xm xb xs xl x xe xA xB xf xg xL xO xC xN m) (nI (q_mk (r_wn s) a)) (nI a) (nI g.toNat) (nI n) 1 xq xo xr xp xm xb xs xl x xe xA xB xf xg xL xO xC xN := by
      rintro g hg
      cases g
      · exact br_t rfl (nm_r (nI_1 a) (K _ (by rw [bi_skip _ hg.symm])))
      · exact br_f (by decide) (nm_r (bi_add _ (by omega) hg.symm) (nm_r (nI_1 a) (K _ rfl)))
    refine lp_good (W := fun m' y z => wX_byStrength_18 post (wX_byStrength_8 post (nI n) 1 xq xo xr xp xm xb xs xl x xe xA xB xf xg xL xO xC xN m) (nI (q_mk (r_wn s) a)) (nI a) (nI n) 1 xq xo xr xp xm xb xs xl x xe xA xB xf xg xL xO xC xN m' y z) true (fun b => decide (s a b < s b a)) (J := fun g => g = r_wn s a) ?_ ?_ ?_ rfl
    · intro m' g hg
      exact br_t (Int32.le_refl _) (T g hg)
    · intro m' b hb5 hg
      exact br_f (nI_ge (b := 5) hb5 (by decide)) (br_t rfl (T false hg))
    · intro m' b hb5 K'
      have l1 := hs.1 a b ha hb5
      have l2 := hs.1 b a hb5 ha
      refine br_f (nI_ge (b := 5) hb5 (by decide)) (br_f (by decide) ⟨bi_in (m := 5) ha hb5 (by decide) (by decide), bi_in (m := 5) hb5 ha (by decide) (by decide), ?_⟩)
      rw [bi_ic (by omega) (by omega), bi_ic (by omega) (by omega), hx a b ha hb5, hx b a hb5 ha]
      refine pk_lt (s a b) (s b a) (fun h => nm_r (nI_1 b) ?_) (fun h => nm_r (nI_1 b) ?_)
      · rw [decide_eq_true h] at K'; exact K'
      · rw [decide_eq_false (show ¬ s a b < s b a by omega)] at K'; exact K'
theorem x_str {post : Int32 → SX → Prop} {n a b : Nat} {d : Nat → Nat} {u : SX} (R : rx_S n d u) (ha : a < 5) (hb : b < 5) (hab : a ≠ b) (H : ∀ u' s, r_St (e_g n d) s → rx_S n d u' → post (nI (s a b)) u') : wpX_strength post u (nI a) (nI b) := by
  have C : wpX_countAll (fun u => wpX_findStrengths (fun u => match u with | (xc, xk, xq, xo, xr, xp, xm, xb, xs, xl, xt, xe, xA, xB, xf, xg, xL, xO, xC, xN) => (vp_in ((5 * (nI a)) + (nI b)) 25 ∧ (post (xt ((5 * (nI a)) + (nI b)).toNatClampNeg) (xc, xk, xq, xo, xr, xp, xm, xb, xs, xl, xt, xe, xA, xB, xf, xg, xL, xO, xC, xN)))) u) u := by
    refine x_countAll R fun u' R' => ?_
    obtain ⟨xc, xk, xq, xo, xr, xp, xm, xb, xs, xl, xt, xe, xA, xB, xf, xg, xL, xO, xC, xN⟩ := u'
    obtain ⟨rfl, rfl, hok, hbl, hcn⟩ := R'
    refine x_fSt hok.1 hcn.2.1 fun x s hs hx => ⟨bi_in (m := 5) ha hb (by decide) (by decide), ?_⟩
    rw [bi_ic (by omega) (by omega), hx a b ha hb]
    exact H _ s hs ⟨rfl, hok, hbl, Or.inr ⟨rfl, hcn⟩⟩
  obtain ⟨xc, xk, xq, xo, xr, xp, xm, xb, xs, xl, xt, xe, xA, xB, xf, xg, xL, xO, xC, xN⟩ := u
  unfold wpX_strength
  exact x_isC_t ha (br_f (by decide) (x_isC_t hb (br_f (by decide) (pk_eq a b (fun e => absurd e hab) (fun _ => C)))))
theorem x_str_f {post : Int32 → SX → Prop} {v1 v2 : Int32} {u : SX} (h : ¬ ∃ a b, a < 5 ∧ b < 5 ∧ a ≠ b ∧ v1 = nI a ∧ v2 = nI b) (H : post 0 u) : wpX_strength post u v1 v2 := by
  obtain ⟨xc, xk, xq, xo, xr, xp, xm, xb, xs, xl, xt, xe, xA, xB, xf, xg, xL, xO, xC, xN⟩ := u
  unfold wpX_strength
  by_cases h1 : ∃ a, a < 5 ∧ v1 = nI a
  · obtain ⟨a, ha, rfl⟩ := h1
    refine x_isC_t ha (br_f (by decide) ?_)
    by_cases h2 : ∃ b, b < 5 ∧ v2 = nI b
    · obtain ⟨b, hb, rfl⟩ := h2
      refine x_isC_t hb (br_f (by decide) (br_t ?_ H))
      have : a = b := Classical.byContradiction fun e => h ⟨a, b, ha, hb, e, rfl, rfl⟩
      rw [this]
    · exact x_isC_f h2 (br_t rfl H)
  · exact x_isC_f h1 (br_t rfl H)
end
end
section
theorem r_wn_u {g s s' : Nat → Nat → Nat} (h : r_St g s) (h' : r_St g s') : q_mk (r_wn s) 5 = q_mk (r_wn s') 5 := by
  refine q_mk_congr fun a ha => ?_
  unfold r_wn
  rw [q_cn_congr fun b hb => ?_]
  rw [r_St_u h h' ha hb, r_St_u h h' hb ha]
def r_an (s : Nat → Nat → Nat) (a : Nat) : Bool := decide (q_cn (fun b => decide (0 < s b a) && decide (s a b = 0)) 5 = 0)
def r_ur (R : Nat → Nat → Bool) (a : Nat) : Bool := decide (q_cn (fun b => R b a && !R a b) 5 = 0)
theorem r_an_ur {n : Nat} {d : Nat → Nat} {s : Nat → Nat → Nat} (h : r_St (e_g n d) s) : q_mk (r_an s) 5 = q_mk (r_ur (r_C (e_b n d) 5)) 5 := by
  refine q_mk_congr fun a ha => ?_
  unfold r_an r_ur
  have e : r_E (e_g n d) 1 = e_b n d := by funext x y; exact e_g_b n d x y
  have k : ∀ x y, x < 5 → y < 5 → x ≠ y → (0 < s x y ↔ r_C (e_b n d) 5 x y = true) := by
    intro x y hx hy hxy
    rw [r_C_W hx hy hxy, ← e]
    exact h.2.2 x y hx hy hxy 1 (Nat.le_refl 1)
  rw [q_cn_congr fun b hb => ?_]
  by_cases eab : a = b
  · subst eab
    rw [h.2.1 a ha]
    cases r_C (e_b n d) 5 a a <;> rfl
  · have k1 := k a b ha hb eab
    have k2 := k b a hb ha (fun z => eab z.symm)
    have e1 : decide (0 < s b a) = r_C (e_b n d) 5 b a := q_beq (by rw [decide_eq_true_eq]; exact k2)
    have e2 : decide (s a b = 0) = !r_C (e_b n d) 5 a b := by
      refine q_beq ?_
      rw [decide_eq_true_eq, Bool.not_eq_true']
      constructor
      · intro z
        cases c : r_C (e_b n d) 5 a b
        · rfl
        · have := k1.mpr c
          omega
      · intro z
        refine Nat.eq_zero_of_not_pos fun c => ?_
        rw [k1.mp c] at z
        exact absurd z (by decide)
    rw [e1, e2]
/-- inside a round of lengthening -/
def r_In (g s : Nat → Nat → Nat) (k c : Nat) (x : Nat → Int32) : Prop := ∃ m : Nat → Nat → Nat, (∀ a b, a < 5 → b < 5 → m a b ≤ 9) ∧ (∀ a, a < 5 → m a a = 0) ∧ r_So g m ∧ (∀ a b, a < 5 → b < 5 → s a b ≤ m a b) ∧ (∀ a b c', a < 5 → b < 5 → c' < 5 → a ≠ b → a ≠ c' → c' ≠ b → (5 * a + b < k ∨ (5 * a + b = k ∧ c' < c)) → min (s a c') (s c' b) ≤ m a b) ∧ ∀ a b, a < 5 → b < 5 → x (5 * a + b) = nI (m a b)
section
variable {yn yq : Int32} {yo yp ym yt yl yb yw yk yh yC yN : Nat → Int32}
theorem y_len {post : SY → Prop} {g s : Nat → Nat → Nat} (h9 : ∀ a b, a < 5 → b < 5 → s a b ≤ 9) (h0 : ∀ a, a < 5 → s a a = 0) (hs : r_So g s) (ht : ∀ a b, a < 5 → b < 5 → yt (5 * a + b) = nI (s a b))
    (H : ∀ yt', r_In g s 25 0 yt' → post (yn, yq, yo, yp, ym, yt', yl, yb, yw, yk, yh, yC, yN)) : wpY_lengthen post (yn, yq, yo, yp, ym, yt, yl, yb, yw, yk, yh, yC, yN) := by
  refine loop_0 (fun m k (x : Nat → Int32) => wY_lengthen_2 post yn yq m (nI k) yo yp ym x yl yb yw yk yh yC yN) (fun k x => r_In g s k 0 x) 25 yt ⟨s, h9, h0, hs, fun _ _ _ _ => Nat.le_refl _, fun a b c' _ _ _ _ _ _ h => by omega, ht⟩ ?_ ?_
  · intro m x h
    exact br_t (Int32.le_refl _) (H x h)
  · intro m k x hk h K
    refine br_f (nI_ge (b := 25) hk (by decide)) ⟨by decide, nm_r (o_div (by omega)) ⟨by decide, nm_r (o_rem (by omega)) ?_⟩⟩
    have ha : k / 5 < 5 := by omega
    have hb : k % 5 < 5 := by omega
    have hkk : 5 * (k / 5) + k % 5 = k := by omega
    generalize k / 5 = a at ha hkk
    generalize k % 5 = b at hb hkk
    refine loop_0 (fun m' c (x : Nat → Int32) => wY_lengthen_19 post (wY_lengthen_2 post yn yq m) (nI k) (nI a) (nI b) yn yq m' (nI c) yo yp ym x yl yb yw yk yh yC yN) (fun c x => r_In g s k c x) 5 x h ?_ ?_
    · rintro m' x ⟨M, i1, i2, i3, i4, i5, i6⟩
      refine br_t (Int32.le_refl _) (nm_r (nI_1 k) (K x ⟨M, i1, i2, i3, i4, fun a b c' q1 q2 q3 q4 q5 q6 q7 => i5 a b c' q1 q2 q3 q4 q5 q6 (by omega), i6⟩))
    · rintro m' c x hc ⟨M, i1, i2, i3, i4, i5, i6⟩ K'
      have l1 := i1 a c ha hc
      have l2 := i1 c b hc hb
      have l3 := i1 a b ha hb
      have v1 : x ((5 : Int32) * nI a + nI c).toNatClampNeg = nI (M a c) := by rw [bi_ic (by omega) (by omega), i6 a c ha hc]
      have v2 : x ((5 : Int32) * nI c + nI b).toNatClampNeg = nI (M c b) := by rw [bi_ic (by omega) (by omega), i6 c b hc hb]
      have v3 : x (nI k).toNatClampNeg = nI (M a b) := by rw [nI_clamp (by omega), ← hkk, i6 a b ha hb]
      have skip : (a ≠ b → a ≠ c → c ≠ b → min (M a c) (M c b) ≤ M a b) → r_In g s k (c + 1) x := by
        intro hz
        refine ⟨M, i1, i2, i3, i4, fun a' b' c' q1 q2 q3 q4 q5 q6 q7 => ?_, i6⟩
        by_cases e : 5 * a' + b' = k ∧ c' = c
        · obtain ⟨e1, e2⟩ := e
          have e3 : a' = a := by omega
          have e4 : b' = b := by omega
          subst e2 e3 e4
          have z := hz q4 q5 q6
          have z1 := i4 a' c' q1 q3
          have z2 := i4 c' b' q3 q2
          omega
        · exact i5 a' b' c' q1 q2 q3 q4 q5 q6 (by omega)
      have T : ∀ z, z = min (M a c) (M c b) → wY_lengthen_75 post (wY_lengthen_2 post yn yq m) (wY_lengthen_19 post (wY_lengthen_2 post yn yq m) (nI k) (nI a) (nI b) yn yq m') (nI k) (nI a) (nI b) (nI c) (nI z) yn yq yo yp ym x yl yb yw yk yh yC yN := by
        intro z hz
        refine pk_eq a b (fun e => nm_r (nI_1 c) (K' x (skip fun q _ _ => absurd e q))) (fun eab => pk_eq c a (fun e => nm_r (nI_1 c) (K' x (skip fun _ q _ => absurd e.symm q))) (fun eca => pk_eq c b (fun e => nm_r (nI_1 c) (K' x (skip fun _ _ q => absurd e q))) (fun ecb => ⟨vp_in_nI hk (by decide), ?_⟩)))
        rw [v3]
        refine pk_le z (M a b) (fun hle => nm_r (nI_1 c) (K' x (skip fun _ _ _ => by omega))) (fun hgt => ⟨vp_in_nI hk (by decide), nm_r (e' := upd x k (nI z)) (by rw [nI_clamp (by omega)]) (nm_r (nI_1 c) (K' _ ?_))⟩)
        refine ⟨fun x' y' => if x' = a ∧ y' = b then z else M x' y', ?_, ?_, ?_, ?_, ?_, ?_⟩
        · intro a' b' q1 q2
          have := i1 a' b' q1 q2
          dsimp only
          split <;> omega
        · intro a' q1
          dsimp only
          rw [if_neg (by omega)]; exact i2 a' q1
        · intro a' b' q1 q2 q3 t q4 q5
          dsimp only at q5
          split at q5
          · rename_i e
            obtain ⟨rfl, rfl⟩ := e
            exact r_So_min i3 q1 q2 hc (fun e => eca e.symm) ecb q4 (by omega) (by omega)
          · exact i3 a' b' q1 q2 q3 t q4 q5
        · intro a' b' q1 q2
          have := i4 a' b' q1 q2
          dsimp only
          split
          · rename_i e
            obtain ⟨rfl, rfl⟩ := e
            omega
          · exact this
        · intro a' b' c' q1 q2 q3 q4 q5 q6 q7
          dsimp only
          by_cases e : a' = a ∧ b' = b
          · rw [if_pos e]
            obtain ⟨rfl, rfl⟩ := e
            by_cases e2 : c' = c
            · subst e2
              have z1 := i4 a' c' q1 q3
              have z2 := i4 c' b' q3 q2
              omega
            · have := i5 a' b' c' q1 q2 q3 q4 q5 q6 (by omega)
              omega
          · rw [if_neg e]
            exact i5 a' b' c' q1 q2 q3 q4 q5 q6 (by omega)
        · intro a' b' q1 q2
          dsimp only
          by_cases e : a' = a ∧ b' = b
          · rw [if_pos e]
            obtain ⟨rfl, rfl⟩ := e
            rw [hkk]; exact pk_us
          · rw [if_neg e, pk_un (by omega)]; exact i6 a' b' q1 q2
      refine br_f (nI_ge (b := 5) hc (by decide)) ⟨bi_in (m := 5) ha hc (by decide) (by decide), bi_in (m := 5) hc hb (by decide) (by decide), ?_⟩
      rw [v1, v2]
      exact pk_le (M c b) (M a c) (fun hle => ⟨bi_in (m := 5) hc hb (by decide) (by decide), T _ (by omega)⟩) (fun hgt => ⟨bi_in (m := 5) ha hc (by decide) (by decide), T _ (by omega)⟩)
theorem y_fSt {post : SY → Prop} {n : Nat} {d : Nat → Nat} (hn : n ≤ 9) (hm : ∀ a b, a < 5 → b < 5 → ym (5 * a + b) = zI (e_m n d a b)) (H : ∀ yt' s, r_St (e_g n d) s → (∀ a b, a < 5 → b < 5 → yt' (5 * a + b) = nI (s a b)) → post (yn, yq, yo, yp, ym, yt', yl, yb, yw, yk, yh, yC, yN)) : wpY_findStrengths post (yn, yq, yo, yp, ym, yt, yl, yb, yw, yk, yh, yC, yN) := by
  refine loop_0 (fun m k (x : Nat → Int32) => wY_findStrengths_2 post yn yq m (nI k) yo yp ym x yl yb yw yk yh yC yN) (fun k x => ∀ j, j < k → x j = nI (e_g n d (j / 5) (j % 5))) 25 yt (fun j h => by omega) ?_ ?_
  · intro m x h
    refine br_t (Int32.le_refl _) ?_
    refine loop_0 (fun m r (x : Nat → Int32) => wY_findStrengths_41 post m (nI r) yn yq yo yp ym x yl yb yw yk yh yC yN) (fun r x => ∃ s, (∀ a b, a < 5 → b < 5 → s a b ≤ 9) ∧ (∀ a, a < 5 → s a a = 0) ∧ r_So (e_g n d) s ∧ r_Cm (e_g n d) s (r + 1) ∧ ∀ a b, a < 5 → b < 5 → x (5 * a + b) = nI (s a b)) 4 x ⟨e_g n d, fun a b _ _ => e_g_9 hn d a b, fun a _ => e_g_0 n d a, r_So_0 _, r_Cm_1 _, fun a b ha hb => by rw [h _ (by omega), show (5 * a + b) / 5 = a by omega, show (5 * a + b) % 5 = b by omega]⟩ ?_ ?_
    · rintro m x ⟨s, q1, q2, q3, q4, q5⟩
      exact br_t (Int32.le_refl _) (H x s (r_St_of q1 q2 q3 q4) q5)
    · rintro m r x hr ⟨s, q1, q2, q3, q4, q5⟩ K
      refine br_f (nI_ge (b := 4) hr (by decide)) (y_len q1 q2 q3 q5 ?_)
      rintro x' ⟨M, i1, i2, i3, i4, i5, i6⟩
      exact nm_r (nI_1 r) (K x' ⟨M, i1, i2, i3, r_Cm_s (by omega) q4 i4 (fun a b c p1 p2 p3 p4 p5 p6 => i5 a b c p1 p2 p3 p4 p5 p6 (by omega)), i6⟩)
  · intro m k x hk h K
    have r := e_m_r hn d (k / 5) (k % 5)
    have em : ym (nI k).toNatClampNeg = zI (e_m n d (k / 5) (k % 5)) := by
      have := hm (k / 5) (k % 5) (by omega) (by omega)
      rw [show 5 * (k / 5) + k % 5 = k by omega] at this
      rw [nI_clamp (by omega), this]
    have U : ∀ v, v = nI (e_g n d (k / 5) (k % 5)) → ∀ j, j < k + 1 → upd x k v j = nI (e_g n d (j / 5) (j % 5)) := by
      rintro _ rfl j hj
      by_cases e : j = k
      · subst e; exact pk_us
      · exact (pk_un e).trans (h j (by omega))
    refine br_f (nI_ge (b := 25) hk (by decide)) ⟨vp_in_nI hk (by decide), ?_⟩
    rw [em, nI_clamp (by omega)]
    refine zb_le (e_m n d (k / 5) (k % 5)) 0 (fun hle => ⟨vp_in_nI hk (by decide), nm_r rfl (nm_r (nI_1 k) (K _ (U _ ?_)))⟩) (fun hgt => ⟨vp_in_nI hk (by decide), vp_in_nI hk (by decide), nm_r rfl (nm_r (nI_1 k) (K _ (U _ ?_)))⟩) (by omega) (by omega)
    · unfold e_g
      rw [Int.toNat_of_nonpos hle]; rfl
    · unfold e_g
      rw [← zI_nat, Int.toNat_of_nonneg (by omega)]
theorem y_stg {post : Int32 → SY → Prop} {n : Nat} {d : Nat → Nat} {v : SY} (R : ry_K n d v) (H : ∀ v' s, r_St (e_g n d) s → ry_K n d v' → post (nI (q_mk (r_wn s) 5)) v') : wpY_strongest post v := by
  obtain ⟨yn, yq, yo, yp, ym, yt, yl, yb, yw, yk, yh, yC, yN⟩ := v
  obtain ⟨rfl, hok, hb, hm⟩ := R
  unfold wpY_strongest
  refine y_fSt hok.1 hm fun x s hs hx => ?_
  refine loop_0 (fun m a (y : Int32) => wY_strongest_9 post (nI n) yq yo yp ym x yl yb yw yk yh yC yN m y (nI a)) (fun a y => y = nI (q_mk (fun j => decide (a ≤ j) || r_wn s j) 5)) 5 31 (congrArg nI (q_clr_0 _)) ?_ ?_
  · rintro m _ rfl
    refine br_t (Int32.le_refl _) ?_
    rw [q_clr_5]
    exact H _ s hs ⟨rfl, hok, hb, hm⟩
  · rintro m a _ ha rfl K
    refine br_f (nI_ge (b := 5) ha (by decide)) ?_
    refine lp_clr (W := fun m' y z => wY_strongest_16 post (wY_strongest_9 post (nI n) yq yo yp ym x yl yb yw yk yh yC yN m) (nI a) (nI n) yq yo yp ym x yl yb yw yk yh yC yN m' y z) (J := fun y => y = nI (q_mk (fun j => decide (a + 1 ≤ j) || r_wn s j) 5)) ha (fun b => decide (s a b < s b a)) _ ?_ ?_ (congrArg nI (q_clr_s _ _))
    · rintro m' _ rfl
      exact br_t (Int32.le_refl _) (nm_r (nI_1 a) (K _ rfl))
    · intro m' b y hb5 h1 h2
      have l1 := hs.1 a b ha hb5
      have l2 := hs.1 b a hb5 ha
      refine br_f (nI_ge (b := 5) hb5 (by decide)) ⟨bi_in (m := 5) ha hb5 (by decide) (by decide), bi_in (m := 5) hb5 ha (by decide) (by decide), ?_⟩
      rw [bi_ic (by omega) (by omega), bi_ic (by omega) (by omega), hx a b ha hb5, hx b a hb5 ha]
      exact pk_le (s b a) (s a b) (fun h => nm_r (nI_1 b) (h2 (decide_eq_false (by omega)))) (fun h => nm_r rfl (nm_r (nI_1 b) (h1 (decide_eq_true h))))
theorem y_ans {post : Int32 → SY → Prop} {n : Nat} {d : Nat → Nat} {v : SY} (R : ry_K n d v) (H : ∀ v' s, r_St (e_g n d) s → ry_K n d v' → post (nI (q_mk (r_an s) 5)) v') : wpY_answering post v := by
  obtain ⟨yn, yq, yo, yp, ym, yt, yl, yb, yw, yk, yh, yC, yN⟩ := v
  obtain ⟨rfl, hok, hb, hm⟩ := R
  unfold wpY_answering
  refine y_fSt hok.1 hm fun x s hs hx => ?_
  refine loop_0 (fun m a (y : Int32) => wY_answering_9 post (nI n) yq yo yp ym x yl yb yw yk yh yC yN m y (nI a)) (fun a y => y = nI (q_mk (fun j => decide (a ≤ j) || r_an s j) 5)) 5 31 (congrArg nI (q_clr_0 _)) ?_ ?_
  · rintro m _ rfl
    refine br_t (Int32.le_refl _) ?_
    rw [q_clr_5]
    exact H _ s hs ⟨rfl, hok, hb, hm⟩
  · rintro m a _ ha rfl K
    refine br_f (nI_ge (b := 5) ha (by decide)) ?_
    refine lp_clr (W := fun m' y z => wY_answering_16 post (wY_answering_9 post (nI n) yq yo yp ym x yl yb yw yk yh yC yN m) (nI a) (nI n) yq yo yp ym x yl yb yw yk yh yC yN m' y z) (J := fun y => y = nI (q_mk (fun j => decide (a + 1 ≤ j) || r_an s j) 5)) ha (fun b => decide (0 < s b a) && decide (s a b = 0)) _ ?_ ?_ (congrArg nI (q_clr_s _ _))
    · rintro m' _ rfl
      exact br_t (Int32.le_refl _) (nm_r (nI_1 a) (K _ rfl))
    · intro m' b y hb5 h1 h2
      have l1 := hs.1 a b ha hb5
      have l2 := hs.1 b a hb5 ha
      refine br_f (nI_ge (b := 5) hb5 (by decide)) ⟨bi_in (m := 5) hb5 ha (by decide) (by decide), ?_⟩
      rw [bi_ic (by omega) (by omega), bi_ic (by omega) (by omega), hx a b ha hb5, hx b a hb5 ha]
      refine pk_le (s b a) 0 (fun h => nm_r (nI_1 b) (h2 ?_)) (fun h => ⟨bi_in (m := 5) ha hb5 (by decide) (by decide), pk_eq (s a b) 0 (fun h3 => nm_r rfl (nm_r (nI_1 b) (h1 ?_))) (fun h3 => nm_r (nI_1 b) (h2 ?_))⟩)
      · simp [show s b a = 0 by omega]
      · simp [h, h3]
      · simp [h3]
theorem y_str {post : Int32 → SY → Prop} {n a b : Nat} {d : Nat → Nat} {v : SY} (R : ry_S n d v) (ha : a < 5) (hb : b < 5) (hab : a ≠ b) (H : ∀ v' s, r_St (e_g n d) s → ry_S n d v' → post (nI (s a b)) v') : wpY_strength post v (nI a) (nI b) := by
  have C : wpY_count (fun u => wpY_findStrengths (fun u => match u with | (yn, yq, yo, yp, ym, yt, yl, yb, yw, yk, yh, yC, yN) => (vp_in ((5 * (nI a)) + (nI b)) 25 ∧ (post (yt ((5 * (nI a)) + (nI b)).toNatClampNeg) (yn, yq, yo, yp, ym, yt, yl, yb, yw, yk, yh, yC, yN)))) u) v := by
    refine y_count R fun u' R' => ?_
    obtain ⟨yn, yq, yo, yp, ym, yt, yl, yb, yw, yk, yh, yC, yN⟩ := u'
    obtain ⟨rfl, hok, hbl, hm⟩ := R'
    refine y_fSt hok.1 hm fun x s hs hx => ⟨bi_in (m := 5) ha hb (by decide) (by decide), ?_⟩
    rw [bi_ic (by omega) (by omega), hx a b ha hb]
    exact H _ s hs ⟨rfl, hok, hbl⟩
  obtain ⟨yn, yq, yo, yp, ym, yt, yl, yb, yw, yk, yh, yC, yN⟩ := v
  unfold wpY_strength
  exact y_in_T (n := 5) (by decide) (by decide) ha (br_f (by decide) (y_in_T (n := 5) (by decide) (by decide) hb (br_f (by decide) (pk_eq a b (fun e => absurd e hab) (fun _ => C)))))
theorem y_str_f {post : Int32 → SY → Prop} {v1 v2 : Int32} {v : SY} (h : ¬ ∃ a b, a < 5 ∧ b < 5 ∧ a ≠ b ∧ v1 = nI a ∧ v2 = nI b) (H : post 0 v) : wpY_strength post v v1 v2 := by
  obtain ⟨yn, yq, yo, yp, ym, yt, yl, yb, yw, yk, yh, yC, yN⟩ := v
  unfold wpY_strength
  by_cases h1 : ∃ a, a < 5 ∧ v1 = nI a
  · obtain ⟨a, ha, rfl⟩ := h1
    refine y_in_T (n := 5) (by decide) (by decide) ha (br_f (by decide) ?_)
    by_cases h2 : ∃ b, b < 5 ∧ v2 = nI b
    · obtain ⟨b, hb, rfl⟩ := h2
      refine y_in_T (n := 5) (by decide) (by decide) hb (br_f (by decide) (br_t ?_ H))
      have : a = b := Classical.byContradiction fun e => h ⟨a, b, ha, hb, e, rfl, rfl⟩
      rw [this]
    · exact y_in_F (n := 5) (by decide) (by decide) h2 (br_t rfl H)
  · exact y_in_F (n := 5) (by decide) (by decide) h1 (br_t rfl H)
end
end
section
theorem bi_orm (p p' : Nat → Bool) (n : Nat) : nI (q_mk p n) ||| nI (q_mk p' n) = nI (q_mk (fun i => p i || p' i) n) := by
  rw [bi_or]
  apply congrArg nI
  apply q_mk_eq (Nat.or_lt_two_pow (q_mk_lt p n) (q_mk_lt p' n))
  intro i hi
  rw [Nat.testBit_or, q_mk_bit, q_mk_bit]; simp [hi]
theorem q_mk5 (p : Nat → Bool) : q_mk p 5 < 32 := q_mk_lt p 5
theorem q_mk5_bit (p : Nat → Bool) {i : Nat} (hi : i < 5) : (q_mk p 5).testBit i = p i := by rw [q_mk_bit]; simp [hi]
def u_B (n : Nat) (d : Nat → Nat) (a : Nat) : Nat := q_mk (e_b n d a) 5
theorem u_B_lt (n : Nat) (d : Nat → Nat) (a : Nat) : u_B n d a < 32 := q_mk5 _
theorem q_nd_lt {a b : Nat} (h : a < 32) : q_nd a b < 32 := Nat.lt_of_le_of_lt (q_nd_le a b) h
theorem q_or_lt {a b : Nat} (h : a < 32) (h2 : b < 32) : a ||| b < 32 := Nat.or_lt_two_pow (n := 5) h h2
def u_uc (n : Nat) (d : Nat → Nat) (a : Nat) : Bool := decide (q_cn (fun b => e_b n d b a && decide (q_nd (u_B n d a) (u_B n d b) = 0)) 5 = 0)
/-- whether some member of s doesn't beat one outside -/
def u_dm (B : Nat → Nat) (s c : Nat) : Bool := s.testBit c && !decide (B c ||| s = 31)
def u_sb (B : Nat → Nat) : Nat → Nat
  | 0 => 31
  | k + 1 => if (decide (q_pc (k + 1) < q_pc (u_sb B k)) && decide (q_cn (u_dm B (k + 1)) 5 = 0)) = true then k + 1 else u_sb B k
theorem u_sb_lt (B : Nat → Nat) : ∀ k, k ≤ 31 → u_sb B k < 32 := by
  intro k
  induction k with
  | zero => intro _; exact (by decide : 31 < 32)
  | succ k ih =>
    intro hk
    have := ih (by omega)
    simp only [u_sb]
    split <;> omega
theorem u_sb_31 (B : Nat → Nat) : u_sb B 31 = u_sb B 30 := by
  have h : q_pc (u_sb B 30) ≤ 5 := by
    rw [q_pc_mk5 (u_sb_lt B 30 (by decide))]; exact q_cn_le _ _
  show (if (decide (q_pc 31 < q_pc (u_sb B 30)) && decide (q_cn (u_dm B 31) 5 = 0)) = true then 31 else u_sb B 30) = _
  have h2 : q_pc 31 = 5 := by decide +kernel
  rw [h2, decide_eq_false (show ¬ 5 < q_pc (u_sb B 30) by omega)]
  rfl
/-- the first of five with p, from the last j on -/
def u_ld (p : Nat → Bool) : Nat → Int32
  | 0 => -1002
  | j + 1 => if p (5 - (j + 1)) = true then nI (5 - (j + 1)) else u_ld p j
theorem u_ld_t {p : Nat → Bool} {c : Nat} (hc : c < 5) (h : p c = true) : u_ld p (5 - c) = nI c := by
  obtain ⟨j, hj⟩ : ∃ j, 5 - c = j + 1 := ⟨5 - c - 1, by omega⟩
  rw [hj]
  simp only [u_ld]
  rw [show 5 - (j + 1) = c by omega, if_pos h]
theorem u_ld_f {p : Nat → Bool} {c : Nat} (hc : c < 5) (h : p c = false) : u_ld p (5 - c) = u_ld p (5 - (c + 1)) := by
  obtain ⟨j, hj⟩ : ∃ j, 5 - c = j + 1 := ⟨5 - c - 1, by omega⟩
  rw [hj]
  simp only [u_ld]
  rw [show 5 - (j + 1) = c by omega, if_neg (by rw [h]; decide), show 5 - (c + 1) = j by omega]
section
variable {xc xk xq : Int32} {xo xr xp xm xb xs xl xt xe xA xB xf xg xL xO xC xN : Nat → Int32}
theorem x_cR {post : SX → Prop} {R : Nat → Nat → Bool} (he : ∀ a, a < 5 → xe a = nI (q_mk (R a) 5)) (H : ∀ xe', (∀ a, a < 5 → xe' a = nI (q_mk (r_C R 5 a) 5)) → post (xc, xk, xq, xo, xr, xp, xm, xb, xs, xl, xt, xe', xA, xB, xf, xg, xL, xO, xC, xN)) : wpX_closeReaches post (xc, xk, xq, xo, xr, xp, xm, xb, xs, xl, xt, xe, xA, xB, xf, xg, xL, xO, xC, xN) := by
  refine loop_0 (fun m c (x : Nat → Int32) => wX_closeReaches_2 post xc xk xq m (nI c) xo xr xp xm xb xs xl xt x xA xB xf xg xL xO xC xN) (fun c x => ∀ a, a < 5 → x a = nI (q_mk (r_C R c a) 5)) 5 xe he ?_ ?_
  · intro m x h
    exact br_t (Int32.le_refl _) (H x h)
  · intro m c x hc h K
    refine br_f (nI_ge (b := 5) hc (by decide)) ?_
    refine loop_0 (fun m' a (x : Nat → Int32) => wX_closeReaches_9 post (wX_closeReaches_2 post xc xk xq m) (nI c) xc xk xq m' (nI a) xo xr xp xm xb xs xl xt x xA xB xf xg xL xO xC xN) (fun a x => ∀ a', a' < 5 → x a' = nI (q_mk (if a' < a then r_C R (c + 1) a' else r_C R c a') 5)) 5 x (fun a' ha' => by rw [if_neg (by omega)]; exact h a' ha') ?_ ?_
    · intro m' x h
      refine br_t (Int32.le_refl _) (nm_r (nI_1 c) (K x fun a ha => ?_))
      rw [h a ha, if_pos ha]
    · intro m' a x ha h K'
      have va : x (nI a).toNatClampNeg = nI (q_mk (r_C R c a) 5) := by rw [nI_clamp (by omega), h a ha, if_neg (by omega)]
      have vc : x (nI c).toNatClampNeg = nI (q_mk (r_C R c c) 5) := by
        rw [nI_clamp (by omega), h c hc]
        split
        · refine congrArg nI (q_mk_congr fun b hb => ?_)
          simp only [r_C]
          cases r_C R c c c <;> simp
        · rfl
      have l1 := q_mk5 (r_C R c a)
      have U : ∀ v, v = nI (q_mk (r_C R (c + 1) a) 5) → ∀ a', a' < 5 → upd x a v a' = nI (q_mk (if a' < a + 1 then r_C R (c + 1) a' else r_C R c a') 5) := by
        rintro _ rfl a' ha'
        by_cases e : a' = a
        · subst e; rw [pk_us, if_pos (by omega)]
        · rw [pk_un e, h a' ha']
          by_cases e2 : a' < a
          · rw [if_pos e2, if_pos (by omega)]
          · rw [if_neg e2, if_neg (by omega)]
      refine br_f (nI_ge (b := 5) ha (by decide)) ⟨vp_in_nI ha (by decide), ?_⟩
      rw [va, vc]
      refine x_isIn (by omega) (by omega) (fun hb => nm_r (nI_1 a) (K' x fun a' ha' => ?_)) (fun hb => ⟨vp_in_nI ha (by decide), vp_in_nI hc (by decide), vp_in_nI ha (by decide), nm_r rfl (nm_r (nI_1 a) (K' _ ?_))⟩)
      · rw [q_mk5_bit _ hc] at hb
        rw [h a' ha']
        by_cases e : a' = a
        · subst e
          rw [if_neg (by omega), if_pos (by omega)]
          refine congrArg nI (q_mk_congr fun b _ => ?_)
          simp [r_C, hb]
        · by_cases e2 : a' < a
          · rw [if_pos e2, if_pos (by omega)]
          · rw [if_neg e2, if_neg (by omega)]
      · rw [q_mk5_bit _ hc] at hb
        have l2 := q_mk5 (fun i => r_C R c a i || r_C R c c i)
        rw [bi_orm, bv_b2 (by omega), nI_clamp (by omega)]
        refine U _ (congrArg nI (q_mk_congr fun b _ => ?_))
        simp [r_C, hb]
theorem x_ur {post : Int32 → SX → Prop} {n : Nat} {d : Nat → Nat} {u : SX} (R : rx_K n d u) (H : ∀ u', rx_K n d u' → post (nI (q_mk (r_ur (r_C (e_b n d) 5)) 5)) u') : wpX_unreturned post u := by
  obtain ⟨xc, xk, xq, xo, xr, xp, xm, xb, xs, xl, xt, xe, xA, xB, xf, xg, xL, xO, xC, xN⟩ := u
  obtain ⟨rfl, rfl, hok, hb, hcn⟩ := R
  refine loop_0 (fun m a (x : Nat → Int32) => wX_unreturned_2 post (nI n) 1 xq m (nI a) xo xr xp xm xb xs xl xt x xA xB xf xg xL xO xC xN) (fun a x => ∀ a', a' < a → x a' = nI (q_mk (e_b n d a') 5)) 5 xe (fun a' h => by omega) ?_ ?_
  · intro m x h
    refine br_t (Int32.le_refl _) (x_cR h fun x h => ?_)
    refine loop_0 (fun m a (y : Int32) => wX_unreturned_33 post (nI n) 1 xq xo xr xp xm xb xs xl xt x xA xB xf xg xL xO xC xN m y (nI a)) (fun a y => y = nI (q_mk (r_ur (r_C (e_b n d) 5)) a)) 5 0 rfl ?_ ?_
    · rintro m _ rfl
      exact br_t (Int32.le_refl _) (H _ ⟨rfl, rfl, hok, hb, hcn⟩)
    · rintro m a _ ha rfl K
      refine br_f (nI_ge (b := 5) ha (by decide)) ?_
      have T : ∀ g, g = r_ur (r_C (e_b n d) 5) a → wX_unreturned_95 post (wX_unreturned_33 post (nI n) 1 xq xo xr xp xm xb xs xl xt x xA xB xf xg xL xO xC xN m) (nI (q_mk (r_ur (r_C (e_b n d) 5)) a)) (nI a) (nI g.toNat) (nI n) 1 xq xo xr xp xm xb xs xl xt x xA xB xf xg xL xO xC xN := by
        rintro g hg
        cases g
        · exact br_t rfl (nm_r (nI_1 a) (K _ (by rw [bi_skip _ hg.symm])))
        · exact br_f (by decide) (nm_r (bi_add _ (by omega) hg.symm) (nm_r (nI_1 a) (K _ rfl)))
      refine lp_good (W := fun m' y z => wX_unreturned_43 post (wX_unreturned_33 post (nI n) 1 xq xo xr xp xm xb xs xl xt x xA xB xf xg xL xO xC xN m) (nI (q_mk (r_ur (r_C (e_b n d) 5)) a)) (nI a) (nI n) 1 xq xo xr xp xm xb xs xl xt x xA xB xf xg xL xO xC xN m' y z) true (fun b => r_C (e_b n d) 5 b a && !r_C (e_b n d) 5 a b) (J := fun g => g = r_ur (r_C (e_b n d) 5) a) ?_ ?_ ?_ rfl
      · intro m' g hg
        exact br_t (Int32.le_refl _) (T g hg)
      · intro m' b hb5 hg
        exact br_f (nI_ge (b := 5) hb5 (by decide)) (br_t rfl (T false hg))
      · intro m' b hb5 K'
        have l1 := q_mk5 (r_C (e_b n d) 5 a)
        have l2 := q_mk5 (r_C (e_b n d) 5 b)
        refine br_f (nI_ge (b := 5) hb5 (by decide)) (br_f (by decide) ⟨vp_in_nI hb5 (by decide), ?_⟩)
        rw [nI_clamp (by omega), nI_clamp (by omega), h a ha, h b hb5]
        refine x_isIn (by omega) (by omega) (fun h1 => nm_r (nI_1 b) ?_) (fun h1 => ⟨vp_in_nI ha (by decide), x_isIn (by omega) (by omega) (fun h2 => nm_r (nI_1 b) ?_) (fun h2 => nm_r (nI_1 b) ?_)⟩)
        · rw [q_mk5_bit _ ha] at h1
          rw [h1] at K'; exact K'
        · rw [q_mk5_bit _ ha] at h1
          rw [q_mk5_bit _ hb5] at h2
          rw [h1, h2] at K'; exact K'
        · rw [q_mk5_bit _ ha] at h1
          rw [q_mk5_bit _ hb5] at h2
          rw [h1, h2] at K'; exact K'
  · intro m a x ha h K
    have l := q_mk5 (e_b n d a)
    refine br_f (nI_ge (b := 5) ha (by decide)) ⟨vp_in_nI ha (by decide), vp_in_nI ha (by decide), nm_r (e' := upd x a (nI (q_mk (e_b n d a) 5))) (by rw [nI_clamp (by omega), hcn.2.2 a ha, bv_b (by omega)]) (nm_r (nI_1 a) (K _ fun a' ha' => ?_))⟩
    by_cases e : a' = a
    · subst e; exact pk_us
    · exact (pk_un e).trans (h a' (by omega))
theorem x_uc {post : Int32 → Prop} {n : Nat} {d : Nat → Nat} (hb : ∀ a, a < 5 → xb a = nI (q_mk (e_b n d a) 5)) (H : post (nI (q_mk (u_uc n d) 5))) : wpX_uncovered post (xc, xk, xq, xo, xr, xp, xm, xb, xs, xl, xt, xe, xA, xB, xf, xg, xL, xO, xC, xN) := by
  refine loop_0 (fun m a (y : Int32) => wX_uncovered_4 post xc xk xq xo xr xp xm xb xs xl xt xe xA xB xf xg xL xO xC xN m y (nI a)) (fun a y => y = nI (q_mk (u_uc n d) a)) 5 0 rfl ?_ ?_
  · rintro m _ rfl
    exact br_t (Int32.le_refl _) H
  · rintro m a _ ha rfl K
    refine br_f (nI_ge (b := 5) ha (by decide)) ?_
    have T : ∀ g, g = u_uc n d a → wX_uncovered_70 post (wX_uncovered_4 post xc xk xq xo xr xp xm xb xs xl xt xe xA xB xf xg xL xO xC xN m) (nI (q_mk (u_uc n d) a)) (nI a) (nI g.toNat) xc xk xq xo xr xp xm xb xs xl xt xe xA xB xf xg xL xO xC xN := by
      rintro g hg
      cases g
      · exact br_t rfl (nm_r (nI_1 a) (K _ (by rw [bi_skip _ hg.symm])))
      · exact br_f (by decide) (nm_r (bi_add _ (by omega) hg.symm) (nm_r (nI_1 a) (K _ rfl)))
    refine lp_good (W := fun m' y z => wX_uncovered_14 post (wX_uncovered_4 post xc xk xq xo xr xp xm xb xs xl xt xe xA xB xf xg xL xO xC xN m) (nI (q_mk (u_uc n d) a)) (nI a) xc xk xq xo xr xp xm xb xs xl xt xe xA xB xf xg xL xO xC xN m' y z) true (fun b => e_b n d b a && decide (q_nd (u_B n d a) (u_B n d b) = 0)) (J := fun g => g = u_uc n d a) ?_ ?_ ?_ rfl
    · intro m' g hg
      exact br_t (Int32.le_refl _) (T g hg)
    · intro m' b hb5 hg
      exact br_f (nI_ge (b := 5) hb5 (by decide)) (br_t rfl (T false hg))
    · intro m' b hb5 K'
      have l1 := u_B_lt n d a
      have l2 := u_B_lt n d b
      have l3 := q_nd_lt (b := u_B n d b) l1
      have va : xb a = nI (u_B n d a) := hb a ha
      have vb : xb b = nI (u_B n d b) := hb b hb5
      refine br_f (nI_ge (b := 5) hb5 (by decide)) (br_f (by decide) ⟨vp_in_nI hb5 (by decide), ?_⟩)
      rw [nI_clamp (by omega), nI_clamp (by omega), va, vb, bi_nd]
      refine x_isIn (by omega) (by omega) (fun h1 => nm_r (nI_1 b) ?_) (fun h1 => ⟨vp_in_nI ha (by decide), vp_in_nI hb5 (by decide), pk_eq (q_nd (u_B n d a) (u_B n d b)) 0 (fun h2 => nm_r (nI_1 b) ?_) (fun h2 => nm_r (nI_1 b) ?_)⟩)
      · have h1 : e_b n d b a = false := by rw [← h1]; exact (q_mk5_bit _ ha).symm
        rw [h1] at K'; exact K'
      · have h1 : e_b n d b a = true := by rw [← h1]; exact (q_mk5_bit _ ha).symm
        rw [h1, h2] at K'; exact K'
      · rw [decide_eq_false h2, Bool.and_false] at K'; exact K'
theorem x_ss {post : Int32 → Prop} {n : Nat} {d : Nat → Nat} (hb : ∀ a, a < 5 → xb a = nI (q_mk (e_b n d a) 5)) (H : post (nI (u_sb (u_B n d) 30))) : wpX_smallestSet post (xc, xk, xq, xo, xr, xp, xm, xb, xs, xl, xt, xe, xA, xB, xf, xg, xL, xO, xC, xN) := by
  refine pk_loop (fun m s (y : Int32) => wX_smallestSet_5 post xc xk xq xo xr xp xm xb xs xl xt xe xA xB xf xg xL xO xC xN m y (nI s)) (fun s y => 1 ≤ s ∧ y = nI (u_sb (u_B n d) (s - 1))) 31 1 31 (by decide) ⟨by decide, rfl⟩ ?_ ?_
  · rintro m _ ⟨_, rfl⟩
    exact br_t (Int32.le_refl _) H
  · rintro m s _ hs ⟨hs1, rfl⟩ K
    obtain ⟨k, rfl⟩ : ∃ k, s = k + 1 := ⟨s - 1, by omega⟩
    rw [Nat.add_sub_cancel]
    rw [Nat.add_sub_cancel] at K
    have lb := u_sb_lt (u_B n d) k (by omega)
    have p1 := q_pc_le (k + 1)
    have p2 := q_pc_le (u_sb (u_B n d) k)
    have T : ∀ g, g = (decide (q_pc (k + 1) < q_pc (u_sb (u_B n d) k)) && decide (q_cn (u_dm (u_B n d) (k + 1)) 5 = 0)) → wX_smallestSet_79 post (wX_smallestSet_5 post xc xk xq xo xr xp xm xb xs xl xt xe xA xB xf xg xL xO xC xN m) (nI (u_sb (u_B n d) k)) (nI (k + 1)) (nI g.toNat) xc xk xq xo xr xp xm xb xs xl xt xe xA xB xf xg xL xO xC xN := by
      rintro g hg
      cases g
      · refine br_t rfl (nm_r (nI_1 (k + 1)) (K _ ⟨by omega, ?_⟩))
        simp only [u_sb]; rw [← hg, if_neg (by decide)]
      · refine br_f (by decide) (nm_r (nI_1 (k + 1)) (K _ ⟨by omega, ?_⟩))
        simp only [u_sb]; rw [← hg, if_pos rfl]
    have L : ∀ g0, g0 = decide (q_pc (k + 1) < q_pc (u_sb (u_B n d) k)) → ∃ m', wX_smallestSet_33 post (wX_smallestSet_5 post xc xk xq xo xr xp xm xb xs xl xt xe xA xB xf xg xL xO xC xN m) (nI (u_sb (u_B n d) k)) (nI (k + 1)) xc xk xq xo xr xp xm xb xs xl xt xe xA xB xf xg xL xO xC xN m' (nI g0.toNat) (nI 0) := by
      intro g0 hg0
      refine lp_good (W := fun m' y z => wX_smallestSet_33 post (wX_smallestSet_5 post xc xk xq xo xr xp xm xb xs xl xt xe xA xB xf xg xL xO xC xN m) (nI (u_sb (u_B n d) k)) (nI (k + 1)) xc xk xq xo xr xp xm xb xs xl xt xe xA xB xf xg xL xO xC xN m' y z) g0 (u_dm (u_B n d) (k + 1)) (J := fun g => g = (decide (q_pc (k + 1) < q_pc (u_sb (u_B n d) k)) && decide (q_cn (u_dm (u_B n d) (k + 1)) 5 = 0))) ?_ ?_ ?_ (by rw [hg0])
      · intro m' g hg
        exact br_t (Int32.le_refl _) (T g hg)
      · intro m' c hc hg
        exact br_f (nI_ge (b := 5) hc (by decide)) (br_t rfl (T false hg))
      · intro m' c hc K'
        have l1 := u_B_lt n d c
        have l2 := q_or_lt l1 (show k + 1 < 32 by omega)
        have vc : xb c = nI (u_B n d c) := hb c hc
        refine br_f (nI_ge (b := 5) hc (by decide)) (br_f (by decide) ?_)
        rw [nI_clamp (by omega), vc, bi_or]
        refine x_isIn (by omega) (by omega) (fun h1 => nm_r (nI_1 c) ?_) (fun h1 => ⟨vp_in_nI hc (by decide), pk_eq (u_B n d c ||| (k + 1)) 31 (fun h2 => nm_r (nI_1 c) ?_) (fun h2 => nm_r (nI_1 c) ?_)⟩)
        · unfold u_dm at K'; rw [h1] at K'; exact K'
        · unfold u_dm at K'; rw [h1, decide_eq_true h2] at K'; exact K'
        · unfold u_dm at K'; rw [h1, decide_eq_false h2] at K'; exact K'
    refine br_f (nI_ge (b := 31) hs (by decide)) (x_ones (by omega) (x_ones (by omega) (pk_le (q_pc (u_sb (u_B n d) k)) (q_pc (k + 1)) (fun h => L false (decide_eq_false (by omega)).symm) (fun h => L true (decide_eq_true h).symm))))
theorem x_lead {post : Int32 → SX → Prop} {n : Nat} {d : Nat → Nat} {u : SX} (R : rx_S n d u) (H : ∀ u', rx_S n d u' → post (u_ld (fun c => decide (u_B n d c ||| 2 ^ c = 31)) 5) u') : wpX_leader post u := by
  have C : wpX_countAll (fun u => match u with | (xc, xk, xq, xo, xr, xp, xm, xb, xs, xl, xt, xe, xA, xB, xf, xg, xL, xO, xC, xN) => ∃ n6 : Nat, wX_leader_6 post xc xk xq xo xr xp xm xb xs xl xt xe xA xB xf xg xL xO xC xN n6 0) u := by
    refine x_countAll R fun u' R' => ?_
    have R2 := rx_K_S R'
    obtain ⟨xc, xk, xq, xo, xr, xp, xm, xb, xs, xl, xt, xe, xA, xB, xf, xg, xL, xO, xC, xN⟩ := u'
    obtain ⟨rfl, rfl, hok, hb, hcn⟩ := R'
    refine loop_0 (fun m c (_ : Unit) => wX_leader_6 post (nI n) 1 xq xo xr xp xm xb xs xl xt xe xA xB xf xg xL xO xC xN m (nI c)) (fun c _ => u_ld (fun c => decide (u_B n d c ||| 2 ^ c = 31)) (5 - c) = u_ld (fun c => decide (u_B n d c ||| 2 ^ c = 31)) 5) 5 () rfl ?_ ?_
    · rintro m _ h
      refine br_t (Int32.le_refl _) ?_
      have := H _ R2
      rw [← h] at this
      exact this
    · rintro m c _ hc h K
      have l1 := u_B_lt n d c
      have l2 := q_or_lt l1 (show 2 ^ c < 32 from Nat.pow_lt_pow_right (a := 2) (n := 5) (by decide) hc)
      have vc : xb c = nI (u_B n d c) := hcn.2.2 c hc
      refine br_f (nI_ge (b := 5) hc (by decide)) ⟨vp_in_nI hc (by decide), ?_⟩
      rw [nI_clamp (by omega), vc, bi_shl (by omega), bi_or]
      refine pk_eq (u_B n d c ||| 2 ^ c) 31 (fun h2 => ?_) (fun h2 => nm_r (nI_1 c) (K () ?_))
      · have := H _ R2
        rw [← h, u_ld_t (p := fun c => decide (u_B n d c ||| 2 ^ c = 31)) hc (decide_eq_true h2)] at this
        exact this
      · rw [← h, u_ld_f (p := fun c => decide (u_B n d c ||| 2 ^ c = 31)) hc (decide_eq_false h2)]
  obtain ⟨xc, xk, xq, xo, xr, xp, xm, xb, xs, xl, xt, xe, xA, xB, xf, xg, xL, xO, xC, xN⟩ := u
  exact C
end
end
section
section
variable {yn yq : Int32} {yo yp ym yt yl yb yw yk yh yC yN : Nat → Int32}
theorem y_uc {post : Int32 → Prop} {n : Nat} {d : Nat → Nat} (hn : n ≤ 9) (hm : ∀ a b, a < 5 → b < 5 → ym (5 * a + b) = zI (e_m n d a b)) (H : post (nI (q_mk (u_uc n d) 5))) : wpY_uncovered post (yn, yq, yo, yp, ym, yt, yl, yb, yw, yk, yh, yC, yN) := by
  refine loop_0 (fun m a (y : Int32) => wY_uncovered_5 post yn yq yo yp ym yt yl yb yw yk yh yC yN m y (nI a)) (fun a y => y = nI (q_mk (fun j => decide (a ≤ j) || u_uc n d j) 5)) 5 31 (congrArg nI (q_clr_0 _)) ?_ ?_
  · rintro m _ rfl
    refine br_t (Int32.le_refl _) ?_
    rw [q_clr_5]; exact H
  · rintro m a _ ha rfl K
    refine br_f (nI_ge (b := 5) ha (by decide)) ?_
    refine lp_clr (W := fun m' y z => wY_uncovered_12 post (wY_uncovered_5 post yn yq yo yp ym yt yl yb yw yk yh yC yN m) (nI a) yn yq yo yp ym yt yl yb yw yk yh yC yN m' y z) (J := fun y => y = nI (q_mk (fun j => decide (a + 1 ≤ j) || u_uc n d j) 5)) ha (fun b => e_b n d b a && decide (q_nd (u_B n d a) (u_B n d b) = 0)) _ ?_ ?_ (congrArg nI (q_clr_s _ _))
    · rintro m' _ rfl
      exact br_t (Int32.le_refl _) (nm_r (nI_1 a) (K _ rfl))
    · intro m' b y hb5 h1 h2
      have l1 := u_B_lt n d a
      have l3 := q_nd_lt (b := u_B n d b) l1
      refine br_f (nI_ge (b := 5) hb5 (by decide)) (y_bts hn hm hb5 ha (fun h => nm_r (nI_1 b) (h2 ?_)) (fun h => y_bB hn hm ha (y_bB hn hm hb5 ?_)))
      · rw [h]; rfl
      · show ((nI (u_B n d a) &&& (nI (u_B n d b) ^^^ (-1))) = 0 → _) ∧ (¬ (nI (u_B n d a) &&& (nI (u_B n d b) ^^^ (-1))) = 0 → _)
        rw [bi_nd]
        refine pk_eq (q_nd (u_B n d a) (u_B n d b)) 0 (fun h3 => nm_r rfl (nm_r (nI_1 b) (h1 ?_))) (fun h3 => nm_r (nI_1 b) (h2 ?_))
        · rw [h, decide_eq_true h3]; rfl
        · rw [decide_eq_false h3, Bool.and_false]
theorem y_ss {post : Int32 → Prop} {n : Nat} {d : Nat → Nat} (hn : n ≤ 9) (hm : ∀ a b, a < 5 → b < 5 → ym (5 * a + b) = zI (e_m n d a b)) (H : post (nI (u_sb (u_B n d) 30))) : wpY_smallest post (yn, yq, yo, yp, ym, yt, yl, yb, yw, yk, yh, yC, yN) := by
  refine pk_loop (fun m s (y : Int32 × Int32) => wY_smallest_7 post yn yq yo yp ym yt yl yb yw yk yh yC yN m y.1 y.2 (nI s)) (fun s y => 1 ≤ s ∧ y = (nI (u_sb (u_B n d) (s - 1)), nI (q_pc (u_sb (u_B n d) (s - 1))))) 32 1 (31, 5) (by decide) ⟨by decide, by
    show ((31 : Int32), (5 : Int32)) = (nI 31, nI (q_pc 31))
    rw [show q_pc 31 = 5 by decide +kernel]; rfl⟩ ?_ ?_
  · rintro m _ ⟨_, rfl⟩
    refine br_t (Int32.le_refl _) ?_
    rw [← u_sb_31] at H
    exact H
  · rintro m s _ hs ⟨hs1, rfl⟩ K
    obtain ⟨k, rfl⟩ : ∃ k, s = k + 1 := ⟨s - 1, by omega⟩
    rw [Nat.add_sub_cancel]
    rw [Nat.add_sub_cancel] at K
    have lb := u_sb_lt (u_B n d) k (by omega)
    have p1 := q_pc_le (k + 1)
    have p2 := q_pc_le (u_sb (u_B n d) k)
    have p5 := q_pc_mk5 (show k + 1 < 32 by omega)
    refine br_f (nI_ge (b := 32) hs (by decide)) ?_
    refine loop_0 (fun m' c (y : Int32 × Int32) => wY_smallest_22 post (wY_smallest_7 post yn yq yo yp ym yt yl yb yw yk yh yC yN m) (nI (u_sb (u_B n d) k)) (nI (q_pc (u_sb (u_B n d) k))) (nI (k + 1)) yn yq yo yp ym yt yl yb yw yk yh yC yN m' y.1 y.2 (nI c)) (fun c y => y = (nI (q_cn (k + 1).testBit c), nI (decide (q_cn (u_dm (u_B n d) (k + 1)) c = 0)).toNat)) 5 (0, 1) rfl ?_ ?_
    · rintro m' _ rfl
      refine br_t (Int32.le_refl _) ?_
      dsimp only
      rw [← p5]
      cases hg : decide (q_cn (u_dm (u_B n d) (k + 1)) 5 = 0)
      · refine br_t rfl (nm_r (nI_1 (k + 1)) (K (_, _) ⟨by omega, ?_⟩))
        simp only [u_sb]; rw [hg, Bool.and_false, if_neg (by decide)]; rfl
      · refine br_f (by decide) (pk_le (q_pc (u_sb (u_B n d) k)) (q_pc (k + 1)) (fun h => nm_r (nI_1 (k + 1)) (K (_, _) ⟨by omega, ?_⟩)) (fun h => nm_r (nI_1 (k + 1)) (K (_, _) ⟨by omega, ?_⟩)))
        · simp only [u_sb]; rw [decide_eq_false (show ¬ q_pc (k + 1) < q_pc (u_sb (u_B n d) k) by omega), Bool.false_and, if_neg (by decide)]; rfl
        · simp only [u_sb]; rw [hg, decide_eq_true h, Bool.true_and, if_pos rfl]; rfl
    · rintro m' c _ hc rfl K'
      have l1 := u_B_lt n d c
      have l2 := q_or_lt l1 (show k + 1 < 32 by omega)
      refine br_f (nI_ge (b := 5) hc (by decide)) (bi_1 (k + 1) c (by omega) (by omega) (fun h1 => nm_r (nI_1 _) (y_bB hn hm hc ?_)) (fun h1 => nm_r (nI_1 c) (K' (_, _) ?_)))
      · show ((nI (u_B n d c) ||| nI (k + 1)) = 31 → _) ∧ (¬ (nI (u_B n d c) ||| nI (k + 1)) = 31 → _)
        rw [bi_or]
        refine pk_eq (u_B n d c ||| (k + 1)) 31 (fun h2 => nm_r (nI_1 c) (K' (_, _) ?_)) (fun h2 => nm_r (nI_1 c) (K' (_, nI 0) ?_))
        · have hd : u_dm (u_B n d) (k + 1) c = false := by unfold u_dm; rw [h1, decide_eq_true h2]; rfl
          simp only [q_cn, h1, hd, Bool.toNat_true, Bool.toNat_false, Nat.add_zero]; rfl
        · have hd : u_dm (u_B n d) (k + 1) c = true := by unfold u_dm; rw [h1, decide_eq_false h2]; rfl
          simp only [q_cn, h1, hd, Bool.toNat_true]
          rw [decide_eq_false (show ¬ q_cn (u_dm (u_B n d) (k + 1)) c + 1 = 0 by omega)]; rfl
      · have hd : u_dm (u_B n d) (k + 1) c = false := by unfold u_dm; rw [h1]; rfl
        simp only [q_cn, h1, hd, Bool.toNat_false, Nat.add_zero]
theorem y_lead {post : Int32 → SY → Prop} {n : Nat} {d : Nat → Nat} {v : SY} (R : ry_S n d v) (H : ∀ v', ry_S n d v' → post (u_ld (fun c => decide (u_B n d c ||| 2 ^ c = 31)) 5) v') : wpY_leader post v := by
  have C : wpY_count (fun u => match u with | (yn, yq, yo, yp, ym, yt, yl, yb, yw, yk, yh, yC, yN) => ∃ n6 : Nat, wY_leader_6 post yn yq yo yp ym yt yl yb yw yk yh yC yN n6 0) v := by
    refine y_count R fun u' R' => ?_
    have R2 := ry_K_S R'
    obtain ⟨yn, yq, yo, yp, ym, yt, yl, yb, yw, yk, yh, yC, yN⟩ := u'
    obtain ⟨rfl, hok, hb, hm⟩ := R'
    refine loop_0 (fun m c (_ : Unit) => wY_leader_6 post (nI n) yq yo yp ym yt yl yb yw yk yh yC yN m (nI c)) (fun c _ => u_ld (fun c => decide (u_B n d c ||| 2 ^ c = 31)) (5 - c) = u_ld (fun c => decide (u_B n d c ||| 2 ^ c = 31)) 5) 5 () rfl ?_ ?_
    · rintro m _ h
      refine br_t (Int32.le_refl _) ?_
      have := H _ R2
      rw [← h] at this
      exact this
    · rintro m c _ hc h K
      have l1 := u_B_lt n d c
      have l2 := q_or_lt l1 (show 2 ^ c < 32 from Nat.pow_lt_pow_right (a := 2) (n := 5) (by decide) hc)
      refine br_f (nI_ge (b := 5) hc (by decide)) (y_bB hok.1 hm hc ?_)
      rw [bi_shl (by omega)]
      show ((nI (u_B n d c) ||| nI (2 ^ c)) = 31 → _) ∧ (¬ (nI (u_B n d c) ||| nI (2 ^ c)) = 31 → _)
      rw [bi_or]
      refine pk_eq (u_B n d c ||| 2 ^ c) 31 (fun h2 => ?_) (fun h2 => nm_r (nI_1 c) (K () ?_))
      · have := H _ R2
        rw [← h, u_ld_t (p := fun c => decide (u_B n d c ||| 2 ^ c = 31)) hc (decide_eq_true h2)] at this
        exact this
      · rw [← h, u_ld_f (p := fun c => decide (u_B n d c ||| 2 ^ c = 31)) hc (decide_eq_false h2)]
  obtain ⟨yn, yq, yo, yp, ym, yt, yl, yb, yw, yk, yh, yC, yN⟩ := v
  exact C
end
end
section
def u_sc (b : Nat → Nat → Bool) (s c : Nat) : Nat := q_cn (fun x => b c x && s.testBit x) 5
def u_tp (b : Nat → Nat → Bool) (s a : Nat) : Bool := s.testBit a && decide (q_cn (fun x => s.testBit x && !decide (x = a) && !b a x) 5 = 0)
def u_fr (b : Nat → Nat → Bool) (s : Nat) : Nat → Nat
  | 0 => 0
  | k + 1 => if u_tp b s k = true then k + 1 else u_fr b s k
def u_sn (b : Nat → Nat → Bool) (s : Nat) : Nat → Nat
  | 0 => 0
  | k + 1 => if s.testBit k = true then u_sn b s k ||| 2 ^ u_sc b s k else u_sn b s k
def u_se (b : Nat → Nat → Bool) (s : Nat) : Prop := ∀ j, j < q_cn s.testBit 5 → ∃ c, c < 5 ∧ s.testBit c = true ∧ u_sc b s c = j
def u_fv (b : Nat → Nat → Bool) (s : Nat) : Nat := if u_sn b s 5 = 2 ^ q_cn s.testBit 5 - 1 then u_fr b s 5 else 0
theorem u_id {b : Nat → Nat → Bool} {s a : Nat} (h : s.testBit a = true) (hb : b a a = false) : ∀ m, q_cn s.testBit m = q_cn (fun x => b a x && s.testBit x) m + q_cn (fun x => s.testBit x && !decide (x = a) && !b a x) m + (decide (a < m)).toNat := by
  intro m
  induction m with
  | zero => rfl
  | succ m ih =>
    simp only [q_cn]
    rw [ih]
    by_cases e : m = a
    · subst e
      have h1 : ¬ m < m := by omega
      have h2 : m < m + 1 := by omega
      rw [h, hb, decide_eq_false h1, decide_eq_true h2]
      simp
    · have h1 : decide (a < m + 1) = decide (a < m) := by rw [decide_eq_decide]; omega
      rw [h1, decide_eq_false e]
      cases s.testBit m <;> cases b a m <;> simp <;> omega
theorem u_id5 {b : Nat → Nat → Bool} {s a : Nat} (h : s.testBit a = true) (hb : b a a = false) (ha : a < 5) : q_cn s.testBit 5 = u_sc b s a + q_cn (fun x => s.testBit x && !decide (x = a) && !b a x) 5 + 1 := by
  have := u_id h hb 5
  rw [decide_eq_true ha] at this
  exact this
theorem u_rm {p : Nat → Bool} {a : Nat} (h : p a = true) : ∀ m, q_cn p m = q_cn (fun x => p x && decide (x ≠ a)) m + (decide (a < m)).toNat := by
  intro m
  induction m with
  | zero => rfl
  | succ m ih =>
    simp only [q_cn]
    rw [ih]
    by_cases e : m = a
    · subst e
      have h1 : ¬ m < m := by omega
      have h2 : m < m + 1 := by omega
      rw [h, decide_eq_false h1, decide_eq_true h2]
      simp
    · have h1 : decide (a < m + 1) = decide (a < m) := by rw [decide_eq_decide]; omega
      rw [h1, decide_eq_true e]
      cases p m <;> simp <;> omega
theorem u_tp_iff {b : Nat → Nat → Bool} {s a : Nat} (hb : b a a = false) (ha : a < 5) (h : s.testBit a = true) : u_tp b s a = true ↔ u_sc b s a + 1 = q_cn s.testBit 5 := by
  have := u_id5 h hb ha
  unfold u_tp
  rw [h, Bool.true_and, decide_eq_true_eq]
  omega
theorem u_tp_b {b : Nat → Nat → Bool} {s a x : Nat} (h : u_tp b s a = true) (hx : x < 5) (hs : s.testBit x = true) (hxa : x ≠ a) : b a x = true := by
  unfold u_tp at h
  rw [Bool.and_eq_true, decide_eq_true_eq, q_cn_zero] at h
  have := h.2 x hx
  rw [hs, decide_eq_false hxa] at this
  cases e : b a x
  · rw [e] at this; exact absurd this (by decide)
  · rfl
theorem u_tp_s {b : Nat → Nat → Bool} {s a : Nat} (h : u_tp b s a = true) : s.testBit a = true := by
  unfold u_tp at h
  rw [Bool.and_eq_true] at h; exact h.1
theorem u_tp_u {b : Nat → Nat → Bool} (an : ∀ x y, b x y = true → b y x = false) {s a a' : Nat} (ha : a < 5) (ha' : a' < 5) (h : u_tp b s a = true) (h' : u_tp b s a' = true) : a = a' := by
  refine Classical.byContradiction fun e => ?_
  have h1 := u_tp_b h ha' (u_tp_s h') (fun z => e z.symm)
  have h2 := u_tp_b h' ha (u_tp_s h) e
  rw [an _ _ h1] at h2
  exact absurd h2 (by decide)
theorem u_peel {b : Nat → Nat → Bool} (an : ∀ x y, b x y = true → b y x = false) (ir : ∀ x, b x x = false) {s s' a : Nat} (ha : a < 5) (h : u_tp b s a = true) (hs : ∀ x, x < 5 → s'.testBit x = (s.testBit x && decide (x ≠ a))) : (u_se b s ↔ u_se b s') ∧ q_cn s.testBit 5 = q_cn s'.testBit 5 + 1 := by
  have hsa := u_tp_s h
  have hpc : q_cn s.testBit 5 = q_cn s'.testBit 5 + 1 := by
    have := u_rm hsa 5
    rw [decide_eq_true ha] at this
    rw [this, q_cn_congr hs]
    rfl
  have hA := (u_tp_iff (ir a) ha hsa).mp h
  have hsc : ∀ c, c < 5 → s.testBit c = true → c ≠ a → u_sc b s' c = u_sc b s c := by
    intro c hc hcs hca
    unfold u_sc
    refine q_cn_congr fun x hx => ?_
    rw [hs x hx]
    by_cases e : x = a
    · subst e
      rw [an _ _ (u_tp_b h hc hcs hca)]; rfl
    · rw [decide_eq_true e, Bool.and_true]
  refine ⟨⟨fun H j hj => ?_, fun H j hj => ?_⟩, hpc⟩
  · obtain ⟨c, hc, hcs, e⟩ := H j (by omega)
    have hca : c ≠ a := by rintro rfl; omega
    refine ⟨c, hc, ?_, ?_⟩
    · rw [hs c hc, hcs, decide_eq_true hca]; rfl
    · rw [hsc c hc hcs hca]; exact e
  · by_cases ej : j = q_cn s'.testBit 5
    · exact ⟨a, ha, hsa, by omega⟩
    · obtain ⟨c, hc, hcs, e⟩ := H j (by omega)
      rw [hs c hc, Bool.and_eq_true, decide_eq_true_eq] at hcs
      exact ⟨c, hc, hcs.1, by rw [← hsc c hc hcs.1 hcs.2]; exact e⟩
theorem u_se_tp {b : Nat → Nat → Bool} (ir : ∀ x, b x x = false) {s : Nat} (h : u_se b s) (h0 : 0 < q_cn s.testBit 5) : ∃ a, a < 5 ∧ u_tp b s a = true := by
  obtain ⟨c, hc, hs, e⟩ := h (q_cn s.testBit 5 - 1) (by omega)
  exact ⟨c, hc, (u_tp_iff (ir c) hc hs).mpr (by omega)⟩
theorem u_fr_le (b : Nat → Nat → Bool) (s : Nat) : ∀ k, u_fr b s k ≤ k := by
  intro k
  induction k with
  | zero => exact Nat.le_refl _
  | succ k ih => simp only [u_fr]; split <;> omega
theorem u_fr_t {b : Nat → Nat → Bool} {s : Nat} : ∀ k, 0 < u_fr b s k → u_tp b s (u_fr b s k - 1) = true := by
  intro k
  induction k with
  | zero => intro h; exact absurd h (Nat.lt_irrefl 0)
  | succ k ih =>
    simp only [u_fr]
    split
    · rename_i h
      intro _
      rw [Nat.add_sub_cancel]; exact h
    · exact ih
theorem u_fr_f {b : Nat → Nat → Bool} {s : Nat} : ∀ k, u_fr b s k = 0 → ∀ a, a < k → u_tp b s a = false := by
  intro k
  induction k with
  | zero => intro _ a h; omega
  | succ k ih =>
    simp only [u_fr]
    split
    · intro h; omega
    · rename_i h
      intro h2 a ha
      by_cases e : a = k
      · subst e; cases e2 : u_tp b s a
        · rfl
        · exact absurd e2 h
      · exact ih h2 a (by omega)
theorem u_sn_bit {b : Nat → Nat → Bool} {s : Nat} : ∀ k j, (u_sn b s k).testBit j = true ↔ ∃ c, c < k ∧ s.testBit c = true ∧ u_sc b s c = j := by
  intro k
  induction k with
  | zero => intro j; simp [u_sn]
  | succ k ih =>
    intro j
    simp only [u_sn]
    split
    · rename_i h
      rw [Nat.testBit_or, Bool.or_eq_true, ih, Nat.testBit_two_pow, decide_eq_true_eq]
      constructor
      · rintro (⟨c, hc, h1, h2⟩ | e)
        · exact ⟨c, by omega, h1, h2⟩
        · exact ⟨k, by omega, h, e⟩
      · rintro ⟨c, hc, h1, h2⟩
        by_cases e : c = k
        · subst e; exact Or.inr h2
        · exact Or.inl ⟨c, by omega, h1, h2⟩
    · rename_i h
      rw [ih]
      constructor
      · rintro ⟨c, hc, h1, h2⟩
        exact ⟨c, by omega, h1, h2⟩
      · rintro ⟨c, hc, h1, h2⟩
        by_cases e : c = k
        · subst e; exact absurd h1 h
        · exact ⟨c, by omega, h1, h2⟩
theorem u_sn_se {b : Nat → Nat → Bool} (ir : ∀ x, b x x = false) {s : Nat} : u_sn b s 5 = 2 ^ q_cn s.testBit 5 - 1 ↔ u_se b s := by
  constructor
  · intro h j hj
    have : (u_sn b s 5).testBit j = true := by
      rw [h, Nat.testBit_two_pow_sub_one]; exact decide_eq_true hj
    exact (u_sn_bit 5 j).mp this
  · intro h
    apply Nat.eq_of_testBit_eq
    intro j
    rw [Nat.testBit_two_pow_sub_one]
    refine q_beq ?_
    rw [u_sn_bit, decide_eq_true_eq]
    constructor
    · rintro ⟨c, hc, hs, e⟩
      have := u_id5 hs (ir c) hc
      omega
    · exact h j
theorem u_sn_lt (b : Nat → Nat → Bool) (s : Nat) : ∀ k, u_sn b s k < 64 := by
  intro k
  induction k with
  | zero => exact (by decide : 0 < 64)
  | succ k ih =>
    simp only [u_sn]
    split
    · exact Nat.or_lt_two_pow (n := 6) ih (Nat.pow_lt_pow_right (a := 2) (n := 6) (by decide) (Nat.lt_succ_of_le (q_cn_le _ 5)))
    · exact ih
theorem u_fv_se {b : Nat → Nat → Bool} (ir : ∀ x, b x x = false) {s : Nat} (h : u_se b s) : u_fv b s = u_fr b s 5 := if_pos ((u_sn_se ir).mpr h)
theorem u_fv_nse {b : Nat → Nat → Bool} (ir : ∀ x, b x x = false) {s : Nat} (h : ¬ u_se b s) : u_fv b s = 0 := if_neg (fun z => h ((u_sn_se ir).mp z))
theorem u_fv_le (b : Nat → Nat → Bool) (s : Nat) : u_fv b s ≤ 5 := by
  unfold u_fv
  split
  · exact u_fr_le b s 5
  · omega
def u_lg (B : Nat → Nat) (s c : Nat) : Bool := !s.testBit c && decide (q_nd s (B c) = 0)
def u_ch (b : Nat → Nat → Bool) (B : Nat → Nat) : Nat → Nat
  | 0 => 0
  | k + 1 => if 0 < u_fv b (k + 1) ∧ q_cn (u_lg B (k + 1)) 5 = 0 then u_ch b B k ||| 2 ^ (u_fv b (k + 1) - 1) else u_ch b B k
theorem u_sub {v : Nat} (h : 0 < v) : zI ((v : Int) - 1) = nI (v - 1) := by
  rw [← zI_nat]; exact congrArg zI (by omega)
section
variable {xc xk xq : Int32} {xo xr xp xm xb xs xl xt xe xA xB xf xg xL xO xC xN : Nat → Int32}
theorem x_fO {post : Int32 → Prop} {n s : Nat} {d : Nat → Nat} (hb : ∀ a, a < 5 → xb a = nI (q_mk (e_b n d a) 5)) (hs : s < 32) (h0 : 0 < s) (H : post (zI ((u_fv (e_b n d) s : Int) - 1))) : wpX_frontOf post (xc, xk, xq, xo, xr, xp, xm, xb, xs, xl, xt, xe, xA, xB, xf, xg, xL, xO, xC, xN) (nI s) := by
  unfold wpX_frontOf
  have pc := q_pc_mk5 hs
  have l5 := q_cn_le s.testBit 5
  have ps : 0 < q_cn s.testBit 5 := by
    refine Nat.pos_of_ne_zero fun z => ?_
    rw [q_cn_zero] at z
    have e : s = q_mk (fun _ => false) 5 := q_mk_eq (n := 5) hs z
    rw [show q_mk (fun _ => false) 5 = 0 from rfl] at e
    omega
  refine x_ones (by omega) ?_
  rw [pc]
  refine loop_0 (fun m c (y : Int32 × Int32) => wX_frontOf_14 post (nI s) (nI (q_cn s.testBit 5)) xc xk xq xo xr xp xm xb xs xl xt xe xA xB xf xg xL xO xC xN m y.1 y.2 (nI c)) (fun c y => y = (nI (u_sn (e_b n d) s c), zI ((u_fr (e_b n d) s c : Int) - 1))) 5 (0, -1) rfl ?_ ?_
  · rintro m _ rfl
    refine br_t (Int32.le_refl _) ?_
    have l := u_sn_lt (e_b n d) s 5
    have lp : 2 ^ q_cn s.testBit 5 ≤ 2 ^ 5 := Nat.pow_le_pow_right (by decide) l5
    rw [bi_shl (by omega), bi_m1 (Nat.two_pow_pos _)]
    dsimp only
    unfold u_fv at H
    refine pk_eq (u_sn (e_b n d) s 5) (2 ^ q_cn s.testBit 5 - 1) (fun e => ?_) (fun e => ?_)
    · rw [if_pos e] at H; exact H
    · rw [if_neg e] at H; exact H
  · rintro m c _ hc rfl K
    have lB := u_B_lt n d c
    have lA : u_B n d c &&& s < 32 := Nat.lt_of_le_of_lt Nat.and_le_left lB
    have vc : xb (nI c).toNatClampNeg = nI (u_B n d c) := by rw [nI_clamp (by omega)]; exact hb c hc
    have sc : q_pc (u_B n d c &&& s) = u_sc (e_b n d) s c := by
      rw [q_pc_mk5 lA]
      unfold u_sc
      refine q_cn_congr fun x hx => ?_
      rw [Nat.testBit_and]
      unfold u_B
      rw [q_mk5_bit _ hx]
    have l6 : u_sc (e_b n d) s c ≤ 5 := q_cn_le _ _
    refine br_f (nI_ge (b := 5) hc (by decide)) (x_isIn (by omega) (by omega) (fun h => nm_r (nI_1 c) (K (_, _) ?_)) (fun h => ⟨vp_in_nI hc (by decide), ?_⟩))
    · have e : u_tp (e_b n d) s c = false := by unfold u_tp; rw [h]; rfl
      simp only [u_sn, u_fr, h, e]
      rfl
    · rw [vc, nx_and]
      refine x_ones (by omega) ?_
      rw [sc]
      refine nm_r (e' := nI (u_sn (e_b n d) s (c + 1))) ?_ ?_
      · rw [bi_shl (by omega), bi_or]
        simp only [u_sn, h, if_true]
      · have it := u_tp_iff (b := e_b n d) (e_b_irr n d c) hc h
        rw [bi_m1 ps]
        refine pk_eq (u_sc (e_b n d) s c) (q_cn s.testBit 5 - 1) (fun e => nm_r (nI_1 c) (K (_, _) ?_)) (fun e => nm_r (nI_1 c) (K (_, _) ?_))
        · have et : u_tp (e_b n d) s c = true := it.mpr (by omega)
          simp only [u_fr, et, if_true]
          refine congrArg (Prod.mk _) ?_
          rw [u_sub (by omega)]; rfl
        · have et : u_tp (e_b n d) s c = false := by
            cases z : u_tp (e_b n d) s c
            · rfl
            · exact absurd (it.mp z) (by omega)
          simp only [u_fr, et]
          rfl
theorem x_ch {post : Int32 → Prop} {n : Nat} {d : Nat → Nat} (hb : ∀ a, a < 5 → xb a = nI (q_mk (e_b n d a) 5)) (H : post (nI (u_ch (e_b n d) (u_B n d) 31))) : wpX_chainFronts post (xc, xk, xq, xo, xr, xp, xm, xb, xs, xl, xt, xe, xA, xB, xf, xg, xL, xO, xC, xN) := by
  refine pk_loop (fun m s (y : Int32) => wX_chainFronts_4 post xc xk xq xo xr xp xm xb xs xl xt xe xA xB xf xg xL xO xC xN m y (nI s)) (fun s y => 1 ≤ s ∧ y = nI (u_ch (e_b n d) (u_B n d) (s - 1))) 32 1 0 (by decide) ⟨by decide, rfl⟩ ?_ ?_
  · rintro m _ ⟨_, rfl⟩
    exact br_t (by decide) H
  · rintro m s _ hs ⟨hs1, rfl⟩ K
    obtain ⟨k, rfl⟩ : ∃ k, s = k + 1 := ⟨s - 1, by omega⟩
    rw [Nat.add_sub_cancel]
    rw [Nat.add_sub_cancel] at K
    have lv := u_fv_le (e_b n d) (k + 1)
    refine br_f (nI_nlt (b := k + 1) (a := 31) (by omega) (by decide)) (x_fO hb hs (by omega) ?_)
    refine zb_le 0 ((u_fv (e_b n d) (k + 1) : Int) - 1) (fun h => ?_) (fun h => nm_r (nI_1 (k + 1)) (K _ ⟨by omega, ?_⟩)) (by omega) (by omega)
    · rw [u_sub (by omega)]
      have T : ∀ g, g = decide (q_cn (u_lg (u_B n d) (k + 1)) 5 = 0) → wX_chainFronts_77 post (wX_chainFronts_4 post xc xk xq xo xr xp xm xb xs xl xt xe xA xB xf xg xL xO xC xN m) (nI (u_ch (e_b n d) (u_B n d) k)) (nI (k + 1)) (nI (u_fv (e_b n d) (k + 1) - 1)) (nI g.toNat) xc xk xq xo xr xp xm xb xs xl xt xe xA xB xf xg xL xO xC xN := by
        rintro g hg
        cases g
        · refine br_t rfl (nm_r (nI_1 (k + 1)) (K _ ⟨by omega, ?_⟩))
          simp only [u_ch]; rw [if_neg (fun z => of_decide_eq_false hg.symm z.2)]
        · refine br_f (by decide) (nm_r (e' := nI (u_ch (e_b n d) (u_B n d) (k + 1))) ?_ (nm_r (nI_1 (k + 1)) (K _ ⟨by omega, rfl⟩)))
          rw [bi_shl (by omega), bi_or]
          simp only [u_ch]; rw [if_pos ⟨by omega, of_decide_eq_true hg.symm⟩]
      refine lp_good (W := fun m' y z => wX_chainFronts_29 post (wX_chainFronts_4 post xc xk xq xo xr xp xm xb xs xl xt xe xA xB xf xg xL xO xC xN m) (nI (u_ch (e_b n d) (u_B n d) k)) (nI (k + 1)) (nI (u_fv (e_b n d) (k + 1) - 1)) xc xk xq xo xr xp xm xb xs xl xt xe xA xB xf xg xL xO xC xN m' y z) true (u_lg (u_B n d) (k + 1)) (J := fun g => g = decide (q_cn (u_lg (u_B n d) (k + 1)) 5 = 0)) ?_ ?_ ?_ rfl
      · intro m' g hg
        exact br_t (Int32.le_refl _) (T g hg)
      · intro m' c hc hg
        exact br_f (nI_ge (b := 5) hc (by decide)) (br_t rfl (T false hg))
      · intro m' c hc K'
        have vc : xb (nI c).toNatClampNeg = nI (u_B n d c) := by rw [nI_clamp (by omega)]; exact hb c hc
        have l3 := q_nd_lt (b := u_B n d c) hs
        refine br_f (nI_ge (b := 5) hc (by decide)) (br_f (by decide) ?_)
        rw [vc, bi_nd]
        refine x_isIn (by omega) (by omega) (fun h1 => ⟨vp_in_nI hc (by decide), pk_eq (q_nd (k + 1) (u_B n d c)) 0 (fun h2 => nm_r (nI_1 c) ?_) (fun h2 => nm_r (nI_1 c) ?_)⟩) (fun h1 => nm_r (nI_1 c) ?_)
        · unfold u_lg at K'; rw [h1, decide_eq_true h2] at K'; exact K'
        · unfold u_lg at K'; rw [h1, decide_eq_false h2] at K'; exact K'
        · unfold u_lg at K'; rw [h1] at K'; exact K'
    · simp only [u_ch]; rw [if_neg (by omega)]
end
end
section
theorem u_tpY {n : Nat} {d : Nat → Nat} {s a : Nat} (hs : s < 32) : q_nd (q_nd s (2 ^ a)) (u_B n d a) = 0 ↔ q_cn (fun x => s.testBit x && !decide (x = a) && !e_b n d a x) 5 = 0 := by
  have bit : ∀ x, x < 5 → (q_nd (q_nd s (2 ^ a)) (u_B n d a)).testBit x = (s.testBit x && !decide (x = a) && !e_b n d a x) := by
    intro x hx
    rw [q_nd_bit (by omega), q_nd_bit (by omega), Nat.testBit_two_pow]
    unfold u_B
    rw [q_mk5_bit _ hx]
    have : decide (a = x) = decide (x = a) := by rw [decide_eq_decide]; exact eq_comm
    rw [this]
  rw [q_cn_zero]
  constructor
  · intro h x hx
    rw [← bit x hx, h]; simp
  · intro h
    have hl : q_nd (q_nd s (2 ^ a)) (u_B n d a) < 2 ^ 5 := q_nd_lt (q_nd_lt hs)
    rw [q_mk_eq (p := fun _ => false) hl (fun x hx => by rw [bit x hx]; exact h x hx)]
    rfl
section
variable {yn yq : Int32} {yo yp ym yt yl yb yw yk yh yC yN : Nat → Int32}
theorem y_fr {post : Int32 → Prop} {n s : Nat} {d : Nat → Nat} (hn : n ≤ 9) (hm : ∀ a b, a < 5 → b < 5 → ym (5 * a + b) = zI (e_m n d a b)) (hs : s < 32) (h0 : 0 < s) (H : post (zI ((u_fv (e_b n d) s : Int) - 1))) : wpY_front post (yn, yq, yo, yp, ym, yt, yl, yb, yw, yk, yh, yC, yN) (nI s) := by
  have ir := e_b_irr n d
  have an : ∀ x y, e_b n d x y = true → e_b n d y x = false := fun x y h => e_b_anti h
  refine loop_0 (fun m k (y : Int32 × Int32) => wY_front_7 post yn yq yo yp ym yt yl yb yw yk yh yC yN m y.1 y.2 (nI k)) (fun k y => ∃ r f : Nat, y = (nI r, zI ((f : Int) - 1)) ∧ r < 32 ∧ f ≤ 5 ∧ (u_se (e_b n d) s ↔ u_se (e_b n d) r) ∧ q_cn r.testBit 5 ≤ 5 - k ∧ (k = 0 → r = s ∧ f = 0) ∧ (1 ≤ k → f = u_fr (e_b n d) s 5 ∧ 1 ≤ f)) 5 (nI s, -1) ⟨s, 0, rfl, hs, by decide, Iff.rfl, q_cn_le _ _, fun _ => ⟨rfl, rfl⟩, fun h => absurd h (by decide)⟩ ?_ ?_
  · rintro m _ ⟨r, f, rfl, hr, hf, hse, hpc, _, hk1⟩
    refine br_t (Int32.le_refl _) ?_
    have hse2 : u_se (e_b n d) s := hse.mpr (fun j hj => by omega)
    rw [u_fv_se ir hse2, ← (hk1 (by decide)).1] at H
    exact H
  · rintro m k _ hk ⟨r, f, rfl, hr, hf, hse, hpc, hk0, hk1⟩ K
    refine br_f (nI_ge (b := 5) hk (by decide)) ?_
    dsimp only at K ⊢
    have hr0 : r = 0 ↔ q_cn r.testBit 5 = 0 := by
      rw [q_cn_zero]
      constructor
      · rintro rfl x _; simp
      · intro h
        rw [q_mk_eq (p := fun _ => false) (n := 5) hr h]; rfl
    refine loop_0 (fun m' a (y : Int32) => wY_front_19 post (wY_front_7 post yn yq yo yp ym yt yl yb yw yk yh yC yN m) (nI r) (zI ((f : Int) - 1)) (nI k) yn yq yo yp ym yt yl yb yw yk yh yC yN m' y (nI a)) (fun a y => y = zI ((u_fr (e_b n d) r a : Int) - 1)) 5 (-1) rfl ?_ ?_
    · rintro m' _ rfl
      refine br_t (Int32.le_refl _) ?_
      have lf := u_fr_le (e_b n d) r 5
      refine pk_eq r 0 (fun e => br_t (congrArg nI e) (br_t (congrArg nI e) (nm_r (nI_1 k) (K (_, _) ⟨r, f, rfl, hr, hf, hse, ?_, fun h => by omega, fun _ => hk1 ?_⟩)))) (fun e => ?_)
      · rw [hr0.mp e]; omega
      · refine Nat.pos_of_ne_zero fun z => ?_
        have := (hk0 z).1
        omega
      · have hne : ¬ nI r = 0 := nI_ne0 (by omega) (by omega)
        refine zb_le 0 ((u_fr (e_b n d) r 5 : Int) - 1) (fun h => br_f hne ?_) (fun h => ?_) (by omega) (by omega)
        · have hp : 0 < u_fr (e_b n d) r 5 := by omega
          have htp := u_fr_t 5 hp
          have hl : u_fr (e_b n d) r 5 - 1 < 5 := by omega
          have pe := u_peel (s' := q_nd r (2 ^ (u_fr (e_b n d) r 5 - 1))) an ir hl htp (fun x hx => by
            rw [q_nd_bit (by omega), Nat.testBit_two_pow]
            refine congrArg (fun z => r.testBit x && z) ?_
            by_cases e : x = u_fr (e_b n d) r 5 - 1
            · rw [decide_eq_true e.symm, decide_eq_false (fun z => z e)]; rfl
            · rw [decide_eq_false (fun z => e z.symm), decide_eq_true e]; rfl)
          have step : ∀ f', f' ≤ 5 → f' = u_fr (e_b n d) s 5 → 1 ≤ f' → wY_front_87 post (wY_front_7 post yn yq yo yp ym yt yl yb yw yk yh yC yN m) (nI r) (zI ((f' : Int) - 1)) (nI k) (zI ((u_fr (e_b n d) r 5 : Int) - 1)) yn yq yo yp ym yt yl yb yw yk yh yC yN := by
            intro f' q1 q2 q3
            refine br_f hne (nm_r (e' := nI (q_nd r (2 ^ (u_fr (e_b n d) r 5 - 1)))) ?_ (nm_r (nI_1 k) (K (_, _) ⟨_, f', rfl, q_nd_lt hr, q1, hse.trans pe.1, ?_, fun h => by omega, fun _ => ⟨q2, q3⟩⟩)))
            · rw [u_sub hp, bi_shl (by omega), bi_nd]
            · have := pe.2
              omega
          by_cases ek : k = 0
          · obtain ⟨e1, e2⟩ := hk0 ek
            subst e2
            refine br_f (by decide) ?_
            exact step _ lf (by rw [e1]) hp
          · have := hk1 (by omega)
            refine zb_le 0 ((f : Int) - 1) (fun _ => step f hf this.1 this.2) (fun h => absurd h (by omega)) (by omega) (by omega)
        · have hz : u_fr (e_b n d) r 5 = 0 := by omega
          have hns : ¬ u_se (e_b n d) s := by
            intro z
            obtain ⟨a, ha, ht⟩ := u_se_tp ir (hse.mp z) (Nat.pos_of_ne_zero fun q => e (hr0.mpr q))
            rw [u_fr_f 5 hz a ha] at ht
            exact absurd ht (by decide)
          rw [u_fv_nse ir hns] at H
          exact H
    · rintro m' a _ ha rfl K'
      have l := q_nd_lt (b := u_B n d a) (q_nd_lt (b := 2 ^ a) hr)
      refine br_f (nI_ge (b := 5) ha (by decide)) (bi_1 r a (by omega) (by omega) (fun h1 => y_bB hn hm ha ?_) (fun h1 => nm_r (nI_1 a) (K' _ ?_)))
      · rw [bi_shl (by omega), bi_nd]
        show ((nI (q_nd r (2 ^ a)) &&& (nI (u_B n d a) ^^^ (-1))) = 0 → _) ∧ (¬ (nI (q_nd r (2 ^ a)) &&& (nI (u_B n d a) ^^^ (-1))) = 0 → _)
        rw [bi_nd]
        have it := @u_tpY n d r a hr
        refine pk_eq (q_nd (q_nd r (2 ^ a)) (u_B n d a)) 0 (fun e => nm_r (nI_1 a) (K' _ ?_)) (fun e => nm_r (nI_1 a) (K' _ ?_))
        · have et : u_tp (e_b n d) r a = true := by
            unfold u_tp
            rw [h1, decide_eq_true (it.mp e)]; rfl
          simp only [u_fr, et, if_true]
          rw [u_sub (by omega)]; rfl
        · have et : u_tp (e_b n d) r a = false := by
            unfold u_tp
            rw [decide_eq_false (fun z => e (it.mpr z)), Bool.and_false]
          simp only [u_fr, et]
          rfl
      · have et : u_tp (e_b n d) r a = false := by unfold u_tp; rw [h1]; rfl
        simp only [u_fr, et]
        rfl
theorem y_ch {post : Int32 → Prop} {n : Nat} {d : Nat → Nat} (hn : n ≤ 9) (hm : ∀ a b, a < 5 → b < 5 → ym (5 * a + b) = zI (e_m n d a b)) (H : post (nI (u_ch (e_b n d) (u_B n d) 31))) : wpY_chains post (yn, yq, yo, yp, ym, yt, yl, yb, yw, yk, yh, yC, yN) := by
  refine pk_loop (fun m s (y : Int32) => wY_chains_4 post yn yq yo yp ym yt yl yb yw yk yh yC yN m y (nI s)) (fun s y => 1 ≤ s ∧ y = nI (u_ch (e_b n d) (u_B n d) (s - 1))) 32 1 0 (by decide) ⟨by decide, rfl⟩ ?_ ?_
  · rintro m _ ⟨_, rfl⟩
    exact br_t (by decide) H
  · rintro m s _ hs ⟨hs1, rfl⟩ K
    obtain ⟨k, rfl⟩ : ∃ k, s = k + 1 := ⟨s - 1, by omega⟩
    rw [Nat.add_sub_cancel]
    rw [Nat.add_sub_cancel] at K
    have lv := u_fv_le (e_b n d) (k + 1)
    refine br_f (nI_ge (b := 32) hs (by decide)) (y_fr hn hm hs (by omega) ?_)
    refine loop_0 (fun m' c (y : Int32) => wY_chains_22 post (wY_chains_4 post yn yq yo yp ym yt yl yb yw yk yh yC yN m) (nI (u_ch (e_b n d) (u_B n d) k)) (nI (k + 1)) (zI ((u_fv (e_b n d) (k + 1) : Int) - 1)) yn yq yo yp ym yt yl yb yw yk yh yC yN m' y (nI c)) (fun c y => y = nI (!decide (q_cn (u_lg (u_B n d) (k + 1)) c = 0)).toNat) 5 0 rfl ?_ ?_
    · rintro m' _ rfl
      refine br_t (Int32.le_refl _) (zb_lt ((u_fv (e_b n d) (k + 1) : Int) - 1) 0 (fun h => nm_r (nI_1 (k + 1)) (K _ ⟨by omega, ?_⟩)) (fun h => ?_) (by omega) (by omega))
      · simp only [u_ch]; rw [if_neg (by omega)]
      · rw [u_sub (by omega)]
        cases hg : decide (q_cn (u_lg (u_B n d) (k + 1)) 5 = 0)
        · refine br_f (by decide) (nm_r (nI_1 (k + 1)) (K _ ⟨by omega, ?_⟩))
          simp only [u_ch]; rw [if_neg (fun z => of_decide_eq_false hg z.2)]
        · refine br_t rfl (nm_r (e' := nI (u_ch (e_b n d) (u_B n d) (k + 1))) ?_ (nm_r (nI_1 (k + 1)) (K _ ⟨by omega, rfl⟩)))
          rw [bi_shl (by omega), bi_or]
          simp only [u_ch]; rw [if_pos ⟨by omega, of_decide_eq_true hg⟩]
    · rintro m' c _ hc rfl K'
      have l3 := q_nd_lt (b := u_B n d c) hs
      refine br_f (nI_ge (b := 5) hc (by decide)) (bi_0 (k + 1) c (by omega) (by omega) (fun h1 => y_bB hn hm hc ?_) (fun h1 => nm_r (nI_1 c) (K' _ ?_)))
      · show ((nI (k + 1) &&& (nI (u_B n d c) ^^^ (-1))) = 0 → _) ∧ (¬ (nI (k + 1) &&& (nI (u_B n d c) ^^^ (-1))) = 0 → _)
        rw [bi_nd]
        refine pk_eq (q_nd (k + 1) (u_B n d c)) 0 (fun e => nm_r (nI_1 c) (K' _ ?_)) (fun e => nm_r (nI_1 c) (K' _ ?_))
        · have hl : u_lg (u_B n d) (k + 1) c = true := by unfold u_lg; rw [h1, decide_eq_true e]; rfl
          simp only [q_cn, hl, Bool.toNat_true]
          rw [decide_eq_false (show ¬ q_cn (u_lg (u_B n d) (k + 1)) c + 1 = 0 by omega)]; rfl
        · have hl : u_lg (u_B n d) (k + 1) c = false := by unfold u_lg; rw [decide_eq_false e, Bool.and_false]
          simp only [q_cn, hl, Bool.toNat_false, Nat.add_zero]
      · have hl : u_lg (u_B n d) (k + 1) c = false := by unfold u_lg; rw [h1]; rfl
        simp only [q_cn, hl, Bool.toNat_false, Nat.add_zero]
end
end
section
/-- b isn't beaten by c on the ballots of l -/
def v_bad (n : Nat) (d : Nat → Nat) (c l b : Nat) : Bool := !decide (b = c) && !decide (q_pc l < 2 * q_cn (fun i => e_pf d c b i && l.testBit i) n)
def v_ms (n : Nat) (d : Nat → Nat) (c : Nat) : Nat → Nat
  | 0 => 0
  | k + 1 => if v_ms n d c k < q_pc (k + 1) ∧ q_cn (v_bad n d c (k + 1)) 5 = 0 then q_pc (k + 1) else v_ms n d c k
def v_res (n : Nat) (d : Nat → Nat) (c : Nat) : Int := if v_ms n d c (2 ^ n - 1) = 0 then -1002 else ((n - v_ms n d c (2 ^ n - 1) : Nat) : Int)
theorem q_pc_n {s n : Nat} (hn : n ≤ 9) (h : s < 2 ^ n) : q_pc s = q_cn s.testBit n := by
  have e := q_pc_mk (p := s.testBit) hn
  rwa [q_mk_self h] at e
theorem v_ms_le {n : Nat} {d : Nat → Nat} {c : Nat} (hn : n ≤ 9) : ∀ k, k < 2 ^ n → v_ms n d c k ≤ n := by
  intro k
  induction k with
  | zero => intro _; exact Nat.zero_le n
  | succ k ih =>
    intro hk
    have := ih (by omega)
    have h2 := q_pc_n hn hk
    have h3 := q_cn_le (k + 1).testBit n
    simp only [v_ms]
    split <;> omega
theorem v_res_r {n : Nat} {d : Nat → Nat} {c : Nat} (hn : n ≤ 9) : v_res n d c = -1002 ∨ (0 ≤ v_res n d c ∧ v_res n d c ≤ 9) := by
  unfold v_res
  split
  · exact Or.inl rfl
  · refine Or.inr ?_
    omega
theorem e_cs_sum {n : Nat} {d : Nat → Nat} {s a b : Nat} (hd : ∀ i, i < n → o_ok (d i) = true) (ha : a < 5) (hb : b < 5) (hab : a ≠ b) : q_cn (fun i => s.testBit i && e_pf d a b i) n + q_cn (fun i => s.testBit i && e_pf d b a i) n = q_cn s.testBit n := by
  induction n with
  | zero => rfl
  | succ n ih =>
    have h := ih (fun i hi => hd i (by omega))
    have hk : o_pl (d n) a ≠ o_pl (d n) b := fun e => hab (o_inj (hd n (by omega)) ha hb e)
    simp only [q_cn]
    unfold e_pf at h ⊢
    cases s.testBit n
    · simp only [Bool.false_and, Bool.toNat_false]; omega
    · rcases Nat.lt_or_ge (o_pl (d n) a) (o_pl (d n) b) with h2 | h2
      · have h3 : ¬ o_pl (d n) b < o_pl (d n) a := by omega
        rw [decide_eq_true h2, decide_eq_false h3]
        simp only [Bool.true_and, Bool.toNat_true, Bool.toNat_false]; omega
      · have h3 : o_pl (d n) b < o_pl (d n) a := by omega
        have h4 : ¬ o_pl (d n) a < o_pl (d n) b := by omega
        rw [decide_eq_true h3, decide_eq_false h4]
        simp only [Bool.true_and, Bool.toNat_true, Bool.toNat_false]; omega
theorem v_pos {n s : Nat} (hn : n ≤ 9) (h : s < 2 ^ n) (h0 : 0 < s) : 0 < q_cn s.testBit n := by
  refine Nat.pos_of_ne_zero fun z => ?_
  rw [q_cn_zero] at z
  have e := q_mk_eq h z
  have g : ∀ m, q_mk (fun _ => false) m = 0 := by
    intro m
    induction m with
    | zero => rfl
    | succ m ih => simp [q_mk, ih]
  rw [g] at e
  omega
theorem zI_m1002 : zI (-1002) = -1002 := rfl
section
variable {xc xk xq : Int32} {xo xr xp xm xb xs xl xt xe xA xB xf xg xL xO xC xN : Nat → Int32}
theorem x_rm {post : Int32 → Prop} {n c : Nat} {d : Nat → Nat} (hn : n ≤ 9) (hp : ∀ a b, a < 5 → b < 5 → xp (5 * a + b) = nI (e_M n d a b)) (hc : c < 5) (H : post (zI (v_res n d c))) : wpX_removalsOf post (nI n, xk, xq, xo, xr, xp, xm, xb, xs, xl, xt, xe, xA, xB, xf, xg, xL, xO, xC, xN) (nI c) := by
  have l2 : 2 ^ n ≤ 2 ^ 9 := Nat.pow_le_pow_right (by decide) hn
  have l1 : 1 ≤ 2 ^ n := Nat.two_pow_pos n
  refine pk_loop (fun m l (y : Int32) => wX_removalsOf_4 post (nI c) (nI n) xk xq xo xr xp xm xb xs xl xt xe xA xB xf xg xL xO xC xN m y (nI l)) (fun l y => 1 ≤ l ∧ y = nI (v_ms n d c (l - 1))) (2 ^ n) 1 0 l1 ⟨by decide, rfl⟩ ?_ ?_
  · rintro m _ ⟨_, rfl⟩
    have lm := v_ms_le (d := d) (c := c) hn (2 ^ n - 1) (by omega)
    refine br_t (by rw [bi_shl (by omega)]; exact Int32.le_refl _) (pk_eq (v_ms n d c (2 ^ n - 1)) 0 (fun e => ?_) (fun e => ?_))
    · unfold v_res at H; rw [if_pos e] at H; exact H
    · unfold v_res at H; rw [if_neg e, zI_nat] at H
      rw [pk_sub lm]; exact H
  · rintro m l _ hl ⟨hl1, rfl⟩ K
    obtain ⟨k, rfl⟩ : ∃ k, l = k + 1 := ⟨l - 1, by omega⟩
    rw [Nat.add_sub_cancel]
    rw [Nat.add_sub_cancel] at K
    have lm := v_ms_le (d := d) (c := c) hn k (by omega)
    have lp := q_pc_le (k + 1)
    refine br_f (by rw [bi_shl (by omega)]; exact nI_ge hl (by omega)) (x_ones (by omega) (pk_lt (v_ms n d c k) (q_pc (k + 1)) (fun h => ?_) (fun h => nm_r (nI_1 (k + 1)) (K _ ⟨by omega, ?_⟩))))
    · have T : ∀ g, g = decide (q_cn (v_bad n d c (k + 1)) 5 = 0) → wX_removalsOf_90 post (wX_removalsOf_4 post (nI c) (nI n) xk xq xo xr xp xm xb xs xl xt xe xA xB xf xg xL xO xC xN m) (nI c) (nI (v_ms n d c k)) (nI (k + 1)) (nI (q_pc (k + 1))) (nI g.toNat) (nI n) xk xq xo xr xp xm xb xs xl xt xe xA xB xf xg xL xO xC xN := by
        rintro g hg
        cases g
        · refine br_t rfl (nm_r (nI_1 (k + 1)) (K _ ⟨by omega, ?_⟩))
          simp only [Nat.add_sub_cancel, v_ms]; rw [if_neg (fun z => of_decide_eq_false hg.symm z.2)]
        · refine br_f (by decide) (nm_r (nI_1 (k + 1)) (K _ ⟨by omega, ?_⟩))
          simp only [Nat.add_sub_cancel, v_ms]; rw [if_pos ⟨h, of_decide_eq_true hg.symm⟩]
      refine lp_good (W := fun m' y z => wX_removalsOf_36 post (wX_removalsOf_4 post (nI c) (nI n) xk xq xo xr xp xm xb xs xl xt xe xA xB xf xg xL xO xC xN m) (nI c) (nI (v_ms n d c k)) (nI (k + 1)) (nI (q_pc (k + 1))) (nI n) xk xq xo xr xp xm xb xs xl xt xe xA xB xf xg xL xO xC xN m' y z) true (v_bad n d c (k + 1)) (J := fun g => g = decide (q_cn (v_bad n d c (k + 1)) 5 = 0)) ?_ ?_ ?_ rfl
      · intro m' g hg
        exact br_t (Int32.le_refl _) (T g hg)
      · intro m' b hb hg
        exact br_f (nI_ge (b := 5) hb (by decide)) (br_t rfl (T false hg))
      · intro m' b hb K'
        have lM := e_M_lt hn d c b
        have lA : e_M n d c b &&& (k + 1) < 512 := Nat.lt_of_le_of_lt Nat.and_le_left lM
        have pa : q_pc (e_M n d c b &&& (k + 1)) = q_cn (fun i => e_pf d c b i && (k + 1).testBit i) n := by
          rw [q_pc_n hn (Nat.lt_of_le_of_lt Nat.and_le_right hl)]
          refine q_cn_congr fun i hi => ?_
          rw [Nat.testBit_and]
          unfold e_M
          rw [q_mk_bit]; simp [hi]
        have lq := q_cn_le (fun i => e_pf d c b i && (k + 1).testBit i) n
        have vp : xp ((5 : Int32) * nI c + nI b).toNatClampNeg = nI (e_M n d c b) := by rw [bi_ic (by omega) (by omega), hp c b hc hb]
        refine br_f (nI_ge (b := 5) hb (by decide)) (br_f (by decide) (pk_eq b c (fun e => nm_r (nI_1 b) ?_) (fun e => ⟨bi_in (m := 5) hc hb (by decide) (by decide), ?_⟩)))
        · unfold v_bad at K'; rw [decide_eq_true e] at K'; exact K'
        · rw [vp, nx_and]
          refine x_ones lA ?_
          rw [pa, show (2 : Int32) = nI 2 from rfl, pk_mul]
          refine pk_le (2 * q_cn (fun i => e_pf d c b i && (k + 1).testBit i) n) (q_pc (k + 1)) (fun h2 => nm_r (nI_1 b) ?_) (fun h2 => nm_r (nI_1 b) ?_)
          · unfold v_bad at K'; rw [decide_eq_false e, decide_eq_false (show ¬ q_pc (k + 1) < 2 * q_cn (fun i => e_pf d c b i && (k + 1).testBit i) n by omega)] at K'; exact K'
          · unfold v_bad at K'; rw [decide_eq_true h2, Bool.not_true, Bool.and_false] at K'; exact K'
    · simp only [Nat.add_sub_cancel, v_ms]; rw [if_neg (by omega)]
end
section
variable {yn yq : Int32} {yo yp ym yt yl yb yw yk yh yC yN : Nat → Int32}
def v_ls (n m : Nat) : Nat := if m = 0 then 100 else n - m
theorem y_rm {post : Int32 → Prop} {n c : Nat} {d : Nat → Nat} (hok : e_ok n d) (hB : e_balY n d yo yp) (hc : c < 5) (H : post (zI (v_res n d c))) : ∃ m, wY_removals_19 post (nI c) (nI n) yq yo yp ym yt yl yb yw yk yh yC yN m 100 1 := by
  have hn := hok.1
  have l2 : 2 ^ n ≤ 2 ^ 9 := Nat.pow_le_pow_right (by decide) hn
  have l1 : 1 ≤ 2 ^ n := Nat.two_pow_pos n
  refine pk_loop (fun m l (y : Int32) => wY_removals_19 post (nI c) (nI n) yq yo yp ym yt yl yb yw yk yh yC yN m y (nI l)) (fun l y => 1 ≤ l ∧ y = nI (v_ls n (v_ms n d c (l - 1)))) (2 ^ n) 1 100 l1 ⟨by decide, rfl⟩ ?_ ?_
  · rintro m _ ⟨_, rfl⟩
    have lm := v_ms_le (d := d) (c := c) hn (2 ^ n - 1) (by omega)
    refine br_t (by rw [bi_shl (by omega)]; exact Int32.le_refl _) ?_
    unfold v_res at H
    unfold v_ls
    by_cases e : v_ms n d c (2 ^ n - 1) = 0
    · rw [if_pos e] at H ⊢
      exact br_t rfl H
    · rw [if_neg e] at H ⊢
      rw [zI_nat] at H
      exact pk_eq (n - v_ms n d c (2 ^ n - 1)) 100 (fun h => by omega) (fun _ => H)
  · rintro m l _ hl ⟨hl1, rfl⟩ K
    obtain ⟨k, rfl⟩ : ∃ k, l = k + 1 := ⟨l - 1, by omega⟩
    rw [Nat.add_sub_cancel]
    rw [Nat.add_sub_cancel] at K
    have lm := v_ms_le (d := d) (c := c) hn k (by omega)
    have pn := q_pc_n hn hl
    have pp := v_pos hn hl (by omega)
    have pl := q_cn_le (k + 1).testBit n
    have lls : v_ls n (v_ms n d c k) ≤ 100 := by unfold v_ls; split <;> omega
    refine br_f (by rw [bi_shl (by omega)]; exact nI_ge hl (by omega)) ?_
    refine loop_0 (fun m' i (y : Int32) => wY_removals_38 post (wY_removals_19 post (nI c) (nI n) yq yo yp ym yt yl yb yw yk yh yC yN m) (nI c) (nI (v_ls n (v_ms n d c k))) (nI (k + 1)) (nI n) yq yo yp ym yt yl yb yw yk yh yC yN m' y (nI i)) (fun i y => y = nI (n - q_cn (k + 1).testBit i)) n (nI n) rfl ?_ ?_
    · rintro m' _ rfl
      refine br_t (Int32.le_refl _) ?_
      have L : ∀ g0, g0 = decide (v_ms n d c k < q_pc (k + 1)) → ∃ m'', wY_removals_80 post (wY_removals_19 post (nI c) (nI n) yq yo yp ym yt yl yb yw yk yh yC yN m) (nI c) (nI (v_ls n (v_ms n d c k))) (nI (k + 1)) (nI (n - q_cn (k + 1).testBit n)) (nI n) yq yo yp ym yt yl yb yw yk yh yC yN m'' (nI g0.toNat) (nI 0) := by
        intro g0 hg0
        refine loop_0 (fun m'' b (y : Int32) => wY_removals_80 post (wY_removals_19 post (nI c) (nI n) yq yo yp ym yt yl yb yw yk yh yC yN m) (nI c) (nI (v_ls n (v_ms n d c k))) (nI (k + 1)) (nI (n - q_cn (k + 1).testBit n)) (nI n) yq yo yp ym yt yl yb yw yk yh yC yN m'' y (nI b)) (fun b y => y = nI (g0 && decide (q_cn (v_bad n d c (k + 1)) b = 0)).toNat) 5 (nI g0.toNat) (by simp [q_cn]) ?_ ?_
        · rintro m'' _ rfl
          refine br_t (Int32.le_refl _) ?_
          cases hg : (g0 && decide (q_cn (v_bad n d c (k + 1)) 5 = 0))
          · refine br_t rfl (nm_r (nI_1 (k + 1)) (K _ ⟨by omega, ?_⟩))
            simp only [Nat.add_sub_cancel, v_ms]
            rw [if_neg]
            rintro ⟨z1, z2⟩
            rw [hg0, decide_eq_true z1, decide_eq_true z2] at hg
            exact absurd hg (by decide)
          · refine br_f (by decide) (nm_r (nI_1 (k + 1)) (K _ ⟨by omega, ?_⟩))
            rw [Bool.and_eq_true, hg0, decide_eq_true_eq, decide_eq_true_eq] at hg
            simp only [Nat.add_sub_cancel, v_ms]
            rw [if_pos hg]
            unfold v_ls
            rw [if_neg (by omega), pn]
        · rintro m'' b _ hb rfl K'
          refine br_f (nI_ge (b := 5) hb (by decide)) ?_
          cases hg : (g0 && decide (q_cn (v_bad n d c (k + 1)) b = 0))
          · refine br_t rfl (nm_r (nI_1 b) (K' _ ?_))
            have : (g0 && decide (q_cn (v_bad n d c (k + 1)) (b + 1) = 0)) = false := by
              cases g0
              · rfl
              · rw [Bool.true_and, decide_eq_false_iff_not] at hg ⊢
                have := q_cn_up (v_bad n d c (k + 1)) (show b ≤ b + 1 by omega)
                omega
            rw [this]
          · rw [Bool.and_eq_true, decide_eq_true_eq] at hg
            refine br_f (by decide) (pk_eq b c (fun e => nm_r (nI_1 b) (K' _ ?_)) (fun e => ?_))
            · have hv : v_bad n d c (k + 1) b = false := by unfold v_bad; rw [decide_eq_true e]; rfl
              simp only [q_cn, hv, hg.1, hg.2]; rfl
            · have hs := e_cs_sum (s := k + 1) hok.2 hc hb (fun z => e z.symm)
              have e1 : q_cn (fun i => e_pf d c b i && (k + 1).testBit i) n = q_cn (fun i => (k + 1).testBit i && e_pf d c b i) n := q_cn_congr fun i _ => Bool.and_comm _ _
              refine y_mO hok hB (by omega) hc hb ?_
              have r : -9 ≤ e_ms n d (k + 1) c b ∧ e_ms n d (k + 1) c b ≤ 9 := by unfold e_ms; omega
              refine zb_lt 0 (e_ms n d (k + 1) c b) (fun h => nm_r (nI_1 b) (K' _ ?_)) (fun h => nm_r (nI_1 b) (K' _ ?_)) (by omega) (by omega)
              · have hv : v_bad n d c (k + 1) b = false := by
                  unfold v_bad
                  unfold e_ms at h
                  rw [e1, pn, decide_eq_true (show q_cn (k + 1).testBit n < 2 * q_cn (fun i => (k + 1).testBit i && e_pf d c b i) n by omega), Bool.not_true, Bool.and_false]
                simp only [q_cn, hv, hg.1, hg.2]; rfl
              · have hv : v_bad n d c (k + 1) b = true := by
                  unfold v_bad
                  unfold e_ms at h
                  rw [e1, pn, decide_eq_false e, decide_eq_false (by omega)]; rfl
                simp only [q_cn, hv, hg.1, hg.2]; rfl
      refine pk_le (v_ls n (v_ms n d c k)) (n - q_cn (k + 1).testBit n) (fun h => L false ?_) (fun h => L true ?_)
      · unfold v_ls at h
        refine (decide_eq_false ?_).symm
        split at h <;> omega
      · unfold v_ls at h
        refine (decide_eq_true ?_).symm
        split at h <;> omega
    · rintro m' i _ hi rfl K'
      have hq := q_cn_up (k + 1).testBit (show i + 1 ≤ n by omega)
      have hb := q_bt ((k + 1).testBit i)
      refine br_f (nI_ge hi (by omega)) (nm_r (e' := nI (n - q_cn (k + 1).testBit (i + 1))) ?_ (nm_r (nI_1 i) (K' _ rfl)))
      simp only [q_cn] at hq ⊢
      rw [bi_bit (by omega) (by omega), pk_sub (by omega)]
      exact congrArg nI (by omega)
end
end
section
def sw_ix (c x : Nat) : Nat := if x < c then x else x - 1
def sw_kx (c b : Nat) : Nat := if b ≤ c then b else b - 1
def sw_ot (c j : Nat) : Nat := if j < c then j else j + 1
def sw_dg (j s : Nat) : Nat := s / 6 ^ j % 6
def sw_dec (k s : Nat) : Nat := if 0 < sw_dg k s then s - 6 ^ k else s
theorem sw_dec_le (k s : Nat) : sw_dec k s ≤ s := by
  unfold sw_dec
  split
  · exact Nat.sub_le _ _
  · exact Nat.le_refl _
def sw_c2 (s j k : Nat) : Bool := Nat.beq (sw_dec j (sw_dec k s)) (sw_dec k (sw_dec j s)) && Nat.beq (sw_dg j (sw_dec k s)) (sw_dg j s - (if j = k then 1 else 0))
def sw_c1 (s j : Nat) : Bool := sw_c2 s j 0 && sw_c2 s j 1 && sw_c2 s j 2 && sw_c2 s j 3
def sw_c0 : Nat → Bool
  | 0 => true
  | s + 1 => (sw_c1 s 0 && sw_c1 s 1 && sw_c1 s 2 && sw_c1 s 3) && sw_c0 s
theorem sw_c0_of : ∀ m, sw_c0 m = true → ∀ s, s < m → ∀ j, j < 4 → ∀ k, k < 4 → sw_c2 s j k = true := by
  intro m
  induction m with
  | zero => intro _ s hs; omega
  | succ m ih =>
    intro h s hs j hj k hk
    simp only [sw_c0, Bool.and_eq_true] at h
    rcases Nat.lt_or_ge s m with h2 | h2
    · exact ih h.2 s h2 j hj k hk
    · have : s = m := by omega
      subst this
      obtain ⟨⟨⟨⟨h0, h1⟩, h2⟩, h3⟩, _⟩ := h
      simp only [sw_c1, Bool.and_eq_true] at h0 h1 h2 h3
      obtain ⟨⟨⟨a0, a1⟩, a2⟩, a3⟩ := h0
      obtain ⟨⟨⟨b0, b1⟩, b2⟩, b3⟩ := h1
      obtain ⟨⟨⟨c0, c1⟩, c2⟩, c3⟩ := h2
      obtain ⟨⟨⟨d0, d1⟩, d2⟩, d3⟩ := h3
      rcases (by omega : j = 0 ∨ j = 1 ∨ j = 2 ∨ j = 3) with rfl | rfl | rfl | rfl <;> rcases (by omega : k = 0 ∨ k = 1 ∨ k = 2 ∨ k = 3) with rfl | rfl | rfl | rfl <;> assumption
theorem sw_all : sw_c0 1296 = true := by decide +kernel
theorem sw_com {s j k : Nat} (hs : s < 1296) (hj : j < 4) (hk : k < 4) : sw_dec j (sw_dec k s) = sw_dec k (sw_dec j s) := by
  have h := sw_c0_of 1296 sw_all s hs j hj k hk
  simp only [sw_c2, Bool.and_eq_true] at h
  exact Nat.eq_of_beq_eq_true h.1
theorem sw_dgd {s j k : Nat} (hs : s < 1296) (hj : j < 4) (hk : k < 4) : sw_dg j (sw_dec k s) = sw_dg j s - (if j = k then 1 else 0) := by
  have h := sw_c0_of 1296 sw_all s hs j hj k hk
  simp only [sw_c2, Bool.and_eq_true] at h
  exact Nat.eq_of_beq_eq_true h.2
def sw_ap (c : Nat) (Q : Nat → Bool) (s : Nat) : Nat → Nat
  | 0 => s
  | x + 1 => if Q x = true then sw_dec (sw_ix c x) (sw_ap c Q s x) else sw_ap c Q s x
theorem sw_ap_le (c : Nat) (Q : Nat → Bool) (s : Nat) : ∀ m, sw_ap c Q s m ≤ s := by
  intro m
  induction m with
  | zero => exact Nat.le_refl s
  | succ m ih =>
    simp only [sw_ap]
    split
    · exact Nat.le_trans (sw_dec_le _ _) ih
    · exact ih
theorem sw_ix_lt {c x : Nat} (hc : c < 5) (hx : x < 5) (h : x ≠ c) : sw_ix c x < 4 := by unfold sw_ix; split <;> omega
theorem sw_ix_inj {c x y : Nat} (hx : x ≠ c) (hy : y ≠ c) (h : sw_ix c x = sw_ix c y) : x = y := by
  unfold sw_ix at h
  split at h <;> split at h <;> omega
theorem sw_ap_add {c y s : Nat} {Q Q' : Nat → Bool} (hc : c < 5) (hs : s < 1296) (hy : y < 5) (hyc : y ≠ c) (hQ : ∀ x, x < 5 → Q x = true → x ≠ c) (h0 : Q y = false) (h : ∀ x, x < 5 → Q' x = (Q x || decide (x = y))) : ∀ m, m ≤ 5 → sw_ap c Q' s m = if y < m then sw_dec (sw_ix c y) (sw_ap c Q s m) else sw_ap c Q s m := by
  intro m
  induction m with
  | zero => intro _; rfl
  | succ m ih =>
    intro hm
    have I := ih (by omega)
    have hb := sw_ap_le c Q s m
    simp only [sw_ap]
    rw [h m (by omega), I]
    by_cases e : m = y
    · subst e
      rw [h0, if_neg (show ¬ m < m by omega), if_pos (show m < m + 1 by omega)]
      simp
    · have h1 : decide (m = y) = false := decide_eq_false e
      rw [h1, Bool.or_false]
      by_cases h2 : y < m
      · rw [if_pos h2, if_pos (show y < m + 1 by omega)]
        split
        · rename_i hq
          exact sw_com (by omega) (sw_ix_lt hc (by omega) (hQ m (by omega) hq)) (sw_ix_lt hc hy hyc)
        · rfl
      · rw [if_neg h2, if_neg (show ¬ y < m + 1 by omega)]
theorem sw_ap_dg {c y s : Nat} {Q : Nat → Bool} (hc : c < 5) (hs : s < 1296) (hy : y < 5) (hyc : y ≠ c) (hQ : ∀ x, x < 5 → Q x = true → x ≠ c) : ∀ m, m ≤ 5 → sw_dg (sw_ix c y) (sw_ap c Q s m) = sw_dg (sw_ix c y) s - (if y < m ∧ Q y = true then 1 else 0) := by
  intro m
  induction m with
  | zero => intro _; rw [if_neg (by omega)]; rfl
  | succ m ih =>
    intro hm
    have I := ih (by omega)
    have hb := sw_ap_le c Q s m
    simp only [sw_ap]
    split
    · rename_i hq
      have hmc := hQ m (by omega) hq
      rw [sw_dgd (by omega) (sw_ix_lt hc hy hyc) (sw_ix_lt hc (by omega) hmc), I]
      by_cases e : y = m
      · subst e
        rw [if_pos rfl, if_neg (by omega), if_pos ⟨by omega, hq⟩]; rfl
      · rw [if_neg (fun z => e (sw_ix_inj hyc hmc z))]
        by_cases h2 : y < m ∧ Q y = true
        · rw [if_pos h2, if_pos ⟨by omega, h2.2⟩]; rfl
        · rw [if_neg h2, if_neg (fun z => h2 ⟨by omega, z.2⟩)]; rfl
    · rename_i hq
      rw [I]
      by_cases e : y = m
      · subst e
        rw [if_neg (by omega), if_neg (fun z => hq z.2)]
      · by_cases h2 : y < m ∧ Q y = true
        · rw [if_pos h2, if_pos ⟨by omega, h2.2⟩]
        · rw [if_neg h2, if_neg (fun z => h2 ⟨by omega, z.2⟩)]
def sw_Q (o c up x : Nat) : Bool := decide (x ≠ c) && decide (o_pl o x < o_pl o c) && decide (o_pl o c - o_pl o x ≤ up)
theorem sw_Q_c {o c up x : Nat} (h : sw_Q o c up x = true) : x ≠ c := by
  simp only [sw_Q, Bool.and_eq_true, decide_eq_true_eq] at h; exact h.1.1
def sw_mv (o c s : Nat) : Nat → Nat
  | 0 => s
  | up + 1 => sw_dec (sw_ix c (o_rk o (o_pl o c - (up + 1)))) (sw_mv o c s up)
theorem sw_mv_le (o c s : Nat) : ∀ up, sw_mv o c s up ≤ s := by
  intro up
  induction up with
  | zero => exact Nat.le_refl s
  | succ up ih => exact Nat.le_trans (sw_dec_le _ _) ih
theorem sw_mv_ap {o c s : Nat} (ho : o_ok o = true) (hc : c < 5) (hs : s < 1296) : ∀ up, up ≤ o_pl o c → sw_mv o c s up = sw_ap c (sw_Q o c up) s 5 := by
  intro up
  induction up with
  | zero =>
    intro _
    have g : ∀ m, sw_ap c (sw_Q o c 0) s m = s := by
      intro m
      induction m with
      | zero => rfl
      | succ m ih =>
        simp only [sw_ap]
        rw [if_neg, ih]
        intro h
        simp only [sw_Q, Bool.and_eq_true, decide_eq_true_eq] at h
        omega
    rw [g]; rfl
  | succ up ih =>
    intro hu
    have l5 := o_pl_lt o c
    have hy := o_rk_lt o (o_pl o c - (up + 1))
    have py : o_pl o (o_rk o (o_pl o c - (up + 1))) = o_pl o c - (up + 1) := (o_fact ho (by omega)).2
    have hyc : o_rk o (o_pl o c - (up + 1)) ≠ c := by
      intro z
      rw [z] at py
      omega
    have key := sw_ap_add (Q := sw_Q o c up) (Q' := sw_Q o c (up + 1)) hc hs hy hyc (fun x _ h => sw_Q_c h) ?_ ?_ 5 (by decide)
    · rw [key, if_pos hy, ← ih (by omega)]; rfl
    · unfold sw_Q
      rw [py, decide_eq_false (show ¬ o_pl o c - (o_pl o c - (up + 1)) ≤ up by omega), Bool.and_false]
    · intro x hx
      by_cases e : x = o_rk o (o_pl o c - (up + 1))
      · subst e
        unfold sw_Q
        rw [py, decide_eq_true hyc, decide_eq_true (show o_pl o c - (up + 1) < o_pl o c by omega), decide_eq_true (show o_pl o c - (o_pl o c - (up + 1)) ≤ up + 1 by omega), decide_eq_true rfl, Bool.or_true]
        rfl
      · have hne : o_pl o x ≠ o_pl o c - (up + 1) := by
          intro z
          apply e
          rw [← z, (o_fact ho hx).1]
        rw [decide_eq_false e, Bool.or_false]
        unfold sw_Q
        by_cases h3 : o_pl o x < o_pl o c
        · have : decide (o_pl o c - o_pl o x ≤ up + 1) = decide (o_pl o c - o_pl o x ≤ up) := by rw [decide_eq_decide]; omega
          rw [this]
        · rw [decide_eq_false h3]; simp
/-- ways to a state of lacking votes after i ballots, with their costs -/
def sw_D (d : Nat → Nat) (c st : Nat) : Nat → Nat → Nat → Prop
  | 0 => fun t v => t = st ∧ v = 0
  | i + 1 => fun t v => ∃ s u up, sw_D d c st i s u ∧ up ≤ o_pl (d i) c ∧ t = sw_mv (d i) c s up ∧ v = u + up
theorem sw_D_b {d : Nat → Nat} {c st : Nat} (hst : st < 1296) : ∀ i t v, sw_D d c st i t v → t < 1296 ∧ v ≤ 4 * i := by
  intro i
  induction i with
  | zero =>
    rintro t v ⟨rfl, rfl⟩
    exact ⟨hst, by omega⟩
  | succ i ih =>
    rintro t v ⟨s, u, up, h, h2, rfl, rfl⟩
    have h1 := ih s u h
    have h3 := sw_mv_le (d i) c s up
    have h4 := o_pl_lt (d i) c
    omega
/-- the table after a ballot, and while it is made -/
def sw_C (inf : Nat) (D : Nat → Nat → Prop) (x : Nat → Int32) : Prop := ∀ t, t < 1296 → (∃ v, x t = nI v ∧ D t v ∧ ∀ v', D t v' → v ≤ v') ∨ (x t = nI inf ∧ ∀ v, ¬ D t v)
def sw_R (inf : Nat) (D Pr : Nat → Nat → Prop) (x : Nat → Int32) : Prop := (∀ t, t < 1296 → ∃ v, x t = nI v ∧ v ≤ inf ∧ (v = inf ∨ D t v)) ∧ ∀ t v, Pr t v → t < 1296 ∧ ∃ w, x t = nI w ∧ w ≤ v
theorem sw_R_0 {inf : Nat} {D : Nat → Nat → Prop} {x : Nat → Int32} (h : ∀ t, t < 1296 → x t = nI inf) : sw_R inf D (fun _ _ => False) x :=
  ⟨fun t ht => ⟨inf, h t ht, Nat.le_refl _, Or.inl rfl⟩, fun _ _ z => z.elim⟩
theorem sw_R_mono {inf : Nat} {D Pr Pr' : Nat → Nat → Prop} {x : Nat → Int32} (h : sw_R inf D Pr x) (g : ∀ t v, Pr' t v → Pr t v) : sw_R inf D Pr' x :=
  ⟨h.1, fun t v z => h.2 t v (g t v z)⟩
theorem sw_R_keep {inf t0 v0 w : Nat} {D Pr : Nat → Nat → Prop} {x : Nat → Int32} (h : sw_R inf D Pr x) (ht : t0 < 1296) (hw : x t0 = nI w) (hle : w ≤ v0) : sw_R inf D (fun t v => Pr t v ∨ (t = t0 ∧ v = v0)) x := by
  refine ⟨h.1, fun t v z => ?_⟩
  rcases z with z | ⟨rfl, rfl⟩
  · exact h.2 t v z
  · exact ⟨ht, w, hw, hle⟩
theorem sw_R_upd {inf t0 v0 w : Nat} {D Pr : Nat → Nat → Prop} {x : Nat → Int32} (h : sw_R inf D Pr x) (hi : inf < 2 ^ 31) (ht : t0 < 1296) (hD : D t0 v0) (hw : x t0 = nI w) (hwi : w ≤ inf) (hlt : v0 < w) : sw_R inf D (fun t v => Pr t v ∨ (t = t0 ∧ v = v0)) (upd x t0 (nI v0)) := by
  constructor
  · intro t h1
    by_cases e : t = t0
    · subst e
      exact ⟨v0, pk_us, by omega, Or.inr hD⟩
    · rw [pk_un e]; exact h.1 t h1
  · intro t v z
    rcases z with z | ⟨rfl, rfl⟩
    · by_cases e : t = t0
      · subst e
        obtain ⟨_, w', q1, q2⟩ := h.2 t v z
        rw [hw] at q1
        obtain ⟨w2, q3, q4, _⟩ := h.1 t ht
        have : w = w' ∨ 2 ^ 31 ≤ w' := by
          by_cases hb : w' < 2 ^ 31
          · exact Or.inl ((nI_eq (by omega) hb).mp q1)
          · exact Or.inr (by omega)
        exact ⟨ht, v0, pk_us, by omega⟩
      · rw [pk_un e]; exact h.2 t v z
    · exact ⟨ht, v, pk_us, Nat.le_refl _⟩
theorem sw_R_C {inf : Nat} {D Pr : Nat → Nat → Prop} {x : Nat → Int32} (h : sw_R inf D Pr x) (hi : inf < 2 ^ 31) (hD : ∀ t v, D t v → v < inf) (hP : ∀ t v, D t v → ∃ v', v' ≤ v ∧ Pr t v') : sw_C inf D x := by
  intro t ht
  obtain ⟨v, q1, q2, q3⟩ := h.1 t ht
  by_cases g : ∃ v, D t v
  · obtain ⟨v1, g1⟩ := g
    have low : ∀ v', D t v' → v ≤ v' := by
      intro v' g'
      obtain ⟨v2, p1, p2⟩ := hP t v' g'
      obtain ⟨_, w, r1, r2⟩ := h.2 t v2 p2
      have := hD t v' g'
      rw [q1] at r1
      have := (nI_eq (by omega) (by omega)).mp r1
      omega
    rcases q3 with q3 | q3
    · have := low v1 g1
      have := hD t v1 g1
      omega
    · exact Or.inl ⟨v, q1, q3, low⟩
  · have g' : ∀ v, ¬ D t v := fun v z => g ⟨v, z⟩
    rcases q3 with q3 | q3
    · exact Or.inr ⟨by rw [q1, q3], g'⟩
    · exact absurd q3 (g' v)
/-- the votes that are lacking -/
def sw_lk (n : Nat) (d : Nat → Nat) (c x : Nat) : Nat := n / 2 + 1 - e_c n d c x
theorem sw_lk_5 {n : Nat} (hn : n ≤ 9) (d : Nat → Nat) (c x : Nat) : sw_lk n d c x ≤ 5 := by unfold sw_lk; omega
def sw_st (n : Nat) (d : Nat → Nat) (c : Nat) : Nat → Nat
  | 0 => 0
  | b + 1 => if b = c then sw_st n d c b else sw_st n d c b + sw_lk n d c b * 6 ^ sw_ix c b
theorem sw_st_lt {n : Nat} (hn : n ≤ 9) (d : Nat → Nat) {c : Nat} : ∀ b, sw_st n d c b < 6 ^ sw_kx c b := by
  intro b
  induction b with
  | zero => unfold sw_kx; simp [sw_st]
  | succ b ih =>
    simp only [sw_st]
    split
    · rename_i e
      subst e
      have : sw_kx b (b + 1) = sw_kx b b := by unfold sw_kx; simp
      rw [this]; exact ih
    · rename_i e
      have h1 : sw_ix c b = sw_kx c b := by unfold sw_ix sw_kx; split <;> split <;> omega
      have h2 : sw_kx c (b + 1) = sw_kx c b + 1 := by unfold sw_kx; split <;> split <;> omega
      have h3 := sw_lk_5 hn d c b
      have h4 : sw_lk n d c b * 6 ^ sw_kx c b ≤ 5 * 6 ^ sw_kx c b := Nat.mul_le_mul_right _ h3
      rw [h1, h2, Nat.pow_succ]
      omega
theorem sw_st_1296 {n : Nat} (hn : n ≤ 9) (d : Nat → Nat) {c : Nat} (hc : c < 5) : sw_st n d c 5 < 1296 := by
  have := sw_st_lt hn d (c := c) 5
  rwa [show sw_kx c 5 = 4 by unfold sw_kx; rw [if_neg (by omega)]] at this
theorem sw_st_dg {n : Nat} (hn : n ≤ 9) (d : Nat → Nat) {c x : Nat} (hc : c < 5) (hx : x < 5) (hxc : x ≠ c) : sw_dg (sw_ix c x) (sw_st n d c 5) = sw_lk n d c x := by
  have l := sw_lk_5 hn d c
  have l0 := l 0
  have l1 := l 1
  have l2 := l 2
  have l3 := l 3
  have l4 := l 4
  rcases (by omega : c = 0 ∨ c = 1 ∨ c = 2 ∨ c = 3 ∨ c = 4) with rfl | rfl | rfl | rfl | rfl <;> rcases (by omega : x = 0 ∨ x = 1 ∨ x = 2 ∨ x = 3 ∨ x = 4) with rfl | rfl | rfl | rfl | rfl <;> first
    | exact absurd rfl hxc
    | (simp [sw_st, sw_ix, sw_dg]; omega)
theorem sw_zero {s : Nat} (hs : s < 1296) (h : ∀ j, j < 4 → sw_dg j s = 0) : s = 0 := by
  have h0 := h 0 (by decide)
  have h1 := h 1 (by decide)
  have h2 := h 2 (by decide)
  have h3 := h 3 (by decide)
  unfold sw_dg at h0 h1 h2 h3
  simp only [Nat.pow_zero, Nat.pow_one, show (6 : Nat) ^ 2 = 36 from rfl, show (6 : Nat) ^ 3 = 216 from rfl] at h0 h1 h2 h3
  omega
def sw_pth (d : Nat → Nat) (c st : Nat) : Nat → Nat
  | 0 => st
  | i + 1 => sw_mv (d i) c (sw_pth d c st i) (o_pl (d i) c)
theorem sw_pth_le (d : Nat → Nat) (c st : Nat) : ∀ i, sw_pth d c st i ≤ st := by
  intro i
  induction i with
  | zero => exact Nat.le_refl _
  | succ i ih => exact Nat.le_trans (sw_mv_le _ _ _ _) ih
theorem sw_pth_D (d : Nat → Nat) (c st : Nat) : ∀ i, ∃ v, sw_D d c st i (sw_pth d c st i) v := by
  intro i
  induction i with
  | zero => exact ⟨0, rfl, rfl⟩
  | succ i ih =>
    obtain ⟨v, h⟩ := ih
    exact ⟨_, _, v, _, h, Nat.le_refl _, rfl, rfl⟩
theorem sw_pth_dg {d : Nat → Nat} {c st x n : Nat} (hd : ∀ i, i < n → o_ok (d i) = true) (hc : c < 5) (hst : st < 1296) (hx : x < 5) (hxc : x ≠ c) : ∀ i, i ≤ n → sw_dg (sw_ix c x) (sw_pth d c st i) = sw_dg (sw_ix c x) st - e_c i d x c := by
  intro i
  induction i with
  | zero => intro _; rfl
  | succ i ih =>
    intro hi
    have I := ih (by omega)
    have hb := sw_pth_le d c st i
    simp only [sw_pth]
    rw [sw_mv_ap (hd i (by omega)) hc (by omega) _ (Nat.le_refl _), sw_ap_dg hc (by omega) hx hxc (fun x _ h => sw_Q_c h) 5 (by decide), I]
    have e : e_c (i + 1) d x c = e_c i d x c + (e_pf d x c i).toNat := rfl
    rw [e]
    have q : sw_Q (d i) c (o_pl (d i) c) x = e_pf d x c i := by
      unfold sw_Q e_pf
      rw [decide_eq_true hxc, decide_eq_true (Nat.sub_le _ _)]; simp
    rw [q]
    cases e_pf d x c i
    · rw [if_neg (fun z => absurd z.2 (by decide))]; simp
    · rw [if_pos ⟨hx, rfl⟩]; simp only [Bool.toNat_true]; omega
theorem sw_reach {n c : Nat} {d : Nat → Nat} (hok : e_ok n d) (hn : 0 < n) (hc : c < 5) : ∃ v, sw_D d c (sw_st n d c 5) n 0 v := by
  have h9 := hok.1
  have hst := sw_st_1296 h9 d hc
  have hb := sw_pth_le d c (sw_st n d c 5) n
  have hz : sw_pth d c (sw_st n d c 5) n = 0 := by
    refine sw_zero (by omega) fun j hj => ?_
    have ho : sw_ot c j < 5 ∧ sw_ot c j ≠ c ∧ sw_ix c (sw_ot c j) = j := by
      unfold sw_ot sw_ix
      split <;> (try split) <;> omega
    have := sw_pth_dg hok.2 hc hst ho.1 ho.2.1 n (Nat.le_refl n)
    rw [ho.2.2] at this
    rw [this]
    have g := sw_st_dg h9 d hc ho.1 ho.2.1
    rw [ho.2.2] at g
    rw [g]
    have s := e_c_sum hok.2 hc ho.1 (fun z => ho.2.1 z.symm)
    unfold sw_lk
    omega
  have := sw_pth_D d c (sw_st n d c 5) n
  rwa [hz] at this
/-- the number of exchanges -/
def sw_sv (n : Nat) (d : Nat → Nat) (c : Nat) (z : Int) : Prop := (n = 0 ∧ z = -1002) ∨ (0 < n ∧ ∃ v : Nat, z = (v : Int) ∧ sw_D d c (sw_st n d c 5) n 0 v ∧ ∀ v', sw_D d c (sw_st n d c 5) n 0 v' → v ≤ v')
theorem sw_sv_u {n : Nat} {d : Nat → Nat} {c : Nat} {z z' : Int} (h : sw_sv n d c z) (h' : sw_sv n d c z') : z = z' := by
  rcases h with ⟨h1, rfl⟩ | ⟨h1, v, rfl, h2, h3⟩
  · rcases h' with ⟨_, rfl⟩ | ⟨g1, _⟩
    · rfl
    · omega
  · rcases h' with ⟨g1, _⟩ | ⟨_, v', rfl, g2, g3⟩
    · omega
    · have := h3 v' g2
      have := g3 v h2
      omega
theorem sw_sv_r {n : Nat} {d : Nat → Nat} {c : Nat} {z : Int} (hn : n ≤ 9) (hc : c < 5) (h : sw_sv n d c z) : z = -1002 ∨ (0 ≤ z ∧ z ≤ 36) := by
  rcases h with ⟨_, rfl⟩ | ⟨_, v, rfl, h2, _⟩
  · exact Or.inl rfl
  · have := sw_D_b (sw_st_1296 hn d hc) n 0 v h2
    exact Or.inr (by omega)
end
section
theorem sw_ot_ix {c b : Nat} (h : b ≠ c) : sw_ot c (sw_ix c b) = b := by
  unfold sw_ot sw_ix
  by_cases h1 : b < c
  · rw [if_pos h1, if_pos h1]
  · rw [if_neg h1, if_neg (by omega)]; omega
theorem sw_ot_inj {c i j : Nat} (h : sw_ot c i = sw_ot c j) : i = j := by
  unfold sw_ot at h
  split at h <;> split at h <;> omega
theorem sw_ot_lt {c i : Nat} (h : i < 4) : sw_ot c i < 5 := by
  unfold sw_ot; split <;> omega
theorem sw_p6 {e : Nat} (h : e < 4) : 6 ^ e ≤ 216 ∧ 1 ≤ 6 ^ e := by
  rcases (by omega : e = 0 ∨ e = 1 ∨ e = 2 ∨ e = 3) with rfl | rfl | rfl | rfl <;> decide
/-- taking one vote away, as both sides write it -/
theorem sw_go {A : Prop} {post : Int32 → Prop} {s e : Nat} (hs : s < 1296) (he : e < 4) (H : post (nI (sw_dec e s))) (K : (((nI s / nI (6 ^ e)) - (nI s / nI (6 ^ e)) / 6 * 6 ≤ 0 → post (nI s)) ∧ (¬ (nI s / nI (6 ^ e)) - (nI s / nI (6 ^ e)) / 6 * 6 ≤ 0 → post (nI s - nI (6 ^ e)))) → A) : A := by
  have h6 := sw_p6 he
  refine K ?_
  rw [pk_div (by omega) (by omega) (by omega)]
  have hb : s / 6 ^ e < 2 ^ 31 := Nat.lt_of_le_of_lt (Nat.div_le_self _ _) (by omega)
  have er : nI (s / 6 ^ e) - nI (s / 6 ^ e) / 6 * 6 = nI (s / 6 ^ e % 6) := pk_rem hb (by decide) (by decide)
  rw [er]
  have hm : s / 6 ^ e % 6 < 6 := Nat.mod_lt _ (by decide)
  refine pk_le (s / 6 ^ e % 6) 0 (fun h => ?_) (fun h => ?_)
  · unfold sw_dec sw_dg at H
    rw [if_neg (by omega)] at H; exact H
  · unfold sw_dec sw_dg at H
    rw [if_pos h] at H
    have : 6 ^ e ≤ s := by
      refine Nat.le_of_not_lt fun z => ?_
      rw [Nat.div_eq_of_lt z] at h
      exact absurd h (by decide)
    rw [pk_sub this]; exact H
section
variable {xc xk xq : Int32} {xo xr xp xm xb xs xl xt xe xA xB xf xg xL xO xC xN : Nat → Int32}
theorem x_gO {post : Int32 → Prop} {c b s : Nat} (hc : c < 5) (hot : ∀ j, j < 4 → xO j = nI (sw_ot c j)) (hb : b < 5) (hbc : b ≠ c) (hs : s < 1296) (H : post (nI (sw_dec (sw_ix c b) s))) : wpX_gainOver post (xc, xk, xq, xo, xr, xp, xm, xb, xs, xl, xt, xe, xA, xB, xf, xg, xL, xO, xC, xN) (nI s) (nI b) := by
  have hx := sw_ix_lt hc hb hbc
  refine loop_0 (fun m i (y : Int32) => wX_gainOver_5 post (nI s) (nI b) xc xk xq xo xr xp xm xb xs xl xt xe xA xB xf xg xL xO xC xN m y (nI i)) (fun i y => y = nI (6 ^ i)) (sw_ix c b) 1 rfl ?_ ?_
  · rintro m _ rfl
    have h6 := sw_p6 hx
    refine ⟨vp_in_nI hx (by decide), br_t ?_ ⟨nI_ne0 (by omega) (by omega), by decide, ?_⟩⟩
    · rw [nI_clamp (by omega), hot _ hx, sw_ot_ix hbc]
    · exact sw_go hs hx H id
  · rintro m i _ hi rfl K
    refine ⟨vp_in_nI (by omega) (by decide), br_f ?_ (nm_r (e' := nI (6 ^ (i + 1))) ?_ (nm_r (nI_1 i) (K _ rfl)))⟩
    · rw [nI_clamp (by omega), hot i (by omega)]
      intro z
      have lo := sw_ot_lt (c := c) (show i < 4 by omega)
      have z := (nI_eq (by omega) (by omega)).mp z
      rw [← sw_ot_ix hbc] at z
      have := sw_ot_inj z
      omega
    · rw [show (6 : Int32) = nI 6 from rfl, pk_mul, Nat.pow_succ]
theorem x_mU {post : SX → Prop} {i c s u : Nat} {d : Nat → Nat} {D Pr : Nat → Nat → Prop} (hi : i < 9) (ho : o_ok (d i) = true) (hc : c < 5) (hr : ∀ k, k < 5 → xr (5 * i + k) = nI (o_rk (d i) k)) (hot : ∀ j, j < 4 → xO j = nI (sw_ot c j)) (hs : s < 1296) (hu : xC s = nI u) (hu2 : u ≤ 60) (hD : ∀ up, up ≤ o_pl (d i) c → D (sw_mv (d i) c s up) (u + up)) (hR : sw_R 100 D Pr xN)
    (H : ∀ xN', sw_R 100 D (fun t v => Pr t v ∨ ∃ up, up ≤ o_pl (d i) c ∧ t = sw_mv (d i) c s up ∧ v = u + up) xN' → post (xc, xk, xq, xo, xr, xp, xm, xb, xs, xl, xt, xe, xA, xB, xf, xg, xL, xO, xC, xN')) : wpX_moveUp post (xc, xk, xq, xo, xr, xp, xm, xb, xs, xl, xt, xe, xA, xB, xf, xg, xL, xO, xC, xN) (nI i) (nI (o_pl (d i) c)) (nI s) := by
  have lc := o_pl_lt (d i) c
  refine loop_0 (fun m up (y : Int32 × (Nat → Int32)) => wX_moveUp_6 post (nI i) (nI (o_pl (d i) c)) (nI s) xc xk xq m y.1 (nI up) xo xr xp xm xb xs xl xt xe xA xB xf xg xL xO xC y.2) (fun up y => y.1 = nI (sw_mv (d i) c s (up - 1)) ∧ sw_R 100 D (fun t v => Pr t v ∨ ∃ up', up' < up ∧ t = sw_mv (d i) c s up' ∧ v = u + up') y.2) (o_pl (d i) c + 1) (nI s, xN) ⟨rfl, sw_R_mono hR (fun t v z => z.resolve_right (fun ⟨_, h, _⟩ => by omega))⟩ ?_ ?_
  · rintro m ⟨y, xN'⟩ ⟨_, h⟩
    exact br_t (nI_lt (by omega) (by omega)) (H xN' (sw_R_mono h (fun t v z => z.imp id (fun ⟨up, h1, h2⟩ => ⟨up, by omega, h2⟩))))
  · rintro m up ⟨y, xN'⟩ hup ⟨h1, h⟩ K
    dsimp only at h1 h K ⊢
    subst h1
    have T : wX_moveUp_38 post (wX_moveUp_6 post (nI i) (nI (o_pl (d i) c)) (nI s) xc xk xq m) (nI i) (nI (o_pl (d i) c)) (nI s) (nI (sw_mv (d i) c s up)) (nI up) xc xk xq xo xr xp xm xb xs xl xt xe xA xB xf xg xL xO xC xN' := by
      have lm := sw_mv_le (d i) c s up
      obtain ⟨w, q1, q2, q3⟩ := h.1 (sw_mv (d i) c s up) (by omega)
      refine ⟨vp_in_nI hs (by decide), vp_in_nI (by omega) (by decide), ?_⟩
      rw [nI_clamp (by omega), nI_clamp (by omega), hu, q1, nI_add]
      refine pk_le w (u + up) (fun hle => nm_r (nI_1 up) (K (_, _) ⟨rfl, ?_⟩)) (fun hgt => ⟨vp_in_nI hs (by decide), vp_in_nI (by omega) (by decide), nm_r (e' := upd xN' (sw_mv (d i) c s up) (nI (u + up))) (by rw [bv_b2 (by omega)]) (nm_r (nI_1 up) (K (_, _) ⟨rfl, ?_⟩))⟩)
      · refine sw_R_mono (sw_R_keep h (show sw_mv (d i) c s up < 1296 by omega) q1 hle) ?_
        rintro t v (z | ⟨up', z1, z2, z3⟩)
        · exact Or.inl (Or.inl z)
        · by_cases e : up' = up
          · subst e; exact Or.inr ⟨z2, z3⟩
          · exact Or.inl (Or.inr ⟨up', by omega, z2, z3⟩)
      · refine sw_R_mono (sw_R_upd h (by decide) (show sw_mv (d i) c s up < 1296 by omega) (hD up (by omega)) q1 q2 hgt) ?_
        rintro t v (z | ⟨up', z1, z2, z3⟩)
        · exact Or.inl (Or.inl z)
        · by_cases e : up' = up
          · subst e; exact Or.inr ⟨z2, z3⟩
          · exact Or.inl (Or.inr ⟨up', by omega, z2, z3⟩)
    refine br_f (nI_nlt (by omega) (by omega)) (pk_le up 0 (fun h0 => ?_) (fun h0 => ?_))
    · have e : up = 0 := by omega
      subst e; exact T
    · obtain ⟨k, rfl⟩ : ∃ k, up = k + 1 := ⟨up - 1, by omega⟩
      have lm := sw_mv_le (d i) c s k
      have hyc : o_rk (d i) (o_pl (d i) c - (k + 1)) ≠ c := by
        intro z
        have := (o_fact ho (show o_pl (d i) c - (k + 1) < 5 by omega)).2
        rw [z] at this
        omega
      have ei : (5 : Int32) * nI i + nI (o_pl (d i) c) - nI (k + 1) = nI (5 * i + (o_pl (d i) c - (k + 1))) := by
        rw [bi_ix, pk_sub (by omega)]
        exact congrArg nI (by omega)
      rw [ei]
      refine ⟨vp_in_nI (by omega) (by decide), ?_⟩
      rw [nI_clamp (by omega), hr _ (by omega), Nat.add_sub_cancel]
      exact x_gO hc hot (o_rk_lt _ _) hyc (by omega) T
theorem x_uB {post : SX → Prop} {i c st : Nat} {d : Nat → Nat} (hi : i < 9) (ho : o_ok (d i) = true) (hc : c < 5) (hst : st < 1296) (hr : ∀ k, k < 5 → xr (5 * i + k) = nI (o_rk (d i) k)) (hot : ∀ j, j < 4 → xO j = nI (sw_ot c j)) (hC : sw_C 100 (sw_D d c st i) xC)
    (H : ∀ xC' xN', sw_C 100 (sw_D d c st (i + 1)) xC' → post (xc, xk, xq, xo, xr, xp, xm, xb, xs, xl, xt, xe, xA, xB, xf, xg, xL, xO, xC', xN')) : wpX_useBallot post (xc, xk, xq, xo, xr, xp, xm, xb, xs, xl, xt, xe, xA, xB, xf, xg, xL, xO, xC, xN) (nI i) (nI c) := by
  have lc := o_pl_lt (d i) c
  refine loop_0 (fun m k (x : Nat → Int32) => wX_useBallot_2 post (nI i) (nI c) xc xk xq m (nI k) xo xr xp xm xb xs xl xt xe xA xB xf xg xL xO xC x) (fun k x => ∀ j, j < k → x j = nI 100) 1296 xN (fun j h => by omega) ?_ ?_
  · intro m x h
    refine br_t (Int32.le_refl _) ?_
    refine loop_0 (fun m k (_ : Unit) => wX_useBallot_25 post (nI i) (nI c) xc xk xq xo xr xp xm xb xs xl xt xe xA xB xf xg xL xO xC x m (nI k)) (fun _ _ => True) (o_pl (d i) c) () trivial ?_ ?_
    · rintro m _ _
      refine ⟨bi_in (m := 9) hi lc (by decide) (by decide), br_t ?_ ?_⟩
      · rw [bi_ic (by omega) (by omega), hr _ lc, (o_fact ho hc).1]
      · refine loop_0 (fun m s (x : Nat → Int32) => wX_useBallot_48 post (nI i) (nI (o_pl (d i) c)) m (nI s) xc xk xq xo xr xp xm xb xs xl xt xe xA xB xf xg xL xO xC x) (fun s x => sw_R 100 (sw_D d c st (i + 1)) (fun t v => ∃ s' u up, s' < s ∧ xC s' = nI u ∧ sw_D d c st i s' u ∧ up ≤ o_pl (d i) c ∧ t = sw_mv (d i) c s' up ∧ v = u + up) x) 1296 x (sw_R_mono (sw_R_0 h) (fun t v ⟨s', _, _, h1, _⟩ => by omega)) ?_ ?_
        · intro m x hR
          have hC2 : sw_C 100 (sw_D d c st (i + 1)) x := by
            refine sw_R_C hR (by decide) (fun t v z => by have := (sw_D_b hst (i + 1) t v z).2; omega) ?_
            rintro t v ⟨s, u, up, g1, g2, rfl, rfl⟩
            have hs := (sw_D_b hst i s u g1).1
            rcases hC s hs with ⟨u', q1, q2, q3⟩ | ⟨_, q⟩
            · have := q3 u g1
              exact ⟨u' + up, by omega, s, u', up, hs, q1, q2, g2, rfl, rfl⟩
            · exact absurd g1 (q u)
          refine br_t (Int32.le_refl _) ?_
          refine loop_0 (fun m k (y : Nat → Int32) => wX_useBallot_85 post xc xk xq m (nI k) xo xr xp xm xb xs xl xt xe xA xB xf xg xL xO y x) (fun k y => ∀ j, j < k → y j = x j) 1296 xC (fun j h => by omega) ?_ ?_
          · intro m y hy
            refine br_t (Int32.le_refl _) (H y x ?_)
            intro t ht
            rw [hy t ht]; exact hC2 t ht
          · intro m k y hk hy K
            obtain ⟨w, q1, q2, _⟩ := hR.1 k hk
            refine br_f (nI_ge (b := 1296) hk (by decide)) ⟨vp_in_nI hk (by decide), vp_in_nI hk (by decide), nm_r (e' := upd y k (x k)) (by rw [nI_clamp (by omega), q1, bv_b (by omega)]) (nm_r (nI_1 k) (K _ fun j hj => ?_))⟩
            by_cases e : j = k
            · subst e; exact pk_us
            · exact (pk_un e).trans (hy j (by omega))
        · intro m s x hs hR K
          refine br_f (nI_ge (b := 1296) hs (by decide)) ⟨vp_in_nI hs (by decide), ?_⟩
          rw [nI_clamp (by omega)]
          rcases hC s hs with ⟨u, q1, q2, q3⟩ | ⟨q1, q2⟩
          · have hb := (sw_D_b hst i s u q2).2
            rw [q1]
            refine pk_le 100 u (fun z => by omega) (fun _ => x_mU hi ho hc hr hot hs q1 (by omega) (fun up hup => ⟨s, u, up, q2, hup, rfl, rfl⟩) hR fun x' hR' => nm_r (nI_1 s) (K x' (sw_R_mono hR' ?_)))
            rintro t v ⟨s', u', up, g1, g2, g3, g4, g5, g6⟩
            by_cases e : s' = s
            · subst e
              have hb' := (sw_D_b hst i s' u' g3).2
              rw [q1] at g2
              have := (nI_eq (by omega) (by omega)).mp g2
              subst this
              exact Or.inr ⟨up, g4, g5, g6⟩
            · exact Or.inl ⟨s', u', up, by omega, g2, g3, g4, g5, g6⟩
          · rw [q1]
            refine pk_le 100 100 (fun _ => nm_r (nI_1 s) (K x (sw_R_mono hR ?_))) (fun z => by omega)
            rintro t v ⟨s', u', up, g1, g2, g3, g4⟩
            by_cases e : s' = s
            · subst e; exact absurd g3 (q2 u')
            · exact ⟨s', u', up, by omega, g2, g3, g4⟩
    · rintro m k _ hk _ K
      refine ⟨bi_in (m := 9) hi (by omega) (by decide) (by decide), br_f ?_ (nm_r (nI_1 k) (K () trivial))⟩
      rw [bi_ic (by omega) (by omega), hr k (by omega)]
      intro z
      have lk := o_rk_lt (d i) k
      have z := (nI_eq (by omega) (by omega)).mp z
      have := (o_fact ho (show k < 5 by omega)).2
      rw [z] at this
      omega
  · intro m k x hk h K
    refine br_f (nI_ge (b := 1296) hk (by decide)) ⟨vp_in_nI hk (by decide), nm_r (e' := upd x k (nI 100)) (by rw [nI_clamp (by omega), bv_b100]) (nm_r (nI_1 k) (K _ fun j hj => ?_))⟩
    by_cases e : j = k
    · subst e; exact pk_us
    · exact (pk_un e).trans (h j (by omega))
theorem x_fL {post : Int32 → SX → Prop} {n c : Nat} {d : Nat → Nat} (hok : e_ok n d) (hm : ∀ a b, a < 5 → b < 5 → xm (5 * a + b) = zI (e_m n d a b)) (hc : c < 5) (H : ∀ xL' xO' : Nat → Int32, (∀ j, j < 4 → xO' j = nI (sw_ot c j)) → post (nI (sw_st n d c 5)) (xc, xk, xq, xo, xr, xp, xm, xb, xs, xl, xt, xe, xA, xB, xf, xg, xL', xO', xC, xN)) : wpX_findLacking post (xc, xk, xq, xo, xr, xp, xm, xb, xs, xl, xt, xe, xA, xB, xf, xg, xL, xO, xC, xN) (nI c) := by
  have hn := hok.1
  refine loop_0 (fun m b (y : Int32 × Int32 × Int32 × (Nat → Int32) × (Nat → Int32)) => wX_findLacking_10 post (nI c) xc xk xq m y.1 y.2.1 y.2.2.1 (nI b) xo xr xp xm xb xs xl xt xe xA xB xf xg y.2.2.2.1 y.2.2.2.2 xC xN) (fun b y => y.1 = nI (sw_kx c b) ∧ y.2.1 = nI (sw_st n d c b) ∧ y.2.2.1 = nI (6 ^ sw_kx c b) ∧ ∀ j, j < sw_kx c b → y.2.2.2.2 j = nI (sw_ot c j)) 5 (0, 0, 1, xL, xO) ⟨by unfold sw_kx; rfl, rfl, by unfold sw_kx; rfl, fun j h => by unfold sw_kx at h; simp at h⟩ ?_ ?_
  · rintro m ⟨x2, x3, x4, xL', xO'⟩ ⟨_, h2, _, h4⟩
    dsimp only at h2 h4 ⊢
    subst h2
    exact br_t (Int32.le_refl _) (H xL' xO' fun j hj => h4 j (by unfold sw_kx; rw [if_neg (by omega)]; omega))
  · rintro m b ⟨x2, x3, x4, xL', xO'⟩ hb ⟨h1, h2, h3, h4⟩ K
    dsimp only at h1 h2 h3 h4 K ⊢
    subst h1 h2 h3
    have r := e_m_r hn d c b
    have em : xm ((5 : Int32) * nI c + nI b).toNatClampNeg = zI (e_m n d c b) := by rw [bi_ic (by omega) (by omega), hm c b hc hb]
    refine br_f (nI_ge (b := 5) hb (by decide)) (pk_eq b c (fun e => nm_r (nI_1 b) (K (_, _, _, _, _) ?_)) (fun e => ?_))
    · have ek : sw_kx c (b + 1) = sw_kx c b := by unfold sw_kx; split <;> split <;> omega
      rw [ek]
      refine ⟨rfl, ?_, rfl, h4⟩
      simp only [sw_st]; rw [if_pos e]; rfl
    · have h1 : sw_ix c b = sw_kx c b := by unfold sw_ix sw_kx; split <;> split <;> omega
      have h2 : sw_kx c (b + 1) = sw_kx c b + 1 := by unfold sw_kx; split <;> split <;> omega
      have hk4 : sw_kx c b < 4 := by rw [← h1]; exact sw_ix_lt hc hb e
      have h6 := sw_p6 hk4
      have l5 := sw_lk_5 hn d c b
      have hsum := e_c_sum hok.2 hc hb (fun z => e z.symm)
      have lst := sw_st_lt hn d (c := c) b
      have T : ∀ z, z = sw_lk n d c b → wX_findLacking_68 post (wX_findLacking_10 post (nI c) xc xk xq m) (nI c) (nI (sw_kx c b)) (nI (sw_st n d c b)) (nI (6 ^ sw_kx c b)) (nI b) (nI z) (nI (sw_kx c b)) xc xk xq xo xr xp xm xb xs xl xt xe xA xB xf xg xL' (upd xO' (sw_kx c b) (nI b)) xC xN := by
        rintro _ rfl
        refine ⟨vp_in_nI hk4 (by decide), nm_r (e' := upd xL' (sw_kx c b) (nI (sw_lk n d c b))) (by rw [nI_clamp (by omega), bv_b2 (by omega)]) ⟨vp_in_nI hk4 (by decide), ?_⟩⟩
        rw [nI_clamp (by omega), pk_us, pk_mul, nI_add]
        refine nm_r (e' := nI (sw_st n d c (b + 1))) ?_ (nm_r (e' := nI (6 ^ sw_kx c (b + 1))) ?_ (nm_r (e' := nI (sw_kx c (b + 1))) ?_ (nm_r (nI_1 b) (K (_, _, _, _, _) ⟨rfl, rfl, rfl, fun j hj => ?_⟩))))
        · simp only [sw_st]; rw [if_neg e, h1, Nat.mul_comm]
        · rw [h2, show (6 : Int32) = nI 6 from rfl, pk_mul, Nat.pow_succ]
        · rw [h2, nI_1]
        · show upd xO' (sw_kx c b) (nI b) j = _
          by_cases ej : j = sw_kx c b
          · subst ej
            rw [pk_us, ← h1, sw_ot_ix e]
          · rw [pk_un ej]; exact h4 j (by omega)
      refine ⟨bi_in (m := 5) hc hb (by decide) (by decide), nm_r em ⟨vp_in_nI hk4 (by decide), nm_r (e' := upd xO' (sw_kx c b) (nI b)) (by rw [nI_clamp (by omega), bv_b2 (by omega)]) ?_⟩⟩
      refine zb_le (e_m n d c b) 0 (fun h => ⟨by decide, ?_⟩) (fun h => ?_) (by omega) (by omega)
      · have e1 : (-zI (e_m n d c b)) / 2 + 1 = nI (sw_lk n d c b) := by
          obtain ⟨w, hw⟩ : ∃ w : Nat, -(e_m n d c b) = (w : Int) := ⟨(-(e_m n d c b)).toNat, by omega⟩
          rw [zI_neg, hw, zI_nat, show (2 : Int32) = nI 2 from rfl, pk_div (by omega) (by decide) (by decide), nI_1]
          refine congrArg nI ?_
          unfold e_m at hw
          unfold sw_lk
          omega
        rw [e1]; exact T _ rfl
      · have e0 : sw_lk n d c b = 0 := by
          unfold e_m at h
          unfold sw_lk
          omega
        exact T 0 e0.symm
theorem x_sw {post : Int32 → SX → Prop} {n c : Nat} {d : Nat → Nat} {u : SX} (R : rx_K n d u) (hc : c < 5) (H : ∀ u' z, sw_sv n d c z → rx_K n d u' → post (zI z) u') : wpX_swapsOf post u (nI c) := by
  obtain ⟨xc, xk, xq, xo, xr, xp, xm, xb, xs, xl, xt, xe, xA, xB, xf, xg, xL, xO, xC, xN⟩ := u
  have R0 := R
  obtain ⟨rfl, rfl, hok, hb, hcn⟩ := R
  have hn := hok.1
  refine pk_eq n 0 (fun e => H _ (-1002) (Or.inl ⟨e, rfl⟩) R0) (fun e => ?_)
  have hst := sw_st_1296 hn d hc
  refine x_fL hok hcn.2.1 hc fun xL' xO' hot => ?_
  refine loop_0 (fun m k (x : Nat → Int32) => wX_swapsOf_19 post (nI c) (nI (sw_st n d c 5)) (nI n) 1 xq m (nI k) xo xr xp xm xb xs xl xt xe xA xB xf xg xL' xO' x xN) (fun k x => ∀ j, j < k → x j = nI 100) 1296 xC (fun j h => by omega) ?_ ?_
  · intro m x h
    refine br_t (Int32.le_refl _) ⟨vp_in_nI hst (by decide), nm_r (e' := upd x (sw_st n d c 5) (nI 0)) (by rw [nI_clamp (by omega), bv_b0]; rfl) ?_⟩
    refine loop_0 (fun m i (y : (Nat → Int32) × (Nat → Int32)) => wX_swapsOf_49 post (nI c) m (nI i) (nI n) 1 xq xo xr xp xm xb xs xl xt xe xA xB xf xg xL' xO' y.1 y.2) (fun i y => sw_C 100 (sw_D d c (sw_st n d c 5) i) y.1) n (upd x (sw_st n d c 5) (nI 0), xN) ?_ ?_ ?_
    · intro t ht
      dsimp only
      by_cases et : t = sw_st n d c 5
      · subst et
        exact Or.inl ⟨0, pk_us, ⟨rfl, rfl⟩, fun v' _ => Nat.zero_le _⟩
      · rw [pk_un et]
        exact Or.inr ⟨h t ht, fun v z => et z.1⟩
    · rintro m ⟨xC', xN'⟩ hC
      dsimp only at hC ⊢
      refine br_t (Int32.le_refl _) ?_
      obtain ⟨v0, hv0⟩ := sw_reach hok (Nat.pos_of_ne_zero e) hc
      rcases hC 0 (by decide) with ⟨v, q1, q2, q3⟩ | ⟨_, q⟩
      · have hv := (sw_D_b hst n 0 v q2).2
        rw [q1]
        refine pk_eq v 100 (fun z => by omega) (fun _ => ?_)
        rw [← zI_nat]
        exact H _ _ (Or.inr ⟨Nat.pos_of_ne_zero e, v, rfl, q2, q3⟩) ⟨rfl, rfl, hok, hb, hcn⟩
      · exact absurd hv0 (q v0)
    · rintro m i ⟨xC', xN'⟩ hi hC K
      dsimp only at hC K ⊢
      exact br_f (nI_ge hi (by omega)) (x_uB (by omega) (hok.2 i hi) hc hst (hb i hi).2 hot hC fun xC'' xN'' hC'' => nm_r (nI_1 i) (K (xC'', xN'') hC''))
  · intro m k x hk h K
    refine br_f (nI_ge (b := 1296) hk (by decide)) ⟨vp_in_nI hk (by decide), nm_r (e' := upd x k (nI 100)) (by rw [nI_clamp (by omega), bv_b100]) (nm_r (nI_1 k) (K _ fun j hj => ?_))⟩
    by_cases e : j = k
    · subst e; exact pk_us
    · exact (pk_un e).trans (h j (by omega))
end
end
section
theorem sw_ixk {c b : Nat} (h : b ≠ c) : sw_ix c b = sw_kx c b := by unfold sw_ix sw_kx; split <;> split <;> omega
section
variable {yn yq : Int32} {yo yp ym yt yl yb yw yk yh yC yN : Nat → Int32}
theorem y_wt {post : Int32 → Prop} {c x : Nat} (hc : c < 5) (hx : x ≤ 5) (H : post (nI (6 ^ sw_kx c x))) : wpY_weight post (yn, yq, yo, yp, ym, yt, yl, yb, yw, yk, yh, yC, yN) (nI x) (nI c) := by
  refine loop_0 (fun m k (y : Int32) => wY_weight_5 post (nI x) (nI c) yn yq yo yp ym yt yl yb yw yk yh yC yN m y (nI k)) (fun k y => y = nI (6 ^ sw_kx c k)) x 1 (by unfold sw_kx; rfl) ?_ ?_
  · rintro m _ rfl
    exact br_t (Int32.le_refl _) H
  · rintro m k _ hk rfl K
    refine br_f (nI_ge hk (by omega)) (pk_eq k c (fun e => nm_r (nI_1 k) (K _ ?_)) (fun e => nm_r (e' := nI (6 ^ sw_kx c (k + 1))) ?_ (nm_r (nI_1 k) (K _ rfl))))
    · have ek : sw_kx c (k + 1) = sw_kx c k := by unfold sw_kx; split <;> split <;> omega
      rw [ek]
    · have h2 : sw_kx c (k + 1) = sw_kx c k + 1 := by unfold sw_kx; split <;> split <;> omega
      rw [h2, show (6 : Int32) = nI 6 from rfl, pk_mul, Nat.pow_succ]
theorem y_gU_31 {post : SY → Prop} {J : Int32 → (Nat → Int32) → (Nat → Int32) → (Nat → Int32) → (Nat → Int32) → (Nat → Int32) → (Nat → Int32) → (Nat → Int32) → (Nat → Int32) → (Nat → Int32) → (Nat → Int32) → (Nat → Int32) → Prop} {n i c s up u : Nat} {d : Nat → Nat} {D Pr : Nat → Nat → Prop} (hn : n ≤ 9) (hi : i < n) (ho : o_ok (d i) = true) (hb : e_balY n d yo yp) (hc : c < 5) (hup : up ≤ o_pl (d i) c) (hs : s < 1296) (hu : yC s = nI u) (hu2 : u ≤ 60) (hD : D (sw_mv (d i) c s up) (u + up)) (hR : sw_R 1000 D Pr yN)
    (H : ∀ yN', sw_R 1000 D (fun t v => Pr t v ∨ (t = sw_mv (d i) c s up ∧ v = u + up)) yN' → J (nI (s + 1)) yo yp ym yt yl yb yw yk yh yC yN') : ∃ m, wY_goUp_31 post J (nI i) (nI c) (nI up) (nI s) yn yq yo yp ym yt yl yb yw yk yh yC yN m (nI s) 0 := by
  have lc := o_pl_lt (d i) c
  have hpc : yp ((5 : Int32) * nI i + nI c).toNatClampNeg = nI (o_pl (d i) c) := by rw [bi_ic (by omega) (by omega), (hb i hi).2 c hc]
  refine loop_0 (fun m x (y : Int32) => wY_goUp_31 post J (nI i) (nI c) (nI up) (nI s) yn yq yo yp ym yt yl yb yw yk yh yC yN m y (nI x)) (fun x y => y = nI (sw_ap c (sw_Q (d i) c up) s x)) 5 (nI s) rfl ?_ ?_
  · rintro m _ rfl
    rw [← sw_mv_ap ho hc hs up hup]
    have lm := sw_mv_le (d i) c s up
    obtain ⟨w, q1, q2, q3⟩ := hR.1 (sw_mv (d i) c s up) (by omega)
    refine br_t (Int32.le_refl _) ⟨vp_in_nI hs (by decide), vp_in_nI (by omega) (by decide), ?_⟩
    rw [nI_clamp (by omega), nI_clamp (by omega), hu, q1, nI_add]
    exact pk_le w (u + up) (fun hle => nm_r (nI_1 s) (H _ (sw_R_keep hR (by omega) q1 hle))) (fun hgt => ⟨vp_in_nI hs (by decide), vp_in_nI (by omega) (by decide), nm_r rfl (nm_r (nI_1 s) (H _ (sw_R_upd hR (by decide) (by omega) hD q1 q2 hgt)))⟩)
  · rintro m x _ hx rfl K
    have lx := o_pl_lt (d i) x
    have la := sw_ap_le c (sw_Q (d i) c up) s x
    have hpx : yp ((5 : Int32) * nI i + nI x).toNatClampNeg = nI (o_pl (d i) x) := by rw [bi_ic (by omega) (by omega), (hb i hi).2 x hx]
    have skip : sw_Q (d i) c up x = false → nI (sw_ap c (sw_Q (d i) c up) s x) = nI (sw_ap c (sw_Q (d i) c up) s (x + 1)) := by
      intro h
      simp only [sw_ap]; rw [h, if_neg (by decide)]
    refine br_f (nI_ge (b := 5) hx (by decide)) ⟨bi_in (m := 9) (by omega) hc (by decide) (by decide), bi_in (m := 9) (by omega) hx (by decide) (by decide), nm_r (e' := zI ((o_pl (d i) c : Int) - (o_pl (d i) x : Int))) (by rw [hpc, hpx, ← zI_nat, ← zI_nat, zI_sub]) (y_wt hc (by omega) ?_)⟩
    refine pk_eq x c (fun e => nm_r (nI_1 x) (K _ (skip ?_))) (fun e => zb_le ((o_pl (d i) c : Int) - (o_pl (d i) x : Int)) 0 (fun h => nm_r (nI_1 x) (K _ (skip ?_))) (fun h => zb_lt (up : Int) ((o_pl (d i) c : Int) - (o_pl (d i) x : Int)) (fun h2 => nm_r (nI_1 x) (K _ (skip ?_))) (fun h2 => ?_) (by omega) (by omega) (zI_nat up).symm) (by omega) (by omega))
    · unfold sw_Q; rw [decide_eq_false (fun z => z e)]; rfl
    · unfold sw_Q; rw [decide_eq_false (show ¬ o_pl (d i) x < o_pl (d i) c by omega), Bool.and_false]; rfl
    · unfold sw_Q; rw [decide_eq_false (show ¬ o_pl (d i) c - o_pl (d i) x ≤ up by omega), Bool.and_false]
    · have hq : sw_Q (d i) c up x = true := by
        unfold sw_Q
        rw [decide_eq_true e, decide_eq_true (show o_pl (d i) x < o_pl (d i) c by omega), decide_eq_true (show o_pl (d i) c - o_pl (d i) x ≤ up by omega)]; rfl
      have h4 : sw_kx c x < 4 := by rw [← sw_ixk e]; exact sw_ix_lt hc hx e
      have h6 := sw_p6 h4
      refine pk_le 1 (6 ^ sw_kx c x) (fun _ => ⟨nI_ne0 (by omega) (by omega), by decide, ?_⟩) (fun z => by omega)
      refine sw_go (post := fun y => wY_goUp_31 post J (nI i) (nI c) (nI up) (nI s) yn yq yo yp ym yt yl yb yw yk yh yC yN m y (nI (x + 1))) (s := sw_ap c (sw_Q (d i) c up) s x) (by omega) h4 (K _ ?_) (fun h => ⟨fun z => nm_r (nI_1 x) (h.1 z), fun z => nm_e (nm_r (nI_1 x) (h.2 z))⟩)
      simp only [sw_ap]; rw [if_pos hq, sw_ixk e]
theorem y_gU {post : SY → Prop} {n i c st up : Nat} {d : Nat → Nat} {Pr : Nat → Nat → Prop} (hn : n ≤ 9) (hi : i < n) (ho : o_ok (d i) = true) (hb : e_balY n d yo yp) (hc : c < 5) (hst : st < 1296) (hup : up ≤ o_pl (d i) c) (hC : sw_C 1000 (sw_D d c st i) yC) (hR : sw_R 1000 (sw_D d c st (i + 1)) Pr yN)
    (H : ∀ yN', sw_R 1000 (sw_D d c st (i + 1)) (fun t v => Pr t v ∨ ∃ s u, s < 1296 ∧ yC s = nI u ∧ sw_D d c st i s u ∧ t = sw_mv (d i) c s up ∧ v = u + up) yN' → post (yn, yq, yo, yp, ym, yt, yl, yb, yw, yk, yh, yC, yN')) : wpY_goUp post (yn, yq, yo, yp, ym, yt, yl, yb, yw, yk, yh, yC, yN) (nI i) (nI c) (nI up) := by
  refine loop_0 (fun m s (x : Nat → Int32) => wY_goUp_3 post (nI i) (nI c) (nI up) yn yq m (nI s) yo yp ym yt yl yb yw yk yh yC x) (fun s x => sw_R 1000 (sw_D d c st (i + 1)) (fun t v => Pr t v ∨ ∃ s' u, s' < s ∧ yC s' = nI u ∧ sw_D d c st i s' u ∧ t = sw_mv (d i) c s' up ∧ v = u + up) x) 1296 yN (sw_R_mono hR (fun t v z => z.resolve_right (fun ⟨_, _, h, _⟩ => by omega))) ?_ ?_
  · intro m x h
    exact br_t (Int32.le_refl _) (H x h)
  · intro m s x hs h K
    refine br_f (nI_ge (b := 1296) hs (by decide)) ⟨vp_in_nI hs (by decide), ?_⟩
    rw [nI_clamp (by omega)]
    rcases hC s hs with ⟨u, q1, q2, q3⟩ | ⟨q1, q2⟩
    · have hbd := (sw_D_b hst i s u q2).2
      rw [q1]
      refine pk_le 1000 u (fun z => by omega) (fun _ => y_gU_31 hn hi ho hb hc hup hs q1 (by omega) ⟨s, u, up, q2, hup, rfl, rfl⟩ h fun x' h' => K x' (sw_R_mono h' ?_))
      rintro t v (z | ⟨s', u', g1, g2, g3, g4, g5⟩)
      · exact Or.inl (Or.inl z)
      · by_cases e : s' = s
        · subst e
          have hb' := (sw_D_b hst i s' u' g3).2
          rw [q1] at g2
          have := (nI_eq (by omega) (by omega)).mp g2
          subst this
          exact Or.inr ⟨g4, g5⟩
        · exact Or.inl (Or.inr ⟨s', u', by omega, g2, g3, g4, g5⟩)
    · rw [q1]
      refine pk_le 1000 1000 (fun _ => nm_r (nI_1 s) (K x (sw_R_mono h ?_))) (fun z => by omega)
      rintro t v (z | ⟨s', u', g1, g2, g3, g4⟩)
      · exact Or.inl z
      · by_cases e : s' = s
        · subst e; exact absurd g3 (q2 u')
        · exact Or.inr ⟨s', u', by omega, g2, g3, g4⟩
theorem y_sw_139 {post : Int32 → SY → Prop} {n i c st : Nat} {d : Nat → Nat} {J0 : Int32 → Int32 → Int32 → (Nat → Int32) → (Nat → Int32) → (Nat → Int32) → (Nat → Int32) → (Nat → Int32) → (Nat → Int32) → (Nat → Int32) → (Nat → Int32) → (Nat → Int32) → (Nat → Int32) → (Nat → Int32) → Prop} (hn : n ≤ 9) (hi : i < n) (ho : o_ok (d i) = true) (hb : e_balY n d yo yp) (hc : c < 5) (hst : st < 1296) (hC : sw_C 1000 (sw_D d c st i) yC)
    (H : ∀ yC' yN', sw_C 1000 (sw_D d c st (i + 1)) yC' → J0 (nI (i + 1)) (nI n) yq yo yp ym yt yl yb yw yk yh yC' yN') : ∃ m, wY_swaps_139 post J0 (nI c) (nI i) (nI n) yq m 0 yo yp ym yt yl yb yw yk yh yC yN := by
  have lc := o_pl_lt (d i) c
  refine loop_0 (fun m k (x : Nat → Int32) => wY_swaps_139 post J0 (nI c) (nI i) (nI n) yq m (nI k) yo yp ym yt yl yb yw yk yh yC x) (fun k x => ∀ j, j < k → x j = nI 1000) 1296 yN (fun j h => by omega) ?_ ?_
  · intro m x h
    refine br_t (Int32.le_refl _) ?_
    refine loop_0 (fun m up (x : Nat → Int32) => wY_swaps_166 post J0 (nI c) (nI i) m (nI up) (nI n) yq yo yp ym yt yl yb yw yk yh yC x) (fun up x => sw_R 1000 (sw_D d c st (i + 1)) (fun t v => ∃ s u up', up' < up ∧ s < 1296 ∧ yC s = nI u ∧ sw_D d c st i s u ∧ t = sw_mv (d i) c s up' ∧ v = u + up') x) (o_pl (d i) c + 1) x (sw_R_mono (sw_R_0 h) (fun t v ⟨_, _, _, h1, _⟩ => by omega)) ?_ ?_
    · intro m x hR
      have hC2 : sw_C 1000 (sw_D d c st (i + 1)) x := by
        refine sw_R_C hR (by decide) (fun t v z => by have := (sw_D_b hst (i + 1) t v z).2; omega) ?_
        rintro t v ⟨s, u, up, g1, g2, rfl, rfl⟩
        have hs := (sw_D_b hst i s u g1).1
        rcases hC s hs with ⟨u', q1, q2, q3⟩ | ⟨_, q⟩
        · have := q3 u g1
          exact ⟨u' + up, by omega, s, u', up, by omega, hs, q1, q2, rfl, rfl⟩
        · exact absurd g1 (q u)
      refine ⟨bi_in (m := 9) (by omega) hc (by decide) (by decide), br_t ?_ ?_⟩
      · rw [bi_ic (by omega) (by omega), (hb i hi).2 c hc]; exact nI_lt (by omega) (by omega)
      · refine loop_0 (fun m k (y : Nat → Int32) => wY_swaps_198 post J0 (nI c) (nI i) (nI n) yq m (nI k) yo yp ym yt yl yb yw yk yh y x) (fun k y => ∀ j, j < k → y j = x j) 1296 yC (fun j h => by omega) ?_ ?_
        · intro m y hy
          refine br_t (Int32.le_refl _) (nm_r (nI_1 i) (H y x ?_))
          intro t ht
          rw [hy t ht]; exact hC2 t ht
        · intro m k y hk hy K
          refine br_f (nI_ge (b := 1296) hk (by decide)) ⟨vp_in_nI hk (by decide), vp_in_nI hk (by decide), nm_r (e' := upd y k (x k)) (by rw [nI_clamp (by omega)]) (nm_r (nI_1 k) (K _ fun j hj => ?_))⟩
          by_cases e : j = k
          · subst e; exact pk_us
          · exact (pk_un e).trans (hy j (by omega))
    · intro m up x hup hR K
      refine ⟨bi_in (m := 9) (by omega) hc (by decide) (by decide), br_f ?_ (y_gU hn hi ho hb hc hst (by omega) hC hR fun x' hR' => nm_r (nI_1 up) (K x' (sw_R_mono hR' ?_)))⟩
      · rw [bi_ic (by omega) (by omega), (hb i hi).2 c hc]; exact nI_nlt (by omega) (by omega)
      · rintro t v ⟨s, u, up', g1, g2, g3, g4, g5, g6⟩
        by_cases e : up' = up
        · subst e; exact Or.inr ⟨s, u, g2, g3, g4, g5, g6⟩
        · exact Or.inl ⟨s, u, up', by omega, g2, g3, g4, g5, g6⟩
  · intro m k x hk h K
    refine br_f (nI_ge (b := 1296) hk (by decide)) ⟨vp_in_nI hk (by decide), nm_r (e' := upd x k (nI 1000)) (by rw [nI_clamp (by omega)]; rfl) (nm_r (nI_1 k) (K _ fun j hj => ?_))⟩
    by_cases e : j = k
    · subst e; exact pk_us
    · exact (pk_un e).trans (h j (by omega))
theorem y_sw {post : Int32 → SY → Prop} {n c : Nat} {d : Nat → Nat} (hok : e_ok n d) (hb : e_balY n d yo yp) (hc : c < 5) (H : ∀ z yC' yN', sw_sv n d c z → post (zI z) (nI n, yq, yo, yp, ym, yt, yl, yb, yw, yk, yh, yC', yN')) : wpY_swaps post (nI n, yq, yo, yp, ym, yt, yl, yb, yw, yk, yh, yC, yN) (nI c) := by
  have hn := hok.1
  have hst := sw_st_1296 hn d hc
  unfold wpY_swaps
  refine y_in_T (n := 5) (by decide) (by decide) hc (br_f (by decide) (pk_eq n 0 (fun e => H (-1002) yC yN (Or.inl ⟨e, rfl⟩)) (fun e => ?_)))
  refine loop_0 (fun m x (y : Int32) => wY_swaps_29 post (nI c) (nI n) yq yo yp ym yt yl yb yw yk yh yC yN m y (nI x)) (fun x y => y = nI (sw_st n d c x)) 5 0 rfl ?_ ?_
  · rintro m _ rfl
    refine br_t (Int32.le_refl _) ?_
    refine loop_0 (fun m k (x : Nat → Int32) => wY_swaps_95 post (nI c) (nI (sw_st n d c 5)) (nI n) yq m (nI k) yo yp ym yt yl yb yw yk yh x yN) (fun k x => ∀ j, j < k → x j = nI (if j = sw_st n d c 5 then 0 else 1000)) 1296 yC (fun j h => by omega) ?_ ?_
    · intro m x h
      refine br_t (Int32.le_refl _) ?_
      refine loop_0 (fun m i (y : (Nat → Int32) × (Nat → Int32)) => wY_swaps_128 post (nI c) m (nI i) (nI n) yq yo yp ym yt yl yb yw yk yh y.1 y.2) (fun i y => sw_C 1000 (sw_D d c (sw_st n d c 5) i) y.1) n (x, yN) ?_ ?_ ?_
      · intro t ht
        dsimp only
        rw [h t ht]
        by_cases et : t = sw_st n d c 5
        · rw [if_pos et]
          exact Or.inl ⟨0, rfl, ⟨et, rfl⟩, fun v' _ => Nat.zero_le _⟩
        · rw [if_neg et]
          exact Or.inr ⟨rfl, fun v z => et z.1⟩
      · rintro m ⟨yC', yN'⟩ hC
        dsimp only at hC ⊢
        refine br_t (Int32.le_refl _) ?_
        obtain ⟨v0, hv0⟩ := sw_reach hok (Nat.pos_of_ne_zero e) hc
        rcases hC 0 (by decide) with ⟨v, q1, q2, q3⟩ | ⟨_, q⟩
        · rw [q1, ← zI_nat]
          exact H _ _ _ (Or.inr ⟨Nat.pos_of_ne_zero e, v, rfl, q2, q3⟩)
        · exact absurd hv0 (q v0)
      · rintro m i ⟨yC', yN'⟩ hi hC K
        dsimp only at hC K ⊢
        exact br_f (nI_ge hi (by omega)) (y_sw_139 hn hi (hok.2 i hi) hb hc hst hC fun yC'' yN'' hC'' => K (yC'', yN'') hC'')
    · intro m k x hk h K
      refine br_f (nI_ge (b := 1296) hk (by decide)) (pk_eq k (sw_st n d c 5) (fun e2 => ⟨vp_in_nI hk (by decide), nm_r (e' := upd x k (nI 0)) (by rw [nI_clamp (by omega)]; rfl) (nm_r (nI_1 k) (K _ fun j hj => ?_))⟩) (fun e2 => ⟨vp_in_nI hk (by decide), nm_r (e' := upd x k (nI 1000)) (by rw [nI_clamp (by omega)]; rfl) (nm_r (nI_1 k) (K _ fun j hj => ?_))⟩))
      · by_cases e3 : j = k
        · subst e3; rw [pk_us, if_pos e2]
        · exact (pk_un e3).trans (h j (by omega))
      · by_cases e3 : j = k
        · subst e3; rw [pk_us, if_neg e2]
        · exact (pk_un e3).trans (h j (by omega))
  · rintro m x _ hx rfl K
    have l1 := e_c_le n d c x
    have l2 := e_c_le n d x c
    have lst := sw_st_lt hn d (c := c) x
    refine br_f (nI_ge (b := 5) hx (by decide)) (y_mO (s := 511) hok hb (by decide) hc hx ?_)
    rw [e_ms_511 hn]
    obtain ⟨w, hw⟩ : ∃ w : Nat, e_m n d c x + (n : Int) = (w : Int) := ⟨(e_m n d c x + (n : Int)).toNat, by unfold e_m; omega⟩
    have hw2 : w ≤ 18 := by unfold e_m at hw; omega
    refine ⟨by decide, nm_r (e' := nI (w / 2)) ?_ ⟨by decide, nm_r (e' := zI (((n / 2 + 1 : Nat) : Int) - ((w / 2 : Nat) : Int))) ?_ (pk_eq x c (fun e2 => nm_r (nI_1 x) (K _ ?_)) (fun e2 => ?_))⟩⟩
    · rw [← zI_nat n, zI_add, hw, zI_nat, show (2 : Int32) = nI 2 from rfl, pk_div (by omega) (by decide) (by decide)]
    · rw [show (2 : Int32) = nI 2 from rfl, pk_div (by omega) (by decide) (by decide), nI_1, ← zI_nat, ← zI_nat, zI_sub]
    · simp only [sw_st]; rw [if_pos e2]
    · have hsum := e_c_sum hok.2 hc hx (fun z => e2 z.symm)
      have h4 : sw_kx c x < 4 := by rw [← sw_ixk e2]; exact sw_ix_lt hc hx e2
      have h6 := sw_p6 h4
      have l5 := sw_lk_5 hn d c x
      refine zb_le (((n / 2 + 1 : Nat) : Int) - ((w / 2 : Nat) : Int)) 0 (fun h => nm_r (nI_1 x) (K _ ?_)) (fun h => y_wt hc (by omega) (nm_r (e' := nI (sw_st n d c (x + 1))) ?_ (nm_r (nI_1 x) (K _ rfl)))) (by omega) (by omega)
      · have e0 : sw_lk n d c x = 0 := by
          unfold e_m at hw
          unfold sw_lk
          omega
        simp only [sw_st]; rw [if_neg e2, e0, Nat.zero_mul, Nat.add_zero]
      · have e1 : ((n / 2 + 1 : Nat) : Int) - ((w / 2 : Nat) : Int) = (sw_lk n d c x : Int) := by
          unfold e_m at hw
          unfold sw_lk
          omega
        rw [e1, zI_nat, pk_mul, nI_add]
        simp only [sw_st]; rw [if_neg e2, sw_ixk e2]
end
end
section
theorem r_C_congr {R R' : Nat → Nat → Bool} (h : ∀ a b, a < 5 → b < 5 → R a b = R' a b) : ∀ k, k ≤ 5 → ∀ a b, a < 5 → b < 5 → r_C R k a b = r_C R' k a b := by
  intro k
  induction k with
  | zero => intro _; exact h
  | succ k ih =>
    intro hk a b ha hb
    have I := ih (by omega)
    simp only [r_C]
    rw [I a b ha hb, I a k ha (by omega), I k b (by omega) hb]
/-- no way round -/
def m_ac (E : Nat → Nat → Bool) : Prop := ∀ a, a < 5 → r_C E 5 a a = false
theorem r_C_first {E : Nat → Nat → Bool} {x z : Nat} (hx : x < 5) (hz : z < 5) (h : r_C E 5 x z = true) : ∃ y, y < 5 ∧ E x y = true ∧ (y = z ∨ r_C E 5 y z = true) := by
  refine r_C_min (T := fun x z => ∃ y, y < 5 ∧ E x y = true ∧ (y = z ∨ r_C E 5 y z = true)) ?_ ?_ 5 (by decide) x z hx hz h
  · intro a b ha hb h
    exact ⟨b, hb, h, Or.inl rfl⟩
  · rintro a b c ha hb hc ⟨y, hy, h1, h2⟩ ⟨y', hy', h3, h4⟩
    have hcb : r_C E 5 c b = true := by
      have h5 := r_C_ge E 5 c y' h3
      rcases h4 with rfl | h4
      · exact h5
      · exact r_C_tr hy' h5 h4
    refine ⟨y, hy, h1, Or.inr ?_⟩
    rcases h2 with rfl | h2
    · exact hcb
    · exact r_C_tr hc h2 hcb
/-- the reference's peeling -/
def m_T (E : Nat → Nat → Bool) : Nat → Nat → Bool
  | 0 => fun _ => true
  | s + 1 => fun x => if x = s % 5 then m_T E s x && decide (0 < q_cn (fun b => E x b && m_T E s b) 5) else m_T E s x
theorem m_T_dn {E : Nat → Nat → Bool} {s x : Nat} (h : m_T E (s + 1) x = true) : m_T E s x = true := by
  simp only [m_T] at h
  split at h
  · rw [Bool.and_eq_true] at h; exact h.1
  · exact h
theorem m_T_dn2 {E : Nat → Nat → Bool} {x : Nat} : ∀ j s, m_T E (s + j) x = true → m_T E s x = true := by
  intro j
  induction j with
  | zero => intro s h; exact h
  | succ j ih => intro s h; exact ih s (m_T_dn h)
theorem m_T_keep {E : Nat → Nat → Bool} {S : Nat → Prop} (hS : ∀ x, x < 5 → S x → ∃ y, y < 5 ∧ E x y = true ∧ S y) : ∀ s x, x < 5 → S x → m_T E s x = true := by
  intro s
  induction s with
  | zero => intro x _ _; rfl
  | succ s ih =>
    intro x hx h
    simp only [m_T]
    split
    · rw [ih x hx h, Bool.true_and, decide_eq_true_eq, q_cn_pos]
      obtain ⟨y, hy, h1, h2⟩ := hS x hx h
      exact ⟨y, hy, by rw [h1, ih y hy h2]; rfl⟩
    · exact ih x hx h
theorem m_T_cy {E : Nat → Nat → Bool} : (∃ x, x < 5 ∧ m_T E 25 x = true) ↔ ¬ m_ac E := by
  constructor
  · rintro ⟨x, hx, h⟩ ac
    have rank : ∀ p x, x < 5 → m_T E (5 * p) x = true → p ≤ q_cn (r_C E 5 x) 5 := by
      intro p
      induction p with
      | zero => intro x _ _; exact Nat.zero_le _
      | succ p ih =>
        intro x hx h
        have h1 : m_T E ((5 * p + x) + 1 + (4 - x)) x = true := by
          rwa [show (5 * p + x) + 1 + (4 - x) = 5 * (p + 1) by omega]
        have h2 := m_T_dn2 _ _ h1
        simp only [m_T] at h2
        rw [if_pos (show x = (5 * p + x) % 5 by omega), Bool.and_eq_true, decide_eq_true_eq, q_cn_pos] at h2
        obtain ⟨_, b, hb, h3⟩ := h2
        rw [Bool.and_eq_true] at h3
        have h4 := ih b hb (m_T_dn2 x (5 * p) h3.2)
        have hE := r_C_ge E 5 x b h3.1
        have h5 : q_cn (r_C E 5 b) 5 < q_cn (r_C E 5 x) 5 := q_cn_slt (fun i hi h => r_C_tr hb hE h) hb (ac b hb) hE
        omega
    have h5 := rank 5 x hx h
    have h6 : q_cn (r_C E 5 x) 5 < q_cn (fun _ => true) 5 := q_cn_slt (fun _ _ _ => rfl) hx (ac x hx) rfl
    have h7 := q_cn_le (fun _ => true) 5
    omega
  · intro h
    have : ∃ a, a < 5 ∧ r_C E 5 a a = true := by
      refine Classical.byContradiction fun g => h fun a ha => ?_
      cases e : r_C E 5 a a
      · rfl
      · exact absurd ⟨a, ha, e⟩ g
    obtain ⟨a, ha, hr⟩ := this
    refine ⟨a, ha, m_T_keep (S := fun x => r_C E 5 a x = true ∧ r_C E 5 x a = true) ?_ 25 a ha ⟨hr, hr⟩⟩
    rintro x hx ⟨h1, h2⟩
    obtain ⟨y, hy, h3, h4⟩ := r_C_first hx ha h2
    refine ⟨y, hy, h3, r_C_tr hx h1 (r_C_ge E 5 x y h3), ?_⟩
    rcases h4 with rfl | h4
    · exact hr
    · exact h4
/-- one more couple -/
theorem m_add {E E' : Nat → Nat → Bool} {A B : Nat} (hA : A < 5) (hB : B < 5) (hAB : A ≠ B) (ac : m_ac E) (hE : ∀ a b, a < 5 → b < 5 → (E' a b = true ↔ E a b = true ∨ (a = A ∧ b = B))) : ¬ m_ac E' ↔ r_C E 5 B A = true := by
  constructor
  · intro h
    refine Classical.byContradiction fun g => h fun a ha => ?_
    have key : ∀ x y, x < 5 → y < 5 → r_C E' 5 x y = true → (r_C E 5 x y = true ∨ ((x = A ∨ r_C E 5 x A = true) ∧ (y = B ∨ r_C E 5 B y = true))) := by
      refine r_C_min (T := fun x y => r_C E 5 x y = true ∨ ((x = A ∨ r_C E 5 x A = true) ∧ (y = B ∨ r_C E 5 B y = true))) ?_ ?_ 5 (by decide)
      · intro a b ha hb h
        rcases (hE a b ha hb).mp h with h | ⟨rfl, rfl⟩
        · exact Or.inl (r_C_ge E 5 a b h)
        · exact Or.inr ⟨Or.inl rfl, Or.inl rfl⟩
      · rintro a b c ha hb hc (h1 | ⟨h1, h2⟩) (h3 | ⟨h3, h4⟩)
        · exact Or.inl (r_C_tr hc h1 h3)
        · refine Or.inr ⟨Or.inr ?_, h4⟩
          rcases h3 with rfl | h3
          · exact h1
          · exact r_C_tr hc h1 h3
        · refine Or.inr ⟨h1, Or.inr ?_⟩
          rcases h2 with rfl | h2
          · exact h3
          · exact r_C_tr hc h2 h3
        · exact Or.inr ⟨h1, h4⟩
    cases e : r_C E' 5 a a
    · rfl
    · exfalso
      rcases key a a ha ha e with h1 | ⟨h1, h2⟩
      · rw [ac a ha] at h1; exact absurd h1 (by decide)
      · apply g
        rcases h1 with rfl | h1
        · rcases h2 with h2 | h2
          · exact absurd h2 hAB
          · exact h2
        · rcases h2 with rfl | h2
          · exact h1
          · exact r_C_tr ha h2 h1
  · intro h ac'
    have h1 : r_C E' 5 A B = true := r_C_ge E' 5 A B ((hE A B hA hB).mpr (Or.inr ⟨rfl, rfl⟩))
    have h2 : r_C E' 5 B A = true := by
      refine r_C_min (T := fun x y => r_C E' 5 x y = true) ?_ ?_ 5 (by decide) B A hB hA h
      · intro a b ha hb h
        exact r_C_ge E' 5 a b ((hE a b ha hb).mpr (Or.inl h))
      · intro a b c ha hb hc h1 h2
        exact r_C_tr hc h1 h2
    have := ac' A hA
    rw [r_C_tr hB h1 h2] at this
    exact absurd this (by decide)
/-- what can be kept of a group: no way round, and each one left out would make one -/
def m_Co (E : Nat → Nat → Bool) (G : Nat → Nat → Prop) : Prop := m_ac E ∧ ∀ a b, a < 5 → b < 5 → G a b → E a b = false → r_C E 5 b a = true
theorem m_ac_congr {E E' : Nat → Nat → Bool} (h : ∀ a b, a < 5 → b < 5 → E a b = E' a b) (g : m_ac E) : m_ac E' := by
  intro a ha
  rw [← r_C_congr h 5 (by decide) a a ha ha]; exact g a ha
theorem m_Co_congr {E E' : Nat → Nat → Bool} {G : Nat → Nat → Prop} (h : ∀ a b, a < 5 → b < 5 → E a b = E' a b) (g : m_Co E G) : m_Co E' G := by
  refine ⟨m_ac_congr h g.1, fun a b ha hb h1 h2 => ?_⟩
  rw [← r_C_congr h 5 (by decide) b a hb ha]
  exact g.2 a b ha hb h1 (by rw [h a b ha hb]; exact h2)
/-- what can be kept when the margins above 9 - k are done -/
def m_F (g : Nat → Nat → Nat) : Nat → (Nat → Nat → Bool) → Prop
  | 0 => fun E => ∀ a b, a < 5 → b < 5 → E a b = false
  | k + 1 => fun E => ∃ E0, m_F g k E0 ∧ (∀ a b, a < 5 → b < 5 → E0 a b = true → E a b = true) ∧ (∀ a b, a < 5 → b < 5 → E a b = true → E0 a b = true ∨ g a b = 9 - k) ∧ m_Co E (fun a b => g a b = 9 - k)
theorem m_ac_0 {E : Nat → Nat → Bool} (h : ∀ a b, a < 5 → b < 5 → E a b = false) : m_ac E := by
  intro a ha
  cases e : r_C E 5 a a
  · rfl
  · obtain ⟨y, hy, h1, _⟩ := r_C_first ha ha e
    rw [h a y ha hy] at h1
    exact absurd h1 (by decide)
theorem m_F_ac {g : Nat → Nat → Nat} : ∀ k E, m_F g k E → m_ac E := by
  intro k
  cases k with
  | zero => intro E h; exact m_ac_0 h
  | succ k => rintro E ⟨_, _, _, _, h⟩; exact h.1
theorem m_F_congr {g : Nat → Nat → Nat} {k : Nat} {E E' : Nat → Nat → Bool} (h : ∀ a b, a < 5 → b < 5 → E a b = E' a b) (f : m_F g k E) : m_F g k E' := by
  cases k with
  | zero => intro a b ha hb; rw [← h a b ha hb]; exact f a b ha hb
  | succ k =>
    obtain ⟨E0, f1, f2, f3, f4⟩ := f
    refine ⟨E0, f1, fun a b ha hb z => ?_, fun a b ha hb z => ?_, m_Co_congr h f4⟩
    · rw [← h a b ha hb]; exact f2 a b ha hb z
    · rw [← h a b ha hb] at z; exact f3 a b ha hb z
theorem m_F_g {g : Nat → Nat → Nat} : ∀ k, k ≤ 9 → ∀ E, m_F g k E → ∀ a b, a < 5 → b < 5 → E a b = true → 9 - k < g a b := by
  intro k
  induction k with
  | zero =>
    intro _ E f a b ha hb h
    rw [f a b ha hb] at h
    exact absurd h (by decide)
  | succ k ih =>
    rintro hk E ⟨E0, f1, f2, f3, f4⟩ a b ha hb h
    rcases f3 a b ha hb h with h | h
    · have := ih (by omega) E0 f1 a b ha hb h
      omega
    · omega
/-- a margin that no couple has -/
theorem m_F_skip {g : Nat → Nat → Nat} {k : Nat} {E : Nat → Nat → Bool} (h : ∀ a b, a < 5 → b < 5 → g a b ≠ 9 - k) : m_F g (k + 1) E ↔ m_F g k E := by
  constructor
  · rintro ⟨E0, f1, f2, f3, f4⟩
    refine m_F_congr (fun a b ha hb => ?_) f1
    refine q_beq ⟨f2 a b ha hb, fun z => ?_⟩
    rcases f3 a b ha hb z with z | z
    · exact z
    · exact absurd z (h a b ha hb)
  · intro f
    exact ⟨E, f, fun _ _ _ _ z => z, fun _ _ _ _ z => Or.inl z, m_F_ac k E f, fun a b ha hb z => absurd z (h a b ha hb)⟩
theorem m_F_skips {g : Nat → Nat → Nat} {k : Nat} {E : Nat → Nat → Bool} : ∀ j, (∀ i, i < j → ∀ a b, a < 5 → b < 5 → g a b ≠ 9 - (k + i)) → (m_F g (k + j) E ↔ m_F g k E) := by
  intro j
  induction j with
  | zero => intro _; exact Iff.rfl
  | succ j ih =>
    intro h
    exact (m_F_skip (h j (by omega))).trans (ih fun i hi => h i (by omega))
/-- a candidate that wins -/
def m_W (g : Nat → Nat → Nat) (x : Nat) : Prop := ∃ E, m_F g 9 E ∧ ∀ a, a < 5 → E a x = false
end
section
theorem m_sub : ∀ p q g : Nat, q &&& g = q → p &&& g = p → q < p → q ≤ (p - 1) &&& g := by
  intro p
  induction p using Nat.strongRecOn with
  | ind p ih =>
    intro q g hq hp hlt
    have hp2 : p / 2 &&& g / 2 = p / 2 := by rw [← Nat.and_div_two, hp]
    have hq2 : q / 2 &&& g / 2 = q / 2 := by rw [← Nat.and_div_two, hq]
    have r := Nat.and_div_two (a := p - 1) (b := g)
    have rm := Nat.and_mod_two_eq_one (a := p - 1) (b := g)
    have qm := Nat.and_mod_two_eq_one (a := q) (b := g)
    rw [hq] at qm
    by_cases hodd : p % 2 = 1
    · rw [show (p - 1) / 2 = p / 2 by omega, hp2] at r
      generalize (p - 1) &&& g = z at r rm ⊢
      omega
    · rw [show (p - 1) / 2 = p / 2 - 1 by omega] at r
      have I := ih (p / 2) (by omega) (q / 2) (g / 2) hq2 hp2 (by omega)
      rw [← r] at I
      generalize (p - 1) &&& g = z at r rm I ⊢
      by_cases hqo : q % 2 = 1
      · have hg := (qm.mp hqo).2
        have hz := rm.mpr ⟨by omega, hg⟩
        omega
      · omega
/-- a list of couples -/
def m_Ls (g : Nat → Nat → Nat) (S : Nat → Prop) (cc : Nat) (pr : Nat → Nat) : Prop :=
  (∀ j, j < cc → pr j < 25 ∧ 0 < g (pr j / 5) (pr j % 5) ∧ S (pr j)) ∧ (∀ j j', j < cc → j' < cc → pr j = pr j' → j = j') ∧ (∀ p, p < 25 → 0 < g (p / 5) (p % 5) → S p → ∃ j, j < cc ∧ pr j = p)
theorem q_inj {N : Nat} : ∀ (cc : Nat) (pr : Nat → Nat) (p : Nat → Bool), (∀ j, j < cc → pr j < N ∧ p (pr j) = true) → (∀ j j', j < cc → j' < cc → pr j = pr j' → j = j') → cc ≤ q_cn p N := by
  intro cc
  induction cc with
  | zero => intro _ _ _ _; exact Nat.zero_le _
  | succ cc ih =>
    intro pr p h1 h2
    obtain ⟨ha, hp⟩ := h1 cc (by omega)
    have e := u_rm hp N
    rw [decide_eq_true ha] at e
    have I := ih pr (fun x => p x && decide (x ≠ pr cc)) (fun j hj => ?_) (fun j j' hj hj' => h2 j j' (by omega) (by omega))
    · rw [e]
      simp only [Bool.toNat_true]; omega
    · obtain ⟨q1, q2⟩ := h1 j (by omega)
      refine ⟨q1, ?_⟩
      rw [q2, Bool.true_and, decide_eq_true_eq]
      intro z
      have := h2 j cc (by omega) (by omega) z
      omega
theorem m_pos10 {g : Nat → Nat → Nat} (h0 : ∀ a, g a a = 0) (hg : ∀ a b, 0 < g a b → g b a = 0) : q_cn (fun p => decide (0 < g (p / 5) (p % 5))) 25 ≤ 10 := by
  have k : ∀ a b, (decide (0 < g a b)).toNat + (decide (0 < g b a)).toNat ≤ 1 := by
    intro a b
    by_cases h : 0 < g a b
    · have h2 : ¬ 0 < g b a := by rw [hg a b h]; omega
      rw [decide_eq_true h, decide_eq_false h2]; decide
    · rw [decide_eq_false h]
      have := q_bt (decide (0 < g b a))
      simp only [Bool.toNat_false]; omega
  have z : ∀ a, (decide (0 < g a a)).toNat = 0 := by
    intro a
    rw [h0 a]; rfl
  have z0 := z 0
  have z1 := z 1
  have z2 := z 2
  have z3 := z 3
  have z4 := z 4
  have a01 := k 0 1
  have a02 := k 0 2
  have a03 := k 0 3
  have a04 := k 0 4
  have a12 := k 1 2
  have a13 := k 1 3
  have a14 := k 1 4
  have a23 := k 2 3
  have a24 := k 2 4
  have a34 := k 3 4
  have f : ∀ (p : Nat → Bool), q_cn p 25 = (p 0).toNat + (p 1).toNat + (p 2).toNat + (p 3).toNat + (p 4).toNat + (p 5).toNat + (p 6).toNat + (p 7).toNat + (p 8).toNat + (p 9).toNat + (p 10).toNat + (p 11).toNat + (p 12).toNat + (p 13).toNat + (p 14).toNat + (p 15).toNat + (p 16).toNat + (p 17).toNat + (p 18).toNat + (p 19).toNat + (p 20).toNat + (p 21).toNat + (p 22).toNat + (p 23).toNat + (p 24).toNat := by
    intro p
    simp only [q_cn, Nat.zero_add]
  rw [f]
  show (decide (0 < g 0 0)).toNat + (decide (0 < g 0 1)).toNat + (decide (0 < g 0 2)).toNat + (decide (0 < g 0 3)).toNat + (decide (0 < g 0 4)).toNat + (decide (0 < g 1 0)).toNat + (decide (0 < g 1 1)).toNat + (decide (0 < g 1 2)).toNat + (decide (0 < g 1 3)).toNat + (decide (0 < g 1 4)).toNat + (decide (0 < g 2 0)).toNat + (decide (0 < g 2 1)).toNat + (decide (0 < g 2 2)).toNat + (decide (0 < g 2 3)).toNat + (decide (0 < g 2 4)).toNat + (decide (0 < g 3 0)).toNat + (decide (0 < g 3 1)).toNat + (decide (0 < g 3 2)).toNat + (decide (0 < g 3 3)).toNat + (decide (0 < g 3 4)).toNat + (decide (0 < g 4 0)).toNat + (decide (0 < g 4 1)).toNat + (decide (0 < g 4 2)).toNat + (decide (0 < g 4 3)).toNat + (decide (0 < g 4 4)).toNat ≤ 10
  omega
theorem m_Ls_10 {g : Nat → Nat → Nat} {S : Nat → Prop} {cc : Nat} {pr : Nat → Nat} (h0 : ∀ a, g a a = 0) (hg : ∀ a b, 0 < g a b → g b a = 0) (h : m_Ls g S cc pr) : cc ≤ 10 :=
  Nat.le_trans (q_inj cc pr _ (fun j hj => ⟨(h.1 j hj).1, decide_eq_true (h.1 j hj).2.1⟩) h.2.1) (m_pos10 h0 hg)
theorem m_Ls_push {g : Nat → Nat → Nat} {S S' : Nat → Prop} {cc p : Nat} {pr : Nat → Nat} (h : m_Ls g S cc pr) (hp : p < 25) (hg : 0 < g (p / 5) (p % 5)) (hn : ¬ S p) (hS : ∀ x, x < 25 → (S' x ↔ S x ∨ x = p)) : m_Ls g S' (cc + 1) (fun j => if j = cc then p else pr j) := by
  have lo : ∀ j, j < cc → (if j = cc then p else pr j) = pr j := fun j hj => if_neg (by omega)
  have hi : (if cc = cc then p else pr cc) = p := if_pos rfl
  refine ⟨fun j hj => ?_, fun j j' hj hj' e => ?_, fun x hx h1 h2 => ?_⟩
  · dsimp only
    by_cases e : j = cc
    · subst e
      rw [hi]; exact ⟨hp, hg, (hS p hp).mpr (Or.inr rfl)⟩
    · rw [lo j (by omega)]
      have := h.1 j (by omega)
      exact ⟨this.1, this.2.1, (hS _ this.1).mpr (Or.inl this.2.2)⟩
  · dsimp only at e
    by_cases ej : j = cc
    · by_cases ej' : j' = cc
      · omega
      · subst ej
        rw [hi, lo j' (by omega)] at e
        have := (h.1 j' (by omega)).2.2
        rw [← e] at this
        exact absurd this hn
    · by_cases ej' : j' = cc
      · subst ej'
        rw [hi, lo j (by omega)] at e
        have := (h.1 j (by omega)).2.2
        rw [e] at this
        exact absurd this hn
      · rw [lo j (by omega), lo j' (by omega)] at e
        exact h.2.1 j j' (by omega) (by omega) e
  · rcases (hS x hx).mp h2 with h2 | rfl
    · obtain ⟨j, hj, e⟩ := h.2.2 x hx h1 h2
      exact ⟨j, by omega, (lo j hj).trans e⟩
    · exact ⟨cc, by omega, hi⟩
theorem m_Ls_S {g : Nat → Nat → Nat} {S S' : Nat → Prop} {cc : Nat} {pr : Nat → Nat} (h : m_Ls g S cc pr) (hS : ∀ x, x < 25 → 0 < g (x / 5) (x % 5) → (S' x ↔ S x)) : m_Ls g S' cc pr :=
  ⟨fun j hj => ⟨(h.1 j hj).1, (h.1 j hj).2.1, (hS _ (h.1 j hj).1 (h.1 j hj).2.1).mpr (h.1 j hj).2.2⟩, h.2.1, fun p hp h1 h2 => h.2.2 p hp h1 ((hS p hp h1).mp h2)⟩
/-- the couples of a mask -/
def m_E (cc : Nat) (pr : Nat → Nat) (k a b : Nat) : Bool := decide (0 < q_cn (fun j => k.testBit j && decide (pr j = 5 * a + b)) cc)
theorem m_E_iff {cc : Nat} {pr : Nat → Nat} {k a b : Nat} : m_E cc pr k a b = true ↔ ∃ j, j < cc ∧ k.testBit j = true ∧ pr j = 5 * a + b := by
  unfold m_E
  rw [decide_eq_true_eq, q_cn_pos]
  constructor
  · rintro ⟨j, hj, h⟩
    rw [Bool.and_eq_true, decide_eq_true_eq] at h
    exact ⟨j, hj, h⟩
  · rintro ⟨j, hj, h1, h2⟩
    exact ⟨j, hj, by rw [h1, decide_eq_true h2]; rfl⟩
def m_K (cc : Nat) (pr : Nat → Nat) (E : Nat → Nat → Bool) : Nat := q_mk (fun j => E (pr j / 5) (pr j % 5)) cc
section
variable {g : Nat → Nat → Nat} {cc : Nat} {pr : Nat → Nat}
theorem m_E_pr (L : m_Ls g (fun _ => True) cc pr) {k j : Nat} (hj : j < cc) : m_E cc pr k (pr j / 5) (pr j % 5) = k.testBit j := by
  have e : 5 * (pr j / 5) + pr j % 5 = pr j := by omega
  refine q_beq ?_
  rw [m_E_iff, e]
  constructor
  · rintro ⟨j', hj', h1, h2⟩
    have := L.2.1 j' j hj' hj h2
    subst this; exact h1
  · intro h
    exact ⟨j, hj, h, rfl⟩
theorem m_E_K (L : m_Ls g (fun _ => True) cc pr) {E : Nat → Nat → Bool} (hE : ∀ a b, a < 5 → b < 5 → E a b = true → 0 < g a b) {a b : Nat} (ha : a < 5) (hb : b < 5) : m_E cc pr (m_K cc pr E) a b = E a b := by
  refine q_beq ?_
  rw [m_E_iff]
  have e1 : (5 * a + b) / 5 = a := by omega
  have e2 : (5 * a + b) % 5 = b := by omega
  constructor
  · rintro ⟨j, hj, h1, h2⟩
    unfold m_K at h1
    rw [q_mk_bit, h2, e1, e2, Bool.and_eq_true] at h1
    exact h1.2
  · intro h
    obtain ⟨j, hj, e⟩ := L.2.2 (5 * a + b) (by omega) (by rw [e1, e2]; exact hE a b ha hb h) trivial
    refine ⟨j, hj, ?_, e⟩
    unfold m_K
    rw [q_mk_bit, e, e1, e2, decide_eq_true hj, h]; rfl
theorem m_E_pos (L : m_Ls g (fun _ => True) cc pr) {k a b : Nat} (ha : a < 5) (hb : b < 5) (h : m_E cc pr k a b = true) : 0 < g a b := by
  obtain ⟨j, hj, _, e⟩ := m_E_iff.mp h
  have := (L.1 j hj).2.1
  rwa [e, show (5 * a + b) / 5 = a by omega, show (5 * a + b) % 5 = b by omega] at this
/-- one group, by masks -/
theorem m_step (L : m_Ls g (fun _ => True) cc pr) {k grp k' : Nat} (hgr : ∀ j, j < cc → (grp.testBit j = true ↔ g (pr j / 5) (pr j % 5) = 9 - k)) (hk' : k' < 2 ^ cc) : m_F g (k + 1) (m_E cc pr k') ↔ ∃ k0 part, k0 < 2 ^ cc ∧ m_F g k (m_E cc pr k0) ∧ part < 2 ^ cc ∧ (∀ j, j < cc → part.testBit j = true → grp.testBit j = true) ∧ k' = k0 ||| part ∧ m_Co (m_E cc pr k') (fun a b => g a b = 9 - k) := by
  have dv : ∀ j, 5 * (pr j / 5) + pr j % 5 = pr j := fun j => by omega
  have lt5 : ∀ j, j < cc → pr j / 5 < 5 ∧ pr j % 5 < 5 := fun j hj => by
    have := (L.1 j hj).1
    omega
  constructor
  · rintro ⟨E0, f1, f2, f3, f4⟩
    have hE0 : ∀ a b, a < 5 → b < 5 → E0 a b = true → 0 < g a b := fun a b ha hb h => m_E_pos L ha hb (f2 a b ha hb h)
    refine ⟨m_K cc pr E0, q_mk (fun j => k'.testBit j && grp.testBit j) cc, q_mk_lt _ _, m_F_congr (fun a b ha hb => (m_E_K L hE0 ha hb).symm) f1, q_mk_lt _ _, fun j hj h => ?_, ?_, f4⟩
    · rw [q_mk_bit, decide_eq_true hj, Bool.true_and, Bool.and_eq_true] at h; exact h.2
    · have hlt : m_K cc pr E0 ||| q_mk (fun j => k'.testBit j && grp.testBit j) cc < 2 ^ cc := Nat.or_lt_two_pow (q_mk_lt _ _) (q_mk_lt _ _)
      refine (q_mk_self hk').symm.trans ((q_mk_congr fun j hj => ?_).trans (q_mk_self hlt))
      obtain ⟨ha, hb⟩ := lt5 j hj
      rw [Nat.testBit_or]
      unfold m_K
      rw [q_mk_bit, q_mk_bit, decide_eq_true hj, Bool.true_and, Bool.true_and]
      refine q_beq ?_
      rw [Bool.or_eq_true, Bool.and_eq_true, ← m_E_pr L hj, hgr j hj]
      constructor
      · intro h
        rcases f3 _ _ ha hb h with h1 | h1
        · exact Or.inl h1
        · exact Or.inr ⟨h, h1⟩
      · rintro (h | h)
        · exact f2 _ _ ha hb h
        · exact h.1
  · rintro ⟨k0, part, h1, h2, h3, h4, rfl, h5⟩
    refine ⟨m_E cc pr k0, h2, fun a b ha hb h => ?_, fun a b ha hb h => ?_, h5⟩
    · obtain ⟨j, hj, q1, q2⟩ := m_E_iff.mp h
      exact m_E_iff.mpr ⟨j, hj, by rw [Nat.testBit_or, q1]; rfl, q2⟩
    · obtain ⟨j, hj, q1, q2⟩ := m_E_iff.mp h
      rw [Nat.testBit_or, Bool.or_eq_true] at q1
      rcases q1 with q1 | q1
      · exact Or.inl (m_E_iff.mpr ⟨j, hj, q1, q2⟩)
      · refine Or.inr ?_
        have := (hgr j hj).mp (h4 j hj q1)
        rwa [q2, show (5 * a + b) / 5 = a by omega, show (5 * a + b) % 5 = b by omega] at this
theorem m_F_0 (L : m_Ls g (fun _ => True) cc pr) {k : Nat} (hk : k < 2 ^ cc) : m_F g 0 (m_E cc pr k) ↔ k = 0 := by
  constructor
  · intro h
    rw [← q_mk_self hk]
    rw [q_mk_congr (p' := fun _ => false)]
    · have gg : ∀ m, q_mk (fun _ => false) m = 0 := by
        intro m
        induction m with
        | zero => rfl
        | succ m ih => simp [q_mk, ih]
      exact gg cc
    · intro j hj
      have := (L.1 j hj).1
      rw [← m_E_pr L hj]
      exact h _ _ (by omega) (by omega)
  · rintro rfl a b _ _
    cases e : m_E cc pr 0 a b
    · rfl
    · obtain ⟨j, _, h, _⟩ := m_E_iff.mp e
      simp at h
/-- who wins, by masks -/
theorem m_W_iff (L : m_Ls g (fun _ => True) cc pr) {x : Nat} (hx : x < 5) : m_W g x ↔ ∃ k, k < 2 ^ cc ∧ m_F g 9 (m_E cc pr k) ∧ ∀ j, j < cc → k.testBit j = true → pr j % 5 ≠ x := by
  constructor
  · rintro ⟨E, h1, h2⟩
    have hE : ∀ a b, a < 5 → b < 5 → E a b = true → 0 < g a b := fun a b ha hb h => by
      have := m_F_g 9 (by decide) E h1 a b ha hb h
      omega
    refine ⟨m_K cc pr E, q_mk_lt _ _, m_F_congr (fun a b ha hb => (m_E_K L hE ha hb).symm) h1, fun j hj hb e => ?_⟩
    unfold m_K at hb
    rw [q_mk_bit, decide_eq_true hj, Bool.true_and, e] at hb
    have := (L.1 j hj).1
    rw [h2 (pr j / 5) (by omega)] at hb
    exact absurd hb (by decide)
  · rintro ⟨k, h1, h2, h3⟩
    refine ⟨_, h2, fun a ha => ?_⟩
    cases e : m_E cc pr k a x
    · rfl
    · obtain ⟨j, hj, q1, q2⟩ := m_E_iff.mp e
      exact absurd (by rw [q2]; omega) (h3 j hj q1)
end
/-- an array of booleans -/
def m_A (x : Nat → Int32) (P : Nat → Prop) : Prop := ∀ k, k < 1024 → (x k = nI 1 ∧ P k) ∨ (x k = nI 0 ∧ ¬ P k)
theorem m_A_congr {x : Nat → Int32} {P P' : Nat → Prop} (h : m_A x P) (e : ∀ k, k < 1024 → (P k ↔ P' k)) : m_A x P' := by
  intro k hk
  rcases h k hk with ⟨h1, h2⟩ | ⟨h1, h2⟩
  · exact Or.inl ⟨h1, (e k hk).mp h2⟩
  · exact Or.inr ⟨h1, fun z => h2 ((e k hk).mpr z)⟩
theorem m_A_set {x : Nat → Int32} {P : Nat → Prop} {k0 : Nat} (h : m_A x P) : m_A (upd x k0 (nI 1)) (fun k => P k ∨ k = k0) := by
  intro k hk
  by_cases e : k = k0
  · exact Or.inl ⟨by rw [e]; exact pk_us, Or.inr e⟩
  · rw [pk_un e]
    rcases h k hk with ⟨h1, h2⟩ | ⟨h1, h2⟩
    · exact Or.inl ⟨h1, Or.inl h2⟩
    · exact Or.inr ⟨h1, fun z => z.elim h2 e⟩
theorem m_A_br {x : Nat → Int32} {P : Nat → Prop} {k : Nat} {A B : Prop} (h : m_A x P) (hk : k < 1024) (f : ¬ P k → A) (g : P k → B) : (x k = 0 → A) ∧ (¬ x k = 0 → B) := by
  rcases h k hk with ⟨h1, h2⟩ | ⟨h1, h2⟩
  · rw [h1]; exact br_f (by decide) (g h2)
  · rw [h1]; exact br_t rfl (f h2)
end
section
/-- the couples listed so far, with falling margins -/
def m_I (g : Nat → Nat → Nat) (S : Nat → Prop) (q : Int32) (xA xB : Nat → Int32) : Prop := ∃ cc pr, q = nI cc ∧ m_Ls g S cc pr ∧ (∀ j j', j < j' → j' < cc → g (pr j' / 5) (pr j' % 5) ≤ g (pr j / 5) (pr j % 5)) ∧ ∀ j, j < cc → xA j = nI (pr j / 5) ∧ xB j = nI (pr j % 5)
def m_S (g : Nat → Nat → Nat) (M t : Nat) (p : Nat) : Prop := M < g (p / 5) (p % 5) ∨ (g (p / 5) (p % 5) = M ∧ p < t)
theorem e_g_anti {n : Nat} {d : Nat → Nat} {a b : Nat} (h : 0 < e_g n d a b) : e_g n d b a = 0 := by
  unfold e_g at h ⊢
  rw [e_m_neg]; omega
theorem e_g_z {n : Nat} {d : Nat → Nat} {a b : Nat} (h : 0 < e_g n d a b) : zI (e_m n d a b) = nI (e_g n d a b) := by
  unfold e_g at h ⊢
  rw [← zI_nat]
  exact congrArg zI (by omega)
theorem m_I_S {g : Nat → Nat → Nat} {S S' : Nat → Prop} {q : Int32} {xA xB : Nat → Int32} (h : m_I g S q xA xB) (hS : ∀ x, x < 25 → 0 < g (x / 5) (x % 5) → (S' x ↔ S x)) : m_I g S' q xA xB := by
  obtain ⟨cc, pr, h1, h2, h3, h4⟩ := h
  exact ⟨cc, pr, h1, m_Ls_S h2 hS, h3, h4⟩
section
variable {xc xk xq : Int32} {xo xr xp xm xb xs xl xt xe xA xB xf xg xL xO xC xN : Nat → Int32}
theorem x_lC_21 {post : SX → Prop} {J8 J14 : Int32 → Int32 → Int32 → Int32 → (Nat → Int32) → (Nat → Int32) → (Nat → Int32) → (Nat → Int32) → (Nat → Int32) → (Nat → Int32) → (Nat → Int32) → (Nat → Int32) → (Nat → Int32) → (Nat → Int32) → (Nat → Int32) → (Nat → Int32) → (Nat → Int32) → (Nat → Int32) → (Nat → Int32) → (Nat → Int32) → (Nat → Int32) → Prop} {n M a : Nat} {d : Nat → Nat} (hn : n ≤ 9) (hm : ∀ a b, a < 5 → b < 5 → xm (5 * a + b) = zI (e_m n d a b)) (hM : 1 ≤ M ∧ M ≤ 9) (ha : a < 5) (hI : m_I (e_g n d) (m_S (e_g n d) M (5 * a)) xq xA xB)
    (H : ∀ xq' xA' xB', m_I (e_g n d) (m_S (e_g n d) M (5 * (a + 1))) xq' xA' xB' → J14 (nI (a + 1)) xc xk xq' xo xr xp xm xb xs xl xt xe xA' xB' xf xg xL xO xC xN) : ∃ m, wX_listCouples_21 post J8 J14 (nI M) (nI a) m 0 xc xk xq xo xr xp xm xb xs xl xt xe xA xB xf xg xL xO xC xN := by
  refine loop_0 (fun m b (s : Int32 × (Nat → Int32) × (Nat → Int32)) => wX_listCouples_21 post J8 J14 (nI M) (nI a) m (nI b) xc xk s.1 xo xr xp xm xb xs xl xt xe s.2.1 s.2.2 xf xg xL xO xC xN) (fun b s => m_I (e_g n d) (m_S (e_g n d) M (5 * a + b)) s.1 s.2.1 s.2.2) 5 (xq, xA, xB) hI ?_ ?_
  · rintro m ⟨q, A, B⟩ h
    exact br_t (Int32.le_refl _) (nm_r (nI_1 a) (H q A B h))
  · rintro m b ⟨q, A, B⟩ hb h K
    dsimp only at h K ⊢
    have r := e_m_r hn d a b
    have em : xm ((5 : Int32) * nI a + nI b).toNatClampNeg = zI (e_m n d a b) := by rw [bi_ic (by omega) (by omega), hm a b ha hb]
    have e1 : (5 * a + b) / 5 = a := by omega
    have e2 : (5 * a + b) % 5 = b := by omega
    refine br_f (nI_ge (b := 5) hb (by decide)) ⟨bi_in (m := 5) ha hb (by decide) (by decide), ?_⟩
    rw [em]
    refine zb_eq (e_m n d a b) (M : Int) (fun e => ?_) (fun e => nm_r (nI_1 b) (K (q, A, B) (m_I_S h fun x hx hg => ?_))) (by omega) (by omega) rfl (zI_nat M).symm
    · have eg : e_g n d a b = M := by unfold e_g; omega
      obtain ⟨cc, pr, rfl, h2, h3, h4⟩ := h
      have hp := m_Ls_push (S' := m_S (e_g n d) M (5 * a + (b + 1))) (p := 5 * a + b) h2 (by omega) (by rw [e1, e2]; omega) (by unfold m_S; rw [e1, e2]; omega) (fun x hx => by
        unfold m_S
        constructor
        · rintro (z | ⟨z1, z2⟩)
          · exact Or.inl (Or.inl z)
          · by_cases ex : x = 5 * a + b
            · exact Or.inr ex
            · exact Or.inl (Or.inr ⟨z1, by omega⟩)
        · rintro ((z | ⟨z1, z2⟩) | rfl)
          · exact Or.inl z
          · exact Or.inr ⟨z1, by omega⟩
          · exact Or.inr ⟨by rw [e1, e2]; exact eg, by omega⟩)
      have h10 := m_Ls_10 (fun a => e_g_0 n d a) (fun a b => e_g_anti) hp
      refine ⟨vp_in_nI (by omega) (by decide), nm_r (e' := upd A cc (nI a)) (by rw [nI_clamp (by omega), bv_b2 (by omega)]) ⟨vp_in_nI (by omega) (by decide), nm_r (e' := upd B cc (nI b)) (by rw [nI_clamp (by omega), bv_b2 (by omega)]) (nm_r (nI_1 cc) (nm_r (nI_1 b) (K (nI (cc + 1), upd A cc (nI a), upd B cc (nI b)) ⟨cc + 1, _, rfl, hp, ?_, ?_⟩)))⟩⟩
      · intro j j' hjj hj'
        rw [if_neg (show ¬ j = cc by omega)]
        by_cases ej : j' = cc
        · rw [if_pos ej, e1, e2, eg]
          have := (h2.1 j (by omega)).2.2
          unfold m_S at this
          omega
        · rw [if_neg ej]
          exact h3 j j' hjj (by omega)
      · intro j hj
        show upd A cc (nI a) j = nI ((if j = cc then 5 * a + b else pr j) / 5) ∧ upd B cc (nI b) j = nI ((if j = cc then 5 * a + b else pr j) % 5)
        by_cases ej : j = cc
        · subst ej
          rw [if_pos rfl, pk_us, pk_us, e1, e2]
          exact ⟨rfl, rfl⟩
        · rw [if_neg ej, pk_un ej, pk_un ej]
          exact h4 j (by omega)
    · unfold m_S
      by_cases ex : x = 5 * a + b
      · subst ex
        rw [e1, e2]
        rw [e1, e2] at hg
        have : e_g n d a b ≠ M := by unfold e_g at hg ⊢; omega
        omega
      · omega
theorem x_lC {post : SX → Prop} {n : Nat} {d : Nat → Nat} (hn : n ≤ 9) (hm : ∀ a b, a < 5 → b < 5 → xm (5 * a + b) = zI (e_m n d a b))
    (H : ∀ cc pr xA' xB', m_Ls (e_g n d) (fun _ => True) cc pr → (∀ j j', j < j' → j' < cc → e_g n d (pr j' / 5) (pr j' % 5) ≤ e_g n d (pr j / 5) (pr j % 5)) → (∀ j, j < cc → xA' j = nI (pr j / 5) ∧ xB' j = nI (pr j % 5)) → post (xc, xk, nI cc, xo, xr, xp, xm, xb, xs, xl, xt, xe, xA', xB', xf, xg, xL, xO, xC, xN)) : wpX_listCouples post (xc, xk, xq, xo, xr, xp, xm, xb, xs, xl, xt, xe, xA, xB, xf, xg, xL, xO, xC, xN) := by
  refine ⟨10, ?_⟩
  refine pk_loopD (fun m e (s : Int32 × (Nat → Int32) × (Nat → Int32)) => wX_listCouples_8 post m (nI e) xc xk s.1 xo xr xp xm xb xs xl xt xe s.2.1 s.2.2 xf xg xL xO xC xN) (fun e s => e ≤ 9 ∧ m_I (e_g n d) (m_S (e_g n d) e 0) s.1 s.2.1 s.2.2) ?_ ?_ 9 (0, xA, xB) ⟨by decide, 0, fun _ => 0, rfl, ⟨fun j hj => by omega, fun j j' hj => by omega, fun p hp h1 h2 => ?_⟩, fun j j' _ h => by omega, fun j hj => by omega⟩
  · rintro m ⟨q, A, B⟩ ⟨_, h⟩
    dsimp only at h ⊢
    refine br_t (Int32.le_refl _) ?_
    obtain ⟨cc, pr, rfl, h2, h3, h4⟩ := h
    exact H cc pr A B (m_Ls_S h2 fun x hx hg => ⟨fun _ => Or.inl hg, fun _ => trivial⟩) h3 h4
  · rintro m e ⟨q, A, B⟩ ⟨he, h⟩ K
    dsimp only at h K ⊢
    refine br_f (nI_nle (by omega) (by omega)) ?_
    refine loop_0 (fun m' a (s : Int32 × (Nat → Int32) × (Nat → Int32)) => wX_listCouples_14 post (wX_listCouples_8 post m) (nI (e + 1)) m' (nI a) xc xk s.1 xo xr xp xm xb xs xl xt xe s.2.1 s.2.2 xf xg xL xO xC xN) (fun a s => m_I (e_g n d) (m_S (e_g n d) (e + 1) (5 * a)) s.1 s.2.1 s.2.2) 5 (q, A, B) h ?_ ?_
    · rintro m' ⟨q, A, B⟩ h
      refine br_t (Int32.le_refl _) (nm_r (pk_m1 e) (K (q, A, B) ⟨by omega, m_I_S h fun x hx _ => ?_⟩))
      unfold m_S
      omega
    · rintro m' a ⟨q, A, B⟩ ha h K'
      dsimp only at h K' ⊢
      exact br_f (nI_ge (b := 5) ha (by decide)) (x_lC_21 hn hm ⟨by omega, he⟩ ha h fun q' A' B' h' => K' (q', A', B') h')
  · unfold m_S at h2
    have := e_g_9 hn d (p / 5) (p % 5)
    omega
end
end
section
theorem bi_set (p : Nat → Bool) {b : Nat} (hb : b < 5) : nI (q_mk p 5) ||| ((1 : Int32) <<< (nI b &&& 31)) = nI (q_mk (fun x => p x || decide (x = b)) 5) := by
  rw [bi_shl (by omega), bi_or]
  apply congrArg nI
  apply q_mk_eq (n := 5) (Nat.or_lt_two_pow (q_mk_lt p 5) (Nat.pow_lt_pow_right (by decide) hb))
  intro i hi
  rw [Nat.testBit_or, q_mk_bit, Nat.testBit_two_pow]
  have : decide (b = i) = decide (i = b) := by rw [decide_eq_decide]; exact eq_comm
  rw [this]; simp [hi]
theorem m_E_s {cc : Nat} {pr : Nat → Nat} {k a b : Nat} : m_E (cc + 1) pr k a b = (m_E cc pr k a b || (k.testBit cc && decide (pr cc = 5 * a + b))) := by
  refine q_beq ?_
  rw [Bool.or_eq_true, m_E_iff, m_E_iff]
  constructor
  · rintro ⟨j, hj, h1, h2⟩
    by_cases e : j = cc
    · subst e
      exact Or.inr (by rw [h1, decide_eq_true h2]; rfl)
    · exact Or.inl ⟨j, by omega, h1, h2⟩
  · rintro (⟨j, hj, h⟩ | h)
    · exact ⟨j, by omega, h⟩
    · rw [Bool.and_eq_true, decide_eq_true_eq] at h
      exact ⟨cc, by omega, h⟩
theorem m_p10 {cc : Nat} (h : cc ≤ 10) : 2 ^ cc ≤ 1024 := Nat.pow_le_pow_right (n := 2) (j := 10) (by decide) h
section
variable {xc xk xq : Int32} {xo xr xp xm xb xs xl xt xe xA xB xf xg xL xO xC xN : Nat → Int32}
theorem x_fR {post : SX → Prop} {cc k : Nat} {pr : Nat → Nat} (hcc : cc ≤ 10) (hk : k < 1024) (hpr : ∀ j, j < cc → pr j < 25) (hAB : ∀ j, j < cc → xA j = nI (pr j / 5) ∧ xB j = nI (pr j % 5)) (H : ∀ xe', (∀ a, a < 5 → xe' a = nI (q_mk (r_C (m_E cc pr k) 5 a) 5)) → post (xc, xk, nI cc, xo, xr, xp, xm, xb, xs, xl, xt, xe', xA, xB, xf, xg, xL, xO, xC, xN)) : wpX_findReaches post (xc, xk, nI cc, xo, xr, xp, xm, xb, xs, xl, xt, xe, xA, xB, xf, xg, xL, xO, xC, xN) (nI k) := by
  refine loop_0 (fun m a (x : Nat → Int32) => wX_findReaches_2 post (nI k) xc xk (nI cc) m (nI a) xo xr xp xm xb xs xl xt x xA xB xf xg xL xO xC xN) (fun a x => ∀ a', a' < a → x a' = nI 0) 5 xe (fun a' h => by omega) ?_ ?_
  · intro m x h
    refine br_t (Int32.le_refl _) ?_
    refine loop_0 (fun m j (x : Nat → Int32) => wX_findReaches_22 post (nI k) xc xk (nI cc) m (nI j) xo xr xp xm xb xs xl xt x xA xB xf xg xL xO xC xN) (fun j x => ∀ a, a < 5 → x a = nI (q_mk (m_E j pr k a) 5)) cc x (fun a ha => by
      rw [h a ha]
      rfl) ?_ ?_
    · intro m x h
      exact br_t (Int32.le_refl _) (x_cR h fun x' h' => H x' h')
    · intro m j x hj h K
      have hp := hpr j hj
      have hA := (hAB j hj).1
      have hB := (hAB j hj).2
      have la : pr j / 5 < 5 := by omega
      have lb : pr j % 5 < 5 := by omega
      have ls := q_mk5 (fun x => m_E j pr k (pr j / 5) x || decide (x = pr j % 5))
      refine br_f (nI_ge hj (by omega)) (bi_0 k j (by omega) (by omega) (fun hb => nm_r (nI_1 j) (K _ fun a ha => ?_)) (fun hb => ?_))
      · rw [h a ha]
        refine congrArg nI (q_mk_congr fun b _ => ?_)
        rw [m_E_s, hb]; simp
      · rw [nI_clamp (by omega), hA, hB, nI_clamp (by omega), h _ la, bi_set _ lb, bv_b2 (by omega)]
        refine ⟨vp_in_nI (by omega) (by decide), vp_in_nI la (by decide), vp_in_nI (by omega) (by decide), vp_in_nI la (by decide), nm_r rfl (nm_r (nI_1 j) (K _ fun a ha => ?_))⟩
        by_cases e : a = pr j / 5
        · subst e
          rw [pk_us]
          refine congrArg nI (q_mk_congr fun b hb5 => ?_)
          rw [m_E_s, hb, Bool.true_and]
          refine congrArg (fun z => m_E j pr k (pr j / 5) b || z) ?_
          rw [decide_eq_decide]; omega
        · rw [pk_un e, h a ha]
          refine congrArg nI (q_mk_congr fun b hb5 => ?_)
          rw [m_E_s, decide_eq_false (show ¬ pr j = 5 * a + b by omega)]; simp
  · intro m a x ha h K
    refine br_f (nI_ge (b := 5) ha (by decide)) ⟨vp_in_nI ha (by decide), nm_r (e' := upd x a (nI 0)) (by rw [nI_clamp (by omega), bv_b0]; rfl) (nm_r (nI_1 a) (K _ fun j hj => ?_))⟩
    by_cases e : j = a
    · subst e; exact pk_us
    · exact (pk_un e).trans (h j (by omega))
theorem x_iC {post : Int32 → SX → Prop} {g : Nat → Nat → Nat} {cc k grp M : Nat} {pr : Nat → Nat} (hcc : cc ≤ 10) (L : m_Ls g (fun _ => True) cc pr) (hM : 0 < M) (hk : k < 1024) (hg : grp < 1024) (hgr : ∀ j, j < cc → (grp.testBit j = true ↔ g (pr j / 5) (pr j % 5) = M)) (hAB : ∀ j, j < cc → xA j = nI (pr j / 5) ∧ xB j = nI (pr j % 5))
    (H1 : m_Co (m_E cc pr k) (fun a b => g a b = M) → ∀ xe', post 1 (xc, xk, nI cc, xo, xr, xp, xm, xb, xs, xl, xt, xe', xA, xB, xf, xg, xL, xO, xC, xN)) (H0 : ¬ m_Co (m_E cc pr k) (fun a b => g a b = M) → ∀ xe', post 0 (xc, xk, nI cc, xo, xr, xp, xm, xb, xs, xl, xt, xe', xA, xB, xf, xg, xL, xO, xC, xN)) : wpX_isComplete post (xc, xk, nI cc, xo, xr, xp, xm, xb, xs, xl, xt, xe, xA, xB, xf, xg, xL, xO, xC, xN) (nI k) (nI grp) := by
  unfold wpX_isComplete
  refine x_fR hcc hk (fun j hj => (L.1 j hj).1) hAB fun x hx => ?_
  refine loop_0 (fun m a (_ : Unit) => wX_isComplete_7 post (nI k) (nI grp) xc xk (nI cc) xo xr xp xm xb xs xl xt x xA xB xf xg xL xO xC xN m (nI a)) (fun a _ => ∀ a', a' < a → r_C (m_E cc pr k) 5 a' a' = false) 5 () (fun a' h => by omega) ?_ ?_
  · rintro m _ hac
    refine br_t (Int32.le_refl _) ?_
    refine loop_0 (fun m j (_ : Unit) => wX_isComplete_36 post (nI k) (nI grp) xc xk (nI cc) xo xr xp xm xb xs xl xt x xA xB xf xg xL xO xC xN m (nI j)) (fun j _ => ∀ j', j' < j → grp.testBit j' = true → k.testBit j' = false → r_C (m_E cc pr k) 5 (pr j' % 5) (pr j' / 5) = true) cc () (fun j' h => by omega) ?_ ?_
    · rintro m _ h
      refine br_t (Int32.le_refl _) (H1 ⟨hac, fun a b ha hb h1 h2 => ?_⟩ x)
      have e1 : (5 * a + b) / 5 = a := by omega
      have e2 : (5 * a + b) % 5 = b := by omega
      obtain ⟨j, hj, e⟩ := L.2.2 (5 * a + b) (by omega) (by rw [e1, e2]; omega) trivial
      have := h j hj ((hgr j hj).mpr (by rw [e, e1, e2]; exact h1)) (by rw [← m_E_pr L hj, e, e1, e2]; exact h2)
      rwa [e, e1, e2] at this
    · rintro m j _ hj h K
      have hp := (L.1 j hj).1
      have hA := (hAB j hj).1
      have hB := (hAB j hj).2
      have la : pr j / 5 < 5 := by omega
      have lb : pr j % 5 < 5 := by omega
      have lr := q_mk5 (r_C (m_E cc pr k) 5 (pr j % 5))
      have nx : (grp.testBit j = true → k.testBit j = false → r_C (m_E cc pr k) 5 (pr j % 5) (pr j / 5) = true) → ∀ j', j' < j + 1 → grp.testBit j' = true → k.testBit j' = false → r_C (m_E cc pr k) 5 (pr j' % 5) (pr j' / 5) = true := by
        intro z j' hj' q1 q2
        by_cases e : j' = j
        · subst e; exact z q1 q2
        · exact h j' (by omega) q1 q2
      refine br_f (nI_ge hj (by omega)) (bi_0 grp j (by omega) (by omega) (fun hb => ?_) (fun hb => bi_0 k j (by omega) (by omega) (fun hb2 => ?_) (fun hb2 => ?_)))
      · exact br_t rfl (nm_r (nI_1 j) (K () (nx fun z => by rw [hb] at z; exact absurd z (by decide))))
      · unfold wX_isComplete_65
        rw [nI_clamp (by omega), hA, hB, nI_clamp (by omega), hx _ lb]
        refine br_f (by decide) ⟨vp_in_nI (by omega) (by decide), vp_in_nI lb (by decide), vp_in_nI (by omega) (by decide), x_isIn (by omega) (by omega) (fun h3 => H0 (fun co => ?_) x) (fun h3 => nm_r (nI_1 j) (K () (nx fun _ _ => ?_)))⟩
        · rw [q_mk5_bit _ la] at h3
          have := co.2 (pr j / 5) (pr j % 5) la lb ((hgr j hj).mp hb) (by rw [m_E_pr L hj]; exact hb2)
          rw [h3] at this
          exact absurd this (by decide)
        · rw [q_mk5_bit _ la] at h3; exact h3
      · exact br_t rfl (nm_r (nI_1 j) (K () (nx fun _ z => by rw [hb2] at z; exact absurd z (by decide))))
  · rintro m a _ ha h K
    have lr := q_mk5 (r_C (m_E cc pr k) 5 a)
    refine br_f (nI_ge (b := 5) ha (by decide)) ⟨vp_in_nI ha (by decide), ?_⟩
    rw [nI_clamp (by omega), hx a ha]
    refine x_isIn (by omega) (by omega) (fun h3 => nm_r (nI_1 a) (K () fun a' ha' => ?_)) (fun h3 => H0 (fun co => ?_) x)
    · rw [q_mk5_bit _ ha] at h3
      by_cases e : a' = a
      · subst e; exact h3
      · exact h a' (by omega)
    · rw [q_mk5_bit _ ha, co.1 a ha] at h3
      exact absurd h3 (by decide)
/-- all parts of a group, the greater ones first -/
theorem x_ex_lp {post : SX → Prop} {g : Nat → Nat → Nat} {cc k0 grp M : Nat} {pr : Nat → Nat} {P0 : Nat → Prop} (hcc : cc ≤ 10) (L : m_Ls g (fun _ => True) cc pr) (hM : 0 < M) (hk : k0 < 1024) (hg : grp < 1024) (hgr : ∀ j, j < cc → (grp.testBit j = true ↔ g (pr j / 5) (pr j % 5) = M)) (hAB : ∀ j, j < cc → xA j = nI (pr j / 5) ∧ xB j = nI (pr j % 5))
    (H : ∀ xe' xg', m_A xg' (fun k => P0 k ∨ ∃ q, q &&& grp = q ∧ k = k0 ||| q ∧ m_Co (m_E cc pr k) (fun a b => g a b = M)) → post (xc, xk, nI cc, xo, xr, xp, xm, xb, xs, xl, xt, xe', xA, xB, xf, xg', xL, xO, xC, xN)) : ∀ p : Nat, ∀ (xe xg : Nat → Int32) (m : Nat), p &&& grp = p → p + 1 < m → m_A xg (fun k => P0 k ∨ ∃ q, p < q ∧ q &&& grp = q ∧ k = k0 ||| q ∧ m_Co (m_E cc pr k) (fun a b => g a b = M)) → wX_extend_5 post (nI k0) (nI grp) m (nI p) 1 xc xk (nI cc) xo xr xp xm xb xs xl xt xe xA xB xf xg xL xO xC xN := by
  intro p
  induction p using Nat.strongRecOn with
  | ind p ih =>
    intro xe xg m hp hm hA
    obtain ⟨m, rfl⟩ : ∃ m', m = m' + 1 := ⟨m - 1, by omega⟩
    have hpl : p < 1024 := by
      rw [← hp]; exact Nat.lt_of_le_of_lt Nat.and_le_right hg
    have hor : k0 ||| p < 1024 := Nat.or_lt_two_pow (n := 10) hk hpl
    have nx : ∀ xe' xg' : Nat → Int32, m_A xg' (fun k => P0 k ∨ ∃ q, p ≤ q ∧ q &&& grp = q ∧ k = k0 ||| q ∧ m_Co (m_E cc pr k) (fun a b => g a b = M)) → wX_extend_30 post (wX_extend_5 post (nI k0) (nI grp) m) (nI k0) (nI grp) (nI p) xc xk (nI cc) xo xr xp xm xb xs xl xt xe' xA xB xf xg' xL xO xC xN := by
      intro xe' xg' hA'
      refine pk_eq p 0 (fun e => ?_) (fun e => ?_)
      · subst e
        obtain ⟨m, rfl⟩ : ∃ m', m = m' + 1 := ⟨m - 1, by omega⟩
        refine nm_e (br_t rfl (H xe' xg' (m_A_congr hA' fun k _ => ?_)))
        constructor
        · rintro (z | ⟨q, _, z⟩)
          · exact Or.inl z
          · exact Or.inr ⟨q, z⟩
        · rintro (z | ⟨q, z⟩)
          · exact Or.inl z
          · exact Or.inr ⟨q, Nat.zero_le _, z⟩
      · have hlt : (p - 1) &&& grp < p := Nat.lt_of_le_of_lt Nat.and_le_left (by omega)
        refine nm_r (e' := nI ((p - 1) &&& grp)) (by rw [bi_m1 (by omega), nx_and]) (ih _ hlt xe' xg' m ?_ (by omega) (m_A_congr hA' fun k _ => ?_))
        · rw [Nat.and_assoc, Nat.and_self]
        · constructor
          · rintro (z | ⟨q, z1, z2, z3⟩)
            · exact Or.inl z
            · exact Or.inr ⟨q, by omega, z2, z3⟩
          · rintro (z | ⟨q, z1, z2, z3⟩)
            · exact Or.inl z
            · refine Or.inr ⟨q, Nat.le_of_not_lt fun hq => ?_, z2, z3⟩
              have := m_sub p q grp z2 hp hq
              omega
    refine br_f (by decide) ?_
    rw [bi_or]
    refine x_iC hcc L hM hor hg hgr hAB (fun co xe' => br_f (by decide) ⟨vp_in_nI hor (by decide), nm_r (e' := upd xg (k0 ||| p) (nI 1)) (by rw [nI_clamp (by omega), bv_t1]) (nx xe' _ (m_A_congr (m_A_set hA) fun k _ => ?_))⟩) (fun co xe' => br_t rfl (nx xe' _ (m_A_congr hA fun k _ => ?_)))
    · constructor
      · rintro ((z | ⟨q, z1, z2⟩) | rfl)
        · exact Or.inl z
        · exact Or.inr ⟨q, by omega, z2⟩
        · exact Or.inr ⟨p, Nat.le_refl p, hp, rfl, co⟩
      · rintro (z | ⟨q, z1, z2, z3, z4⟩)
        · exact Or.inl (Or.inl z)
        · by_cases e : q = p
          · subst e; exact Or.inr z3
          · exact Or.inl (Or.inr ⟨q, by omega, z2, z3, z4⟩)
    · constructor
      · rintro (z | ⟨q, z1, z2⟩)
        · exact Or.inl z
        · exact Or.inr ⟨q, by omega, z2⟩
      · rintro (z | ⟨q, z1, z2, z3, z4⟩)
        · exact Or.inl z
        · by_cases e : q = p
          · subst e
            rw [z3] at z4; exact absurd z4 co
          · exact Or.inr ⟨q, by omega, z2, z3, z4⟩
theorem x_aG {post : SX → Prop} {g : Nat → Nat → Nat} {cc fst grp M : Nat} {pr : Nat → Nat} {P : Nat → Prop} (hcc : cc ≤ 10) (hf : fst ≤ 10) (L : m_Ls g (fun _ => True) cc pr) (hM : 0 < M) (hg : grp < 1024) (hgr : ∀ j, j < cc → (grp.testBit j = true ↔ g (pr j / 5) (pr j % 5) = M)) (hAB : ∀ j, j < cc → xA j = nI (pr j / 5) ∧ xB j = nI (pr j % 5)) (hP : m_A xf P)
    (H : ∀ xe' xf' xg', m_A xf' (fun k => ∃ k0 q, k0 < 2 ^ fst ∧ P k0 ∧ q &&& grp = q ∧ k = k0 ||| q ∧ m_Co (m_E cc pr k) (fun a b => g a b = M)) → post (xc, xk, nI cc, xo, xr, xp, xm, xb, xs, xl, xt, xe', xA, xB, xf', xg', xL, xO, xC, xN)) : wpX_addGroup post (xc, xk, nI cc, xo, xr, xp, xm, xb, xs, xl, xt, xe, xA, xB, xf, xg, xL, xO, xC, xN) (nI fst) (nI grp) := by
  have h2 := m_p10 hf
  refine loop_0 (fun m k (x : Nat → Int32) => wX_addGroup_2 post (nI fst) (nI grp) xc xk (nI cc) m (nI k) xo xr xp xm xb xs xl xt xe xA xB xf x xL xO xC xN) (fun k x => ∀ j, j < k → x j = nI 0) 1024 xg (fun j h => by omega) ?_ ?_
  · intro m x h
    refine br_t (Int32.le_refl _) ?_
    refine loop_0 (fun m k (s : (Nat → Int32) × (Nat → Int32)) => wX_addGroup_24 post (nI fst) (nI grp) m (nI k) xc xk (nI cc) xo xr xp xm xb xs xl xt s.1 xA xB xf s.2 xL xO xC xN) (fun k s => m_A s.2 (fun k' => ∃ k0 q, k0 < k ∧ P k0 ∧ q &&& grp = q ∧ k' = k0 ||| q ∧ m_Co (m_E cc pr k') (fun a b => g a b = M))) (2 ^ fst) (xe, x) (fun k hk => Or.inr ⟨h k hk, fun ⟨_, _, z, _⟩ => by omega⟩) ?_ ?_
    · rintro m ⟨xe', xg'⟩ hA
      dsimp only at hA ⊢
      refine br_t (by rw [bi_shl (by omega)]; exact Int32.le_refl _) ?_
      refine loop_0 (fun m k (y : Nat → Int32) => wX_addGroup_54 post xc xk (nI cc) m (nI k) xo xr xp xm xb xs xl xt xe' xA xB y xg' xL xO xC xN) (fun k y => ∀ j, j < k → y j = xg' j) 1024 xf (fun j h => by omega) ?_ ?_
      · intro m y hy
        refine br_t (Int32.le_refl _) (H xe' y xg' ?_)
        intro k hk
        rw [hy k hk]; exact hA k hk
      · intro m k y hk hy K
        refine br_f (nI_ge (b := 1024) hk (by decide)) ⟨vp_in_nI hk (by decide), vp_in_nI hk (by decide), nm_r (e' := upd y k (xg' k)) ?_ (nm_r (nI_1 k) (K _ fun j hj => ?_))⟩
        · rw [nI_clamp (by omega)]
          rcases hA k hk with ⟨h1, _⟩ | ⟨h1, _⟩
          · rw [h1]; rfl
          · rw [h1]; rfl
        · by_cases e : j = k
          · subst e; exact pk_us
          · exact (pk_un e).trans (hy j (by omega))
    · rintro m k ⟨xe', xg'⟩ hk hA K
      dsimp only at hA K ⊢
      refine br_f (by rw [bi_shl (by omega)]; exact nI_ge hk (by omega)) ⟨vp_in_nI (by omega) (by decide), ?_⟩
      rw [nI_clamp (by omega)]
      refine m_A_br hP (by omega) (fun hn => nm_r (nI_1 k) (K (xe', xg') (m_A_congr hA fun k' _ => ?_))) (fun hp => ?_)
      · constructor
        · rintro ⟨k0, q, z1, z2⟩
          exact ⟨k0, q, by omega, z2⟩
        · rintro ⟨k0, q, z1, z2, z3⟩
          by_cases e : k0 = k
          · subst e; exact absurd z2 hn
          · exact ⟨k0, q, by omega, z2, z3⟩
      · refine ⟨grp + 2, x_ex_lp (P0 := fun k' => ∃ k0 q, k0 < k ∧ P k0 ∧ q &&& grp = q ∧ k' = k0 ||| q ∧ m_Co (m_E cc pr k') (fun a b => g a b = M)) hcc L hM (by omega) hg hgr hAB (fun xe'' xg'' hA'' => nm_r (nI_1 k) (K (xe'', xg'') (m_A_congr hA'' fun k' _ => ?_))) grp xe' xg' (grp + 2) (Nat.and_self _) (by omega) (m_A_congr hA fun k' _ => ?_)⟩
        · constructor
          · rintro (⟨k0, q, z1, z2⟩ | ⟨q, z⟩)
            · exact ⟨k0, q, by omega, z2⟩
            · exact ⟨k, q, by omega, hp, z⟩
          · rintro ⟨k0, q, z1, z2, z3⟩
            by_cases e : k0 = k
            · subst e; exact Or.inr ⟨q, z3⟩
            · exact Or.inl ⟨k0, q, by omega, z2, z3⟩
        · constructor
          · exact Or.inl
          · rintro (z | ⟨q, z1, z2, _⟩)
            · exact z
            · have : q ≤ grp := by rw [← z2]; exact Nat.and_le_right
              omega
  · intro m k x hk h K
    refine br_f (nI_ge (b := 1024) hk (by decide)) ⟨vp_in_nI hk (by decide), nm_r (e' := upd x k (nI 0)) (by rw [nI_clamp (by omega), bv_t0]) (nm_r (nI_1 k) (K _ fun j hj => ?_))⟩
    by_cases e : j = k
    · subst e; exact pk_us
    · exact (pk_un e).trans (h j (by omega))
end
end
section
def m_ub (cc : Nat) (pr : Nat → Nat) (k x : Nat) : Bool := decide (q_cn (fun j => k.testBit j && decide (pr j % 5 = x)) cc = 0)
theorem m_ub_iff {cc : Nat} {pr : Nat → Nat} {k x : Nat} : m_ub cc pr k x = true ↔ ∀ j, j < cc → k.testBit j = true → pr j % 5 ≠ x := by
  unfold m_ub
  rw [decide_eq_true_eq, q_cn_zero]
  constructor
  · intro h j hj h1 h2
    have := h j hj
    rw [h1, decide_eq_true h2] at this
    exact absurd this (by decide)
  · intro h j hj
    cases h1 : k.testBit j
    · rfl
    · rw [Bool.true_and, decide_eq_false (h j hj h1)]
theorem m_ub_s {cc : Nat} {pr : Nat → Nat} {k x : Nat} : m_ub (cc + 1) pr k x = (m_ub cc pr k x && !(k.testBit cc && decide (pr cc % 5 = x))) := by
  refine q_beq ?_
  rw [Bool.and_eq_true, m_ub_iff, m_ub_iff, Bool.not_eq_true']
  constructor
  · intro h
    refine ⟨fun j hj => h j (by omega), ?_⟩
    cases h1 : k.testBit cc
    · rfl
    · rw [Bool.true_and, decide_eq_false (h cc (by omega) h1)]
  · rintro ⟨h1, h2⟩ j hj h3
    by_cases e : j = cc
    · subst e
      rw [h3, Bool.true_and, decide_eq_false_iff_not] at h2
      exact h2
    · exact h1 j (by omega) h3
/-- the winners by masks -/
def m_R (g : Nat → Nat → Nat) (s : Nat) : Prop := s < 32 ∧ ∀ x, x < 5 → (s.testBit x = true ↔ m_W g x)
theorem m_R_u {g : Nat → Nat → Nat} {s s' : Nat} (h : m_R g s) (h' : m_R g s') : s = s' := by
  rw [q_mk_eq (p := s'.testBit) (n := 5) h.1 (fun i hi => q_beq ((h.2 i hi).trans (h'.2 i hi).symm))]
  exact q_mk_self (n := 5) h'.1
theorem m_grp {a e : Nat} (h : a ≤ e) : q_mk (fun j => decide (a ≤ j)) e + 2 ^ a = 2 ^ e := by
  induction e with
  | zero => have : a = 0 := by omega
            subst this; rfl
  | succ e ih =>
    simp only [q_mk]
    by_cases ea : a = e + 1
    · subst ea
      rw [decide_eq_false (show ¬ e + 1 ≤ e by omega)]
      have z : ∀ m, m ≤ e → q_mk (fun j => decide (e + 1 ≤ j)) m = 0 := by
        intro m
        induction m with
        | zero => intro _; rfl
        | succ m ihm =>
          intro hm
          simp only [q_mk]
          rw [ihm (by omega), decide_eq_false (show ¬ e + 1 ≤ m by omega)]; simp
      rw [z e (Nat.le_refl e)]; simp
    · have := ih (by omega)
      rw [decide_eq_true (show a ≤ e by omega), Nat.pow_succ]
      simp only [Bool.toNat_true]; omega
section
variable {xc xk xq : Int32} {xo xr xp xm xb xs xl xt xe xA xB xf xg xL xO xC xN : Nat → Int32}
theorem x_mg {post : Int32 → Prop} {n cc j : Nat} {d : Nat → Nat} {pr : Nat → Nat} (hcc : cc ≤ 10) (L : m_Ls (e_g n d) (fun _ => True) cc pr) (hm : ∀ a b, a < 5 → b < 5 → xm (5 * a + b) = zI (e_m n d a b)) (hAB : ∀ j, j < cc → xA j = nI (pr j / 5) ∧ xB j = nI (pr j % 5)) (hj : j < cc) (H : post (nI (e_g n d (pr j / 5) (pr j % 5)))) : wpX_marginOf post (xc, xk, xq, xo, xr, xp, xm, xb, xs, xl, xt, xe, xA, xB, xf, xg, xL, xO, xC, xN) (nI j) := by
  have hp := L.1 j hj
  have la : pr j / 5 < 5 := by omega
  have lb : pr j % 5 < 5 := by omega
  unfold wpX_marginOf
  dsimp only
  rw [nI_clamp (by omega), (hAB j hj).1, (hAB j hj).2, bi_ic (by omega) (by omega), hm _ _ la lb, e_g_z hp.2.1]
  exact ⟨vp_in_nI (by omega) (by decide), vp_in_nI (by omega) (by decide), bi_in (m := 5) la lb (by decide) (by decide), H⟩
theorem x_ub {post : Int32 → Prop} {cc k : Nat} {pr : Nat → Nat} (hcc : cc ≤ 10) (hk : k < 1024) (hAB : ∀ j, j < cc → xA j = nI (pr j / 5) ∧ xB j = nI (pr j % 5)) (H : post (nI (q_mk (m_ub cc pr k) 5))) : wpX_unbeaten post (xc, xk, nI cc, xo, xr, xp, xm, xb, xs, xl, xt, xe, xA, xB, xf, xg, xL, xO, xC, xN) (nI k) := by
  refine loop_0 (fun m j (y : Int32) => wX_unbeaten_5 post (nI k) xc xk (nI cc) xo xr xp xm xb xs xl xt xe xA xB xf xg xL xO xC xN m y (nI j)) (fun j y => y = nI (q_mk (m_ub j pr k) 5)) cc 31 rfl ?_ ?_
  · rintro m _ rfl
    exact br_t (Int32.le_refl _) H
  · rintro m j _ hj rfl K
    have hB := (hAB j hj).2
    have lb : pr j % 5 < 5 := by omega
    refine br_f (nI_ge hj (by omega)) (bi_0 k j (by omega) (by omega) (fun hb => nm_r (nI_1 j) (K _ ?_)) (fun hb => ⟨vp_in_nI (by omega) (by decide), nm_r (e' := nI (q_mk (m_ub (j + 1) pr k) 5)) ?_ (nm_r (nI_1 j) (K _ rfl))⟩))
    · refine congrArg nI (q_mk_congr fun x _ => ?_)
      rw [m_ub_s, hb]; simp
    · rw [nI_clamp (by omega), hB, bi_clr _ (by decide) (by omega)]
      refine congrArg nI (q_mk_congr fun x _ => ?_)
      rw [m_ub_s, hb, Bool.true_and]
      refine congrArg (fun z => m_ub j pr k x && z) ?_
      by_cases e : x = pr j % 5
      · rw [decide_eq_false (fun z => z e), decide_eq_true e.symm]; rfl
      · rw [decide_eq_true e, decide_eq_false (fun z => e z.symm)]; rfl
theorem x_bC_96 {post : Int32 → SX → Prop} {cc : Nat} {pr : Nat → Nat} {P : Nat → Prop} (hcc : cc ≤ 10) (hAB : ∀ j, j < cc → xA j = nI (pr j / 5) ∧ xB j = nI (pr j % 5)) (hA : m_A xf P) (H : ∀ s, s < 32 → (∀ x, x < 5 → (s.testBit x = true ↔ ∃ k, k < 1024 ∧ P k ∧ m_ub cc pr k x = true)) → post (nI s) (xc, xk, nI cc, xo, xr, xp, xm, xb, xs, xl, xt, xe, xA, xB, xf, xg, xL, xO, xC, xN)) : ∃ m, wX_byCouples_96 post xc xk (nI cc) xo xr xp xm xb xs xl xt xe xA xB xf xg xL xO xC xN m 0 0 := by
  refine loop_0 (fun m k (y : Int32) => wX_byCouples_96 post xc xk (nI cc) xo xr xp xm xb xs xl xt xe xA xB xf xg xL xO xC xN m y (nI k)) (fun k y => ∃ s, y = nI s ∧ s < 32 ∧ ∀ x, x < 5 → (s.testBit x = true ↔ ∃ k', k' < k ∧ P k' ∧ m_ub cc pr k' x = true)) 1024 0 ⟨0, rfl, by decide, fun x _ => ⟨fun z => by simp at z, fun ⟨_, z, _⟩ => by omega⟩⟩ ?_ ?_
  · rintro m _ ⟨s, rfl, h1, h2⟩
    exact br_t (Int32.le_refl _) (H s h1 h2)
  · rintro m k _ hk ⟨s, rfl, h1, h2⟩ K
    refine br_f (nI_ge (b := 1024) hk (by decide)) ⟨vp_in_nI hk (by decide), ?_⟩
    rw [nI_clamp (by omega)]
    refine m_A_br hA hk (fun hn => nm_r (nI_1 k) (K _ ⟨s, rfl, h1, fun x hx => ?_⟩)) (fun hp => x_ub hcc hk hAB (nm_r (bi_or _ _) (nm_r (nI_1 k) (K _ ⟨_, rfl, q_or_lt h1 (q_mk5 _), fun x hx => ?_⟩))))
    · rw [h2 x hx]
      constructor
      · rintro ⟨k', z1, z2⟩
        exact ⟨k', by omega, z2⟩
      · rintro ⟨k', z1, z2, z3⟩
        by_cases e : k' = k
        · subst e; exact absurd z2 hn
        · exact ⟨k', by omega, z2, z3⟩
    · rw [Nat.testBit_or, Bool.or_eq_true, h2 x hx, q_mk5_bit _ hx]
      constructor
      · rintro (⟨k', z1, z2⟩ | z)
        · exact ⟨k', by omega, z2⟩
        · exact ⟨k, by omega, hp, z⟩
      · rintro ⟨k', z1, z2, z3⟩
        by_cases e : k' = k
        · subst e; exact Or.inr z3
        · exact Or.inl ⟨k', by omega, z2, z3⟩
theorem x_bC_36 {post : Int32 → SX → Prop} {n cc : Nat} {d : Nat → Nat} {pr : Nat → Nat} (hn : n ≤ 9) (hcc : cc ≤ 10) (hm : ∀ a b, a < 5 → b < 5 → xm (5 * a + b) = zI (e_m n d a b)) (L : m_Ls (e_g n d) (fun _ => True) cc pr) (hso : ∀ j j', j < j' → j' < cc → e_g n d (pr j' / 5) (pr j' % 5) ≤ e_g n d (pr j / 5) (pr j % 5)) (hAB : ∀ j, j < cc → xA j = nI (pr j / 5) ∧ xB j = nI (pr j % 5)) (hA : m_A xf (fun k => k < 2 ^ cc ∧ m_F (e_g n d) 0 (m_E cc pr k)))
    (H : ∀ s xe' xf' xg', m_R (e_g n d) s → post (nI s) (xc, xk, nI cc, xo, xr, xp, xm, xb, xs, xl, xt, xe', xA, xB, xf', xg', xL, xO, xC, xN)) : ∃ m, wX_byCouples_36 post m 0 xc xk (nI cc) xo xr xp xm xb xs xl xt xe xA xB xf xg xL xO xC xN := by
  have p10 := m_p10 hcc
  have gle : ∀ j j', j ≤ j' → j' < cc → e_g n d (pr j' / 5) (pr j' % 5) ≤ e_g n d (pr j / 5) (pr j % 5) := by
    intro j j' h1 h2
    by_cases e : j = j'
    · subst e; exact Nat.le_refl _
    · exact hso j j' (by omega) h2
  have lst : ∀ a b, a < 5 → b < 5 → 0 < e_g n d a b → ∃ j, j < cc ∧ e_g n d (pr j / 5) (pr j % 5) = e_g n d a b := by
    intro a b ha hb h
    obtain ⟨j, hj, e⟩ := L.2.2 (5 * a + b) (by omega) (by rw [show (5 * a + b) / 5 = a by omega, show (5 * a + b) % 5 = b by omega]; exact h) trivial
    exact ⟨j, hj, by rw [e, show (5 * a + b) / 5 = a by omega, show (5 * a + b) % 5 = b by omega]⟩
  refine loop_m (σ := Nat × (Nat → Int32) × (Nat → Int32) × (Nat → Int32)) (fun m s => wX_byCouples_36 post m (nI s.1) xc xk (nI cc) xo xr xp xm xb xs xl xt s.2.1 xA xB s.2.2.1 s.2.2.2 xL xO xC xN) (fun s => s.1 ≤ cc ∧ ∃ kk, kk ≤ 9 ∧ (∀ j, j < cc → (j < s.1 ↔ 9 - kk < e_g n d (pr j / 5) (pr j % 5))) ∧ m_A s.2.2.1 (fun k => k < 2 ^ cc ∧ m_F (e_g n d) kk (m_E cc pr k))) (fun s => cc - s.1) ?_ (0, xe, xf, xg) ⟨Nat.zero_le _, 0, by decide, fun j hj => ?_, hA⟩
  · rintro m ⟨dn, xe', xf', xg'⟩ ⟨hdn, kk, hkk, hI, hA⟩ K
    dsimp only at hdn hI hA K ⊢
    refine pk_le cc dn (fun h => ?_) (fun h => ?_)
    · have e : dn = cc := by omega
      subst e
      have sk : ∀ E, m_F (e_g n d) 9 E ↔ m_F (e_g n d) kk E := by
        intro E
        have := m_F_skips (g := e_g n d) (k := kk) (E := E) (9 - kk) (fun i hi a b ha hb z => by
          obtain ⟨j, hj, e⟩ := lst a b ha hb (by omega)
          have := (hI j hj).mp hj
          omega)
        rwa [show kk + (9 - kk) = 9 by omega] at this
      refine x_bC_96 hcc hAB hA fun s h1 h2 => H s xe' xf' xg' ⟨h1, fun x hx => ?_⟩
      rw [h2 x hx, m_W_iff L hx]
      constructor
      · rintro ⟨k, _, ⟨z1, z2⟩, z3⟩
        exact ⟨k, z1, (sk _).mpr z2, m_ub_iff.mp z3⟩
      · rintro ⟨k, z1, z2, z3⟩
        exact ⟨k, by omega, ⟨z1, (sk _).mp z2⟩, m_ub_iff.mpr z3⟩
    · refine x_mg hcc L hm hAB h ?_
      have hM0 := (L.1 dn h).2.1
      have hM9 : ¬ 9 - kk < e_g n d (pr dn / 5) (pr dn % 5) := fun z => by
        have := (hI dn h).mpr z
        omega
      have hle : ∀ j, dn ≤ j → j < cc → e_g n d (pr j / 5) (pr j % 5) ≤ e_g n d (pr dn / 5) (pr dn % 5) := fun j h1 h2 => gle dn j h1 h2
      generalize hMe : e_g n d (pr dn / 5) (pr dn % 5) = M at hM0 hM9 hle
      have T : ∀ e, dn ≤ e → e ≤ cc → (∀ j, dn ≤ j → j < e → e_g n d (pr j / 5) (pr j % 5) = M) → (e < cc → e_g n d (pr e / 5) (pr e % 5) ≠ M) → wX_byCouples_75 post (wX_byCouples_36 post m) (nI dn) (nI e) xc xk (nI cc) xo xr xp xm xb xs xl xt xe' xA xB xf' xg' xL xO xC xN := by
        intro e hde0 he h1 h2
        have hde : dn < e := by
          refine Nat.lt_of_le_of_ne hde0 fun z => ?_
          subst z; exact h2 h hMe
        have hgr := m_grp hde0
        have hgl := q_mk_lt (fun j => decide (dn ≤ j)) e
        have hpw : 2 ^ e ≤ 2 ^ cc := Nat.pow_le_pow_right (by decide) he
        have gb : ∀ j, j < cc → ((q_mk (fun j => decide (dn ≤ j)) e).testBit j = true ↔ e_g n d (pr j / 5) (pr j % 5) = M) := by
          intro j hj
          rw [q_mk_bit, Bool.and_eq_true, decide_eq_true_eq, decide_eq_true_eq]
          constructor
          · rintro ⟨q1, q2⟩
            exact h1 j q2 q1
          · intro q
            have q1 : ¬ j < dn := fun z => by
              have := (hI j hj).mp z
              omega
            refine ⟨Nat.lt_of_not_le fun z => ?_, by omega⟩
            have q2 := hle e (by omega) (by omega)
            have q3 := h2 (by omega)
            have q4 := gle e j z hj
            omega
        have e9 : 9 - (9 - M) = M := by omega
        have e10 : 10 - M = (9 - M) + 1 := by omega
        have sk : ∀ E, m_F (e_g n d) (9 - M) E ↔ m_F (e_g n d) kk E := by
          intro E
          have := m_F_skips (g := e_g n d) (k := kk) (E := E) (9 - M - kk) (fun i hi a b ha hb z => by
            obtain ⟨j, hj, ej⟩ := lst a b ha hb (by omega)
            have q1 : ¬ j < dn := fun y => by
              have := (hI j hj).mp y
              omega
            have := hle j (by omega) hj
            omega)
          rwa [show kk + (9 - M - kk) = 9 - M by omega] at this
        unfold wX_byCouples_75
        rw [bi_shl (by omega), bi_shl (by omega), pk_sub (Nat.pow_le_pow_right (by decide) hde0), show 2 ^ e - 2 ^ dn = q_mk (fun j => decide (dn ≤ j)) e by omega]
        refine x_aG hcc (by omega) L hM0 (by omega) gb hAB hA fun xe'' xf'' xg'' hA'' => K (e, xe'', xf'', xg'') ⟨he, 10 - M, by omega, fun j hj => ?_, m_A_congr hA'' fun k _ => ?_⟩ (by show cc - e < cc - dn; omega)
        · show j < e ↔ _
          constructor
          · intro z
            have q1 := gle j (e - 1) (by omega) (by omega)
            have q2 := h1 (e - 1) (by omega) (by omega)
            omega
          · intro z
            refine Nat.lt_of_not_le fun y => ?_
            have q2 := hle e (by omega) (by omega)
            have q3 := h2 (by omega)
            have q4 := gle e j y hj
            omega
        · constructor
          · rintro ⟨k0, q, z1, ⟨z2, z3⟩, z4, z5, z6⟩
            have hq : q < 2 ^ cc := by
              rw [← z4]; exact Nat.lt_of_le_of_lt Nat.and_le_right (by omega)
            have hkl : k < 2 ^ cc := by rw [z5]; exact Nat.or_lt_two_pow z2 hq
            refine ⟨hkl, ?_⟩
            rw [e10]
            refine (m_step L (grp := q_mk (fun j => decide (dn ≤ j)) e) (fun j hj => by rw [e9]; exact gb j hj) hkl).mpr ⟨k0, q, z2, (sk _).mpr z3, hq, fun j _ hb => ?_, z5, by rw [e9]; exact z6⟩
            rw [← z4, Nat.testBit_and, Bool.and_eq_true] at hb
            exact hb.2
          · rintro ⟨z1, z2⟩
            rw [e10] at z2
            obtain ⟨k0, q, y1, y2, y3, y4, y5, y6⟩ := (m_step L (grp := q_mk (fun j => decide (dn ≤ j)) e) (fun j hj => by rw [e9]; exact gb j hj) z1).mp z2
            rw [e9] at y6
            refine ⟨k0, q, ?_, ⟨y1, (sk _).mp y2⟩, ?_, y5, y6⟩
            · refine Nat.lt_pow_two_of_testBit k0 fun j hj => ?_
              by_cases hjc : j < cc
              · cases hb : k0.testBit j
                · rfl
                · have hpj := (L.1 j hjc).1
                  have := m_F_g (9 - M) (by omega) _ y2 (pr j / 5) (pr j % 5) (by omega) (by omega) (by rw [m_E_pr L hjc]; exact hb)
                  have := hle j hj hjc
                  omega
              · exact Nat.testBit_lt_two_pow (Nat.lt_of_lt_of_le y1 (Nat.pow_le_pow_right (by decide) (by omega)))
            · apply Nat.eq_of_testBit_eq
              intro j
              rw [Nat.testBit_and]
              by_cases hjc : j < cc
              · cases hb : q.testBit j
                · rfl
                · rw [y4 j hjc hb]; rfl
              · rw [Nat.testBit_lt_two_pow (Nat.lt_of_lt_of_le y3 (Nat.pow_le_pow_right (by decide) (by omega)))]; rfl
      refine pk_loop (fun m' e (_ : Unit) => wX_byCouples_52 post (wX_byCouples_36 post m) (nI dn) (nI M) xc xk (nI cc) xo xr xp xm xb xs xl xt xe' xA xB xf' xg' xL xO xC xN m' (nI e)) (fun e _ => dn ≤ e ∧ ∀ j, dn ≤ j → j < e → e_g n d (pr j / 5) (pr j % 5) = M) cc dn () (by omega) ⟨Nat.le_refl _, fun j h1 h2 => by omega⟩ ?_ ?_
      · rintro m' _ ⟨h0, h1⟩
        exact br_t (Int32.le_refl _) (T cc h0 (Nat.le_refl _) h1 (fun z => by omega))
      · rintro m' e _ he ⟨h0, h1⟩ K'
        have l9 := e_g_9 hn d (pr e / 5) (pr e % 5)
        refine br_f (nI_ge he (by omega)) (x_mg hcc L hm hAB he (pk_eq (e_g n d (pr e / 5) (pr e % 5)) M (fun z => nm_r (nI_1 e) (K' () ⟨by omega, fun j q1 q2 => ?_⟩)) (fun z => T e h0 (by omega) h1 (fun _ => z))))
        by_cases ej : j = e
        · subst ej; exact z
        · exact h1 j q1 (by omega)
  · have l9 := e_g_9 hn d (pr j / 5) (pr j % 5)
    omega
theorem x_bC {post : Int32 → SX → Prop} {n : Nat} {d : Nat → Nat} {u : SX} (R : rx_K n d u) (H : ∀ u' s, m_R (e_g n d) s → rx_K n d u' → post (nI s) u') : wpX_byCouples post u := by
  obtain ⟨xc, xk, xq, xo, xr, xp, xm, xb, xs, xl, xt, xe, xA, xB, xf, xg, xL, xO, xC, xN⟩ := u
  obtain ⟨rfl, rfl, hok, hb, hcn⟩ := R
  have hn := hok.1
  unfold wpX_byCouples
  refine x_lC hn hcn.2.1 fun cc pr xA' xB' L hso hAB => ?_
  have hcc := m_Ls_10 (fun a => e_g_0 n d a) (fun a b => e_g_anti) L
  have p10 := m_p10 hcc
  have p1 := Nat.two_pow_pos cc
  refine loop_0 (fun m k (x : Nat → Int32) => wX_byCouples_6 post (nI n) 1 (nI cc) m (nI k) xo xr xp xm xb xs xl xt xe xA' xB' x xg xL xO xC xN) (fun k x => ∀ j, j < k → x j = nI (decide (j = 0)).toNat) 1024 xf (fun j h => by omega) ?_ ?_
  · intro m x h
    refine br_t (Int32.le_refl _) (x_bC_36 hn hcc hcn.2.1 L hso hAB ?_ fun s xe' xf' xg' hs => H _ s hs ⟨rfl, rfl, hok, hb, hcn⟩)
    intro k hk
    by_cases e : k = 0
    · subst e
      exact Or.inl ⟨h 0 (by decide), p1, (m_F_0 L p1).mpr rfl⟩
    · refine Or.inr ⟨?_, fun z => e ((m_F_0 L z.1).mp z.2)⟩
      rw [h k hk, decide_eq_false e]; rfl
  · intro m k x hk h K
    refine br_f (nI_ge (b := 1024) hk (by decide)) (pk_eq k 0 (fun e => ⟨vp_in_nI hk (by decide), nm_r (e' := upd x k (nI 1)) (by rw [nI_clamp (by omega), bv_t1]) (nm_r (nI_1 k) (K _ fun j hj => ?_))⟩) (fun e => ⟨vp_in_nI hk (by decide), nm_r (e' := upd x k (nI 0)) (by rw [nI_clamp (by omega), bv_t0]) (nm_r (nI_1 k) (K _ fun j hj => ?_))⟩))
    · by_cases e2 : j = k
      · subst e2; rw [pk_us, decide_eq_true e]; rfl
      · exact (pk_un e2).trans (h j (by omega))
    · by_cases e2 : j = k
      · subst e2; rw [pk_us, decide_eq_false e]; rfl
      · exact (pk_un e2).trans (h j (by omega))
end
end
section
/-- whether a goes on to one that is there -/
def m_go (E : Nat → Nat → Bool) (T : Nat → Bool) (a : Nat) : Bool := decide (0 < q_cn (fun b => E a b && T b) 5)
theorem m_go_iff {E : Nat → Nat → Bool} {T : Nat → Bool} {a : Nat} : m_go E T a = true ↔ ∃ b, b < 5 ∧ E a b = true ∧ T b = true := by
  unfold m_go
  rw [decide_eq_true_eq, q_cn_pos]
  constructor
  · rintro ⟨b, hb, h⟩
    rw [Bool.and_eq_true] at h
    exact ⟨b, hb, h⟩
  · rintro ⟨b, hb, h1, h2⟩
    exact ⟨b, hb, by rw [h1, h2]; rfl⟩
theorem m_go_s {cc : Nat} {pr : Nat → Nat} {k a : Nat} {T : Nat → Bool} (hp : pr cc < 25) (ha : a < 5) : m_go (m_E (cc + 1) pr k) T a = (m_go (m_E cc pr k) T a || (k.testBit cc && decide (pr cc / 5 = a) && T (pr cc % 5))) := by
  refine q_beq ?_
  rw [Bool.or_eq_true, m_go_iff, m_go_iff]
  constructor
  · rintro ⟨b, hb, h1, h2⟩
    rw [m_E_s, Bool.or_eq_true, Bool.and_eq_true, decide_eq_true_eq] at h1
    rcases h1 with h1 | ⟨h1, h3⟩
    · exact Or.inl ⟨b, hb, h1, h2⟩
    · refine Or.inr ?_
      rw [h1, decide_eq_true (show pr cc / 5 = a by omega), show pr cc % 5 = b by omega, h2]; rfl
  · rintro (⟨b, hb, h1, h2⟩ | h)
    · exact ⟨b, hb, by rw [m_E_s, h1]; rfl, h2⟩
    · rw [Bool.and_eq_true, Bool.and_eq_true, decide_eq_true_eq] at h
      refine ⟨pr cc % 5, by omega, ?_, h.2⟩
      rw [m_E_s, h.1.1, decide_eq_true (show pr cc = 5 * a + pr cc % 5 by omega)]; simp
theorem m_T_go {E : Nat → Nat → Bool} {s x : Nat} : m_T E (s + 1) x = if x = s % 5 then m_T E s x && m_go E (m_T E s) x else m_T E s x := rfl
theorem m_nd {q grp : Nat} (h : q_nd q grp = 0) {j : Nat} (hj : j < 32) (hb : q.testBit j = true) : grp.testBit j = true := by
  have := q_nd_bit (a := q) (b := grp) hj
  rw [h, hb] at this
  cases e : grp.testBit j
  · rw [e] at this; simp at this
  · rfl
theorem m_nd_of {q grp cc : Nat} (hcc : cc ≤ 31) (hq : q < 2 ^ cc) (h : ∀ j, j < cc → q.testBit j = true → grp.testBit j = true) : q_nd q grp = 0 := by
  have hl : q_nd q grp < 2 ^ cc := Nat.lt_of_le_of_lt (q_nd_le _ _) hq
  have e := q_mk_eq (p := fun _ => false) hl (fun j hj => by
    rw [q_nd_bit (by omega)]
    cases hb : q.testBit j
    · rfl
    · rw [h j hj hb]; rfl)
  rw [e]
  have gg : ∀ m, q_mk (fun _ => false) m = 0 := by
    intro m
    induction m with
    | zero => rfl
    | succ m ih => simp [q_mk, ih]
  exact gg cc
section
variable {yn yq : Int32} {yo yp ym yt yl yb yw yk yh yC yN : Nat → Int32}
theorem y_iR {A B : Prop} {cc k : Nat} {pr : Nat → Nat} (hcc : cc ≤ 10) (hk : k < 1024) (hpr : ∀ j, j < cc → pr j < 25) (hbw : ∀ j, j < cc → yb j = nI (pr j / 5) ∧ yw j = nI (pr j % 5)) (f : m_ac (m_E cc pr k) → A) (g : ¬ m_ac (m_E cc pr k) → B) : wpY_isRound (fun r => (r = 0 → A) ∧ (¬ r = 0 → B)) (yn, nI cc, yo, yp, ym, yt, yl, yb, yw, yk, yh, yC, yN) (nI k) := by
  refine loop_0 (fun m s (y : Int32) => wY_isRound_5 (fun r => (r = 0 → A) ∧ (¬ r = 0 → B)) (nI k) yn (nI cc) yo yp ym yt yl yb yw yk yh yC yN m y (nI s)) (fun s y => y = nI (q_mk (m_T (m_E cc pr k) s) 5)) 25 31 rfl ?_ ?_
  · rintro m _ rfl
    have l := q_mk5 (m_T (m_E cc pr k) 25)
    have it := @m_T_cy (m_E cc pr k)
    refine br_t (Int32.le_refl _) (pk_eq (q_mk (m_T (m_E cc pr k) 25) 5) 0 (fun e => br_t rfl (f ?_)) (fun e => br_f (by decide) (g ?_)))
    · refine Classical.byContradiction fun z => ?_
      obtain ⟨x, hx, h⟩ := it.mpr z
      have := q_mk5_bit (m_T (m_E cc pr k) 25) hx
      rw [e, h] at this
      simp at this
    · refine it.mp (Classical.byContradiction fun z => e ?_)
      rw [q_mk_congr (p' := fun _ => false) fun x hx => ?_]
      · rfl
      · cases h : m_T (m_E cc pr k) 25 x
        · rfl
        · exact absurd ⟨x, hx, h⟩ z
  · rintro m s _ hs rfl K
    have l := q_mk5 (m_T (m_E cc pr k) s)
    refine br_f (nI_ge (b := 25) hs (by decide)) ⟨by decide, nm_r (o_rem (by omega)) ?_⟩
    have ha : s % 5 < 5 := by omega
    refine loop_0 (fun m' j (y : Int32) => wY_isRound_22 (fun r => (r = 0 → A) ∧ (¬ r = 0 → B)) (wY_isRound_5 (fun r => (r = 0 → A) ∧ (¬ r = 0 → B)) (nI k) yn (nI cc) yo yp ym yt yl yb yw yk yh yC yN m) (nI k) (nI (q_mk (m_T (m_E cc pr k) s) 5)) (nI s) (nI (s % 5)) yn (nI cc) yo yp ym yt yl yb yw yk yh yC yN m' y (nI j)) (fun j y => y = nI (m_go (m_E j pr k) (m_T (m_E cc pr k) s) (s % 5)).toNat) cc 0 rfl ?_ ?_
    · rintro m' _ rfl
      refine br_t (Int32.le_refl _) ?_
      cases hg : m_go (m_E cc pr k) (m_T (m_E cc pr k) s) (s % 5)
      · refine br_t rfl (nm_r (bi_clr _ (by decide) (by omega)) (nm_r (nI_1 s) (K _ (congrArg nI (q_mk_congr fun x _ => ?_)))))
        rw [m_T_go]
        by_cases e : x = s % 5
        · rw [if_pos e, e, hg]; simp
        · rw [if_neg e, decide_eq_true e, Bool.and_true]
      · refine br_f (by decide) (nm_r (nI_1 s) (K _ (congrArg nI (q_mk_congr fun x _ => ?_))))
        rw [m_T_go]
        by_cases e : x = s % 5
        · rw [if_pos e, e, hg, Bool.and_true]
        · rw [if_neg e]
    · rintro m' j _ hj rfl K'
      have hp := hpr j hj
      have hB := (hbw j hj).1
      have hW := (hbw j hj).2
      have lw : pr j % 5 < 5 := by omega
      refine br_f (nI_ge hj (by omega)) (bi_1 k j (by omega) (by omega) (fun h1 => ⟨vp_in_nI (by omega) (by decide), ?_⟩) (fun h1 => nm_r (nI_1 j) (K' _ ?_)))
      · rw [nI_clamp (by omega), hB, hW]
        refine pk_eq (pr j / 5) (s % 5) (fun e => ⟨vp_in_nI (by omega) (by decide), bi_1 (q_mk (m_T (m_E cc pr k) s) 5) (pr j % 5) (by omega) (by omega) (fun h2 => nm_r (nI_1 j) (K' (nI 1) ?_)) (fun h2 => nm_r (nI_1 j) (K' _ ?_))⟩) (fun e => nm_r (nI_1 j) (K' _ ?_))
        · rw [q_mk5_bit _ lw] at h2
          rw [m_go_s hp ha, h1, decide_eq_true e, h2]; simp
        · rw [q_mk5_bit _ lw] at h2
          rw [m_go_s hp ha, h2]; simp
        · rw [m_go_s hp ha, decide_eq_false e]; simp
      · rw [m_go_s hp ha, h1]; simp
theorem y_cG {A B : Prop} {g : Nat → Nat → Nat} {cc k grp M : Nat} {pr : Nat → Nat} (hcc : cc ≤ 10) (h0 : ∀ a, g a a = 0) (L : m_Ls g (fun _ => True) cc pr) (hM : 0 < M) (hk : k < 2 ^ cc) (hg : grp < 1024) (hgr : ∀ j, j < cc → (grp.testBit j = true ↔ g (pr j / 5) (pr j % 5) = M)) (hbw : ∀ j, j < cc → yb j = nI (pr j / 5) ∧ yw j = nI (pr j % 5)) (ac : m_ac (m_E cc pr k)) (f : m_Co (m_E cc pr k) (fun a b => g a b = M) → A) (g' : ¬ m_Co (m_E cc pr k) (fun a b => g a b = M) → B) : wpY_canGrow (fun r => (r = 0 → A) ∧ (¬ r = 0 → B)) (yn, nI cc, yo, yp, ym, yt, yl, yb, yw, yk, yh, yC, yN) (nI k) (nI grp) := by
  have p10 := m_p10 hcc
  refine loop_0 (fun m j (_ : Unit) => wY_canGrow_2 (fun r => (r = 0 → A) ∧ (¬ r = 0 → B)) (nI k) (nI grp) yn (nI cc) yo yp ym yt yl yb yw yk yh yC yN m (nI j)) (fun j _ => ∀ j', j' < j → grp.testBit j' = true → k.testBit j' = false → r_C (m_E cc pr k) 5 (pr j' % 5) (pr j' / 5) = true) cc () (fun j' h => by omega) ?_ ?_
  · rintro m _ h
    refine br_t (Int32.le_refl _) (br_t rfl (f ⟨ac, fun a b ha hb h1 h2 => ?_⟩))
    have e1 : (5 * a + b) / 5 = a := by omega
    have e2 : (5 * a + b) % 5 = b := by omega
    obtain ⟨j, hj, e⟩ := L.2.2 (5 * a + b) (by omega) (by rw [e1, e2]; omega) trivial
    have := h j hj ((hgr j hj).mpr (by rw [e, e1, e2]; exact h1)) (by rw [← m_E_pr L hj, e, e1, e2]; exact h2)
    rwa [e, e1, e2] at this
  · rintro m j _ hj h K
    have hp := (L.1 j hj).1
    have la : pr j / 5 < 5 := by omega
    have lb : pr j % 5 < 5 := by omega
    have nx : (grp.testBit j = true → k.testBit j = false → r_C (m_E cc pr k) 5 (pr j % 5) (pr j / 5) = true) → ∀ j', j' < j + 1 → grp.testBit j' = true → k.testBit j' = false → r_C (m_E cc pr k) 5 (pr j' % 5) (pr j' / 5) = true := by
      intro z j' hj' q1 q2
      by_cases e : j' = j
      · subst e; exact z q1 q2
      · exact h j' (by omega) q1 q2
    refine br_f (nI_ge hj (by omega)) (bi_1 grp j (by omega) (by omega) (fun hb => bi_0 k j (by omega) (by omega) (fun hb2 => ?_) (fun hb2 => nm_r (nI_1 j) (K () (nx fun _ z => by rw [hb2] at z; exact absurd z (by decide))))) (fun hb => nm_r (nI_1 j) (K () (nx fun z => by rw [hb] at z; exact absurd z (by decide)))))
    have hab : pr j / 5 ≠ pr j % 5 := by
      intro z
      have := (L.1 j hj).2.1
      rw [z, h0] at this
      omega
    have ad := m_add (E' := m_E cc pr (k ||| 2 ^ j)) la lb hab ac (fun a b ha hb5 => by
      rw [m_E_iff, m_E_iff]
      constructor
      · rintro ⟨j', hj', q1, q2⟩
        rw [Nat.testBit_or, Bool.or_eq_true, Nat.testBit_two_pow, decide_eq_true_eq] at q1
        rcases q1 with q1 | q1
        · exact Or.inl ⟨j', hj', q1, q2⟩
        · subst q1
          exact Or.inr (by omega)
      · rintro (⟨j', hj', q1, q2⟩ | q)
        · exact ⟨j', hj', by rw [Nat.testBit_or, q1]; rfl, q2⟩
        · exact ⟨j, hj, by rw [Nat.testBit_or, Nat.testBit_two_pow]; simp, by omega⟩)
    have hor : k ||| 2 ^ j < 1024 := Nat.or_lt_two_pow (n := 10) (by omega) (Nat.pow_lt_pow_right (a := 2) (n := 10) (by decide) (by omega))
    rw [bi_shl (by omega), bi_or]
    refine y_iR hcc hor (fun j hj => (L.1 j hj).1) hbw (fun z => br_f (by decide) (g' fun co => ?_)) (fun z => nm_r (nI_1 j) (K () (nx fun _ _ => ad.mp z)))
    have := co.2 (pr j / 5) (pr j % 5) la lb ((hgr j hj).mp hb) (by rw [m_E_pr L hj]; exact hb2)
    exact ad.mpr this z
theorem y_kG {post : SY → Prop} {g : Nat → Nat → Nat} {cc grp M : Nat} {pr : Nat → Nat} {P : Nat → Prop} (hcc : cc ≤ 10) (h0 : ∀ a, g a a = 0) (L : m_Ls g (fun _ => True) cc pr) (hM : 0 < M) (hg : grp < 1024) (hgr : ∀ j, j < cc → (grp.testBit j = true ↔ g (pr j / 5) (pr j % 5) = M)) (hbw : ∀ j, j < cc → yb j = nI (pr j / 5) ∧ yw j = nI (pr j % 5)) (hP : m_A yk P)
    (H : ∀ yk' yh', m_A yk' (fun k => ∃ k0 q, k0 < 2 ^ cc ∧ P k0 ∧ q < 2 ^ cc ∧ q_nd q grp = 0 ∧ k = k0 ||| q ∧ m_Co (m_E cc pr k) (fun a b => g a b = M)) → post (yn, nI cc, yo, yp, ym, yt, yl, yb, yw, yk', yh', yC, yN)) : wpY_keepGroup post (yn, nI cc, yo, yp, ym, yt, yl, yb, yw, yk, yh, yC, yN) (nI grp) := by
  have p10 := m_p10 hcc
  have p0 := Nat.two_pow_pos cc
  refine loop_0 (fun m k (x : Nat → Int32) => wY_keepGroup_2 post (nI grp) yn (nI cc) m (nI k) yo yp ym yt yl yb yw yk x yC yN) (fun k x => ∀ j, j < k → x j = nI 0) 1024 yh (fun j h => by omega) ?_ ?_
  · intro m x h
    refine br_t (Int32.le_refl _) ?_
    refine loop_0 (fun m k (x : Nat → Int32) => wY_keepGroup_24 post (nI grp) yn (nI cc) m (nI k) yo yp ym yt yl yb yw yk x yC yN) (fun k x => m_A x (fun k' => ∃ k0 q, k0 < k ∧ P k0 ∧ q < 2 ^ cc ∧ q_nd q grp = 0 ∧ k' = k0 ||| q ∧ m_Co (m_E cc pr k') (fun a b => g a b = M))) (2 ^ cc) x (fun k hk => Or.inr ⟨h k hk, fun ⟨_, _, z, _⟩ => by omega⟩) ?_ ?_
    · rintro m x hA
      refine br_t (by rw [bi_shl (by omega)]; exact Int32.le_refl _) ?_
      refine loop_0 (fun m k (y : Nat → Int32) => wY_keepGroup_119 post yn (nI cc) m (nI k) yo yp ym yt yl yb yw y x yC yN) (fun k y => ∀ j, j < k → y j = x j) 1024 yk (fun j h => by omega) ?_ ?_
      · intro m y hy
        refine br_t (Int32.le_refl _) (H y x ?_)
        intro k hk
        rw [hy k hk]; exact hA k hk
      · intro m k y hk hy K
        refine br_f (nI_ge (b := 1024) hk (by decide)) ⟨vp_in_nI hk (by decide), vp_in_nI hk (by decide), nm_r (e' := upd y k (x k)) ?_ (nm_r (nI_1 k) (K _ fun j hj => ?_))⟩
        · rw [nI_clamp (by omega)]
          rcases hA k hk with ⟨h1, _⟩ | ⟨h1, _⟩
          · rw [h1]; rfl
          · rw [h1]; rfl
        · by_cases e : j = k
          · subst e; exact pk_us
          · exact (pk_un e).trans (hy j (by omega))
    · rintro m k x hk hA K
      refine br_f (by rw [bi_shl (by omega)]; exact nI_ge hk (by omega)) ?_
      by_cases hp : P k
      · refine loop_0 (fun m' q (x : Nat → Int32) => wY_keepGroup_36 post (wY_keepGroup_24 post (nI grp) yn (nI cc) m) (nI grp) (nI k) yn (nI cc) m' (nI q) yo yp ym yt yl yb yw yk x yC yN) (fun q' x => m_A x (fun k' => (∃ k0 q, k0 < k ∧ P k0 ∧ q < 2 ^ cc ∧ q_nd q grp = 0 ∧ k' = k0 ||| q ∧ m_Co (m_E cc pr k') (fun a b => g a b = M)) ∨ ∃ q, q < q' ∧ q_nd q grp = 0 ∧ k' = k ||| q ∧ m_Co (m_E cc pr k') (fun a b => g a b = M))) (2 ^ cc) x (m_A_congr hA fun k' _ => ⟨Or.inl, fun z => z.resolve_right fun ⟨_, z, _⟩ => by omega⟩) ?_ ?_
        · intro m' x hA
          refine br_t (by rw [bi_shl (by omega)]; exact Int32.le_refl _) (nm_r (nI_1 k) (K x (m_A_congr hA fun k' _ => ?_)))
          constructor
          · rintro (⟨k0, q, z1, z2⟩ | ⟨q, z1, z2⟩)
            · exact ⟨k0, q, by omega, z2⟩
            · exact ⟨k, q, by omega, hp, z1, z2⟩
          · rintro ⟨k0, q, z1, z2, z3, z4⟩
            by_cases e : k0 = k
            · subst e; exact Or.inr ⟨q, z3, z4⟩
            · exact Or.inl ⟨k0, q, by omega, z2, z3, z4⟩
        · intro m' q x hq hA K'
          have hor : k ||| q < 2 ^ cc := Nat.or_lt_two_pow hk hq
          have hnd : q_nd q grp < 2 ^ 31 := Nat.lt_of_le_of_lt (q_nd_le _ _) (by omega)
          have skip : ¬ (q_nd q grp = 0 ∧ m_Co (m_E cc pr (k ||| q)) (fun a b => g a b = M)) → m_A x (fun k' => (∃ k0 q, k0 < k ∧ P k0 ∧ q < 2 ^ cc ∧ q_nd q grp = 0 ∧ k' = k0 ||| q ∧ m_Co (m_E cc pr k') (fun a b => g a b = M)) ∨ ∃ q1, q1 < q + 1 ∧ q_nd q1 grp = 0 ∧ k' = k ||| q1 ∧ m_Co (m_E cc pr k') (fun a b => g a b = M)) := by
            intro hn
            refine m_A_congr hA fun k' _ => ⟨fun z => z.imp id fun ⟨q1, z1, z2⟩ => ⟨q1, by omega, z2⟩, ?_⟩
            rintro (z | ⟨q1, z1, z2, z3, z4⟩)
            · exact Or.inl z
            · by_cases e : q1 = q
              · subst e
                rw [z3] at z4
                exact absurd ⟨z2, z4⟩ hn
              · exact Or.inr ⟨q1, by omega, z2, z3, z4⟩
          refine br_f (by rw [bi_shl (by omega)]; exact nI_ge hq (by omega)) ⟨vp_in_nI (by omega) (by decide), ?_⟩
          rw [nI_clamp (by omega)]
          refine m_A_br hP (by omega) (fun hn => absurd hp hn) (fun _ => nm_r (bi_or k q) ?_)
          rw [bi_nd, nI_clamp (by omega)]
          refine pk_eq (q_nd q grp) 0 (fun hz => ⟨vp_in_nI (by omega) (by decide), ?_⟩) (fun hz => nm_r (nI_1 q) (K' _ (skip fun z => hz z.1)))
          refine m_A_br hA (by omega) (fun hn => ?_) (fun hy => nm_r (nI_1 q) (K' _ (m_A_congr hA fun k' _ => ?_)))
          · refine y_iR hcc (by omega) (fun j hj => (L.1 j hj).1) hbw (fun ac => ?_) (fun nac => nm_r (nI_1 q) (K' _ (skip fun z => nac z.2.1)))
            refine y_cG hcc h0 L hM hor hg hgr hbw ac (fun co => ⟨vp_in_nI (by omega) (by decide), nm_r (e' := upd x (k ||| q) (nI 1)) (by rw [bv_t1]) (nm_r (nI_1 q) (K' _ (m_A_congr (m_A_set hA) fun k' _ => ?_)))⟩) (fun nco => nm_r (nI_1 q) (K' _ (skip fun z => nco z.2)))
            constructor
            · rintro ((z | ⟨q1, z1, z2⟩) | rfl)
              · exact Or.inl z
              · exact Or.inr ⟨q1, by omega, z2⟩
              · exact Or.inr ⟨q, by omega, hz, rfl, co⟩
            · rintro (z | ⟨q1, z1, z2, z3, z4⟩)
              · exact Or.inl (Or.inl z)
              · by_cases e : q1 = q
                · subst e; exact Or.inr z3
                · exact Or.inl (Or.inr ⟨q1, by omega, z2, z3, z4⟩)
          · constructor
            · exact fun z => z.imp id fun ⟨q1, z1, z2⟩ => ⟨q1, by omega, z2⟩
            · rintro (z | ⟨q1, z1, z2, z3, z4⟩)
              · exact Or.inl z
              · by_cases e : q1 = q
                · subst e
                  rw [z3]; exact hy
                · exact Or.inr ⟨q1, by omega, z2, z3, z4⟩
      · refine ⟨1, br_f (by rw [bi_shl (by omega)]; exact nI_ge p0 (by omega)) ⟨vp_in_nI (by omega) (by decide), ?_⟩⟩
        rw [nI_clamp (by omega)]
        refine m_A_br hP (by omega) (fun _ => nm_r (nI_1 k) (K x (m_A_congr hA fun k' _ => ?_))) (fun z => absurd z hp)
        constructor
        · rintro ⟨k0, q, z1, z2⟩
          exact ⟨k0, q, by omega, z2⟩
        · rintro ⟨k0, q, z1, z2, z3⟩
          by_cases e : k0 = k
          · subst e; exact absurd z2 hp
          · exact ⟨k0, q, by omega, z2, z3⟩
  · intro m k x hk h K
    refine br_f (nI_ge (b := 1024) hk (by decide)) ⟨vp_in_nI hk (by decide), nm_r (e' := upd x k (nI 0)) (by rw [nI_clamp (by omega), bv_t0]) (nm_r (nI_1 k) (K _ fun j hj => ?_))⟩
    by_cases e : j = k
    · subst e; exact pk_us
    · exact (pk_un e).trans (h j (by omega))
theorem y_free {post : Int32 → Prop} {cc k : Nat} {pr : Nat → Nat} (hcc : cc ≤ 10) (hk : k < 1024) (hbw : ∀ j, j < cc → yb j = nI (pr j / 5) ∧ yw j = nI (pr j % 5)) (H : post (nI (q_mk (m_ub cc pr k) 5))) : wpY_free post (yn, nI cc, yo, yp, ym, yt, yl, yb, yw, yk, yh, yC, yN) (nI k) := by
  refine loop_0 (fun m j (y : Int32) => wY_free_5 post (nI k) yn (nI cc) yo yp ym yt yl yb yw yk yh yC yN m y (nI j)) (fun j y => y = nI (q_mk (m_ub j pr k) 5)) cc 31 rfl ?_ ?_
  · rintro m _ rfl
    exact br_t (Int32.le_refl _) H
  · rintro m j _ hj rfl K
    have hB := (hbw j hj).2
    have lb : pr j % 5 < 5 := by omega
    refine br_f (nI_ge hj (by omega)) (bi_1 k j (by omega) (by omega) (fun hb => ⟨vp_in_nI (by omega) (by decide), nm_r (e' := nI (q_mk (m_ub (j + 1) pr k) 5)) ?_ (nm_r (nI_1 j) (K _ rfl))⟩) (fun hb => nm_r (nI_1 j) (K _ ?_)))
    · rw [nI_clamp (by omega), hB, bi_clr _ (by decide) (by omega)]
      refine congrArg nI (q_mk_congr fun x _ => ?_)
      rw [m_ub_s, hb, Bool.true_and]
      refine congrArg (fun z => m_ub j pr k x && z) ?_
      by_cases e : x = pr j % 5
      · rw [decide_eq_false (fun z => z e), decide_eq_true e.symm]; rfl
      · rw [decide_eq_true e, decide_eq_false (fun z => e z.symm)]; rfl
    · refine congrArg nI (q_mk_congr fun x _ => ?_)
      rw [m_ub_s, hb]; simp
end
end
section
section
variable {yn yq : Int32} {yo yp ym yt yl yb yw yk yh yC yN : Nat → Int32}
theorem y_iO_166 {post : Int32 → SY → Prop} {cc : Nat} {pr : Nat → Nat} {P : Nat → Prop} (hcc : cc ≤ 10) (hbw : ∀ j, j < cc → yb j = nI (pr j / 5) ∧ yw j = nI (pr j % 5)) (hA : m_A yk P) (H : ∀ s, s < 32 → (∀ x, x < 5 → (s.testBit x = true ↔ ∃ k, k < 2 ^ cc ∧ P k ∧ m_ub cc pr k x = true)) → post (nI s) (yn, nI cc, yo, yp, ym, yt, yl, yb, yw, yk, yh, yC, yN)) : ∃ m, wY_inOrder_166 post yn (nI cc) yo yp ym yt yl yb yw yk yh yC yN m 0 0 := by
  have p10 := m_p10 hcc
  refine loop_0 (fun m k (y : Int32) => wY_inOrder_166 post yn (nI cc) yo yp ym yt yl yb yw yk yh yC yN m y (nI k)) (fun k y => ∃ s, y = nI s ∧ s < 32 ∧ ∀ x, x < 5 → (s.testBit x = true ↔ ∃ k', k' < k ∧ P k' ∧ m_ub cc pr k' x = true)) (2 ^ cc) 0 ⟨0, rfl, by decide, fun x _ => ⟨fun z => by simp at z, fun ⟨_, z, _⟩ => by omega⟩⟩ ?_ ?_
  · rintro m _ ⟨s, rfl, h1, h2⟩
    exact br_t (by rw [bi_shl (by omega)]; exact Int32.le_refl _) (H s h1 h2)
  · rintro m k _ hk ⟨s, rfl, h1, h2⟩ K
    refine br_f (by rw [bi_shl (by omega)]; exact nI_ge hk (by omega)) ⟨vp_in_nI (by omega) (by decide), ?_⟩
    rw [nI_clamp (by omega)]
    refine m_A_br hA (by omega) (fun hn => nm_r (nI_1 k) (K _ ⟨s, rfl, h1, fun x hx => ?_⟩)) (fun hp => y_free hcc (by omega) hbw (nm_r (bi_or _ _) (nm_r (nI_1 k) (K _ ⟨_, rfl, q_or_lt h1 (q_mk5 _), fun x hx => ?_⟩))))
    · rw [h2 x hx]
      constructor
      · rintro ⟨k', z1, z2⟩
        exact ⟨k', by omega, z2⟩
      · rintro ⟨k', z1, z2, z3⟩
        by_cases e : k' = k
        · subst e; exact absurd z2 hn
        · exact ⟨k', by omega, z2, z3⟩
    · rw [Nat.testBit_or, Bool.or_eq_true, h2 x hx, q_mk5_bit _ hx]
      constructor
      · rintro (⟨k', z1, z2⟩ | z)
        · exact ⟨k', by omega, z2⟩
        · exact ⟨k, by omega, hp, z⟩
      · rintro ⟨k', z1, z2, z3⟩
        by_cases e : k' = k
        · subst e; exact Or.inr z3
        · exact Or.inl ⟨k', by omega, z2, z3⟩
theorem y_iO_95 {post : Int32 → SY → Prop} {n cc : Nat} {d : Nat → Nat} {pr : Nat → Nat} (hn : n ≤ 9) (hcc : cc ≤ 10) (hm : ∀ a b, a < 5 → b < 5 → ym (5 * a + b) = zI (e_m n d a b)) (L : m_Ls (e_g n d) (fun _ => True) cc pr) (hbw : ∀ j, j < cc → yb j = nI (pr j / 5) ∧ yw j = nI (pr j % 5)) (hA : m_A yk (fun k => k < 2 ^ cc ∧ m_F (e_g n d) 0 (m_E cc pr k)))
    (H : ∀ s yk' yh', m_R (e_g n d) s → post (nI s) (yn, nI cc, yo, yp, ym, yt, yl, yb, yw, yk', yh', yC, yN)) : ∃ m, wY_inOrder_95 post m 9 yn (nI cc) yo yp ym yt yl yb yw yk yh yC yN := by
  have p10 := m_p10 hcc
  refine ⟨10, ?_⟩
  refine pk_loopD (fun m e (s : (Nat → Int32) × (Nat → Int32)) => wY_inOrder_95 post m (nI e) yn (nI cc) yo yp ym yt yl yb yw s.1 s.2 yC yN) (fun e s => e ≤ 9 ∧ m_A s.1 (fun k => k < 2 ^ cc ∧ m_F (e_g n d) (9 - e) (m_E cc pr k))) ?_ ?_ 9 (yk, yh) ⟨by decide, by rw [Nat.sub_self]; exact hA⟩
  · rintro m ⟨yk', yh'⟩ ⟨_, hA⟩
    dsimp only at hA ⊢
    refine br_t (Int32.le_refl _) (y_iO_166 hcc hbw hA fun s h1 h2 => H s yk' yh' ⟨h1, fun x hx => ?_⟩)
    rw [h2 x hx, m_W_iff L hx]
    constructor
    · rintro ⟨k, _, ⟨z1, z2⟩, z3⟩
      exact ⟨k, z1, z2, m_ub_iff.mp z3⟩
    · rintro ⟨k, z1, z2, z3⟩
      exact ⟨k, z1, ⟨z1, z2⟩, m_ub_iff.mpr z3⟩
  · rintro m e ⟨yk', yh'⟩ ⟨he, hA⟩ K
    dsimp only at hA K ⊢
    have e9 : 9 - (9 - (e + 1)) = e + 1 := by omega
    have e10 : 9 - e = (9 - (e + 1)) + 1 := by omega
    refine br_f (nI_nle (by omega) (by omega)) ?_
    refine loop_0 (fun m' j (y : Int32) => wY_inOrder_103 post (wY_inOrder_95 post m) (nI (e + 1)) yn (nI cc) yo yp ym yt yl yb yw yk' yh' yC yN m' y (nI j)) (fun j y => y = nI (q_mk (fun j => decide (e_g n d (pr j / 5) (pr j % 5) = e + 1)) j)) cc 0 rfl ?_ ?_
    · rintro m' _ rfl
      have hgl := q_mk_lt (fun j => decide (e_g n d (pr j / 5) (pr j % 5) = e + 1)) cc
      have gb : ∀ j, j < cc → ((q_mk (fun j => decide (e_g n d (pr j / 5) (pr j % 5) = e + 1)) cc).testBit j = true ↔ e_g n d (pr j / 5) (pr j % 5) = e + 1) := by
        intro j hj
        rw [q_mk_bit, decide_eq_true hj, Bool.true_and, decide_eq_true_eq]
      refine br_t (Int32.le_refl _) (pk_eq (q_mk (fun j => decide (e_g n d (pr j / 5) (pr j % 5) = e + 1)) cc) 0 (fun hz => nm_r (pk_m1 e) (K (yk', yh') ⟨by omega, m_A_congr hA fun k _ => ?_⟩)) (fun hz => ?_))
      · have sk := m_F_skip (g := e_g n d) (k := 9 - (e + 1)) (E := m_E cc pr k) (fun a b ha hb z => by
          rw [e9] at z
          obtain ⟨j, hj, ej⟩ := L.2.2 (5 * a + b) (by omega) (by rw [show (5 * a + b) / 5 = a by omega, show (5 * a + b) % 5 = b by omega]; omega) trivial
          have := (gb j hj).mpr (by rw [ej, show (5 * a + b) / 5 = a by omega, show (5 * a + b) % 5 = b by omega]; exact z)
          rw [hz] at this
          simp at this)
        rw [e10]
        constructor
        · rintro ⟨z1, z2⟩
          exact ⟨z1, sk.mpr z2⟩
        · rintro ⟨z1, z2⟩
          exact ⟨z1, sk.mp z2⟩
      · refine y_kG hcc (fun a => e_g_0 n d a) L (show 0 < e + 1 by omega) (by omega) gb hbw hA fun yk'' yh'' hA'' => nm_r (pk_m1 e) (K (yk'', yh'') ⟨by omega, m_A_congr hA'' fun k _ => ?_⟩)
        have gb' : ∀ j, j < cc → ((q_mk (fun j => decide (e_g n d (pr j / 5) (pr j % 5) = e + 1)) cc).testBit j = true ↔ e_g n d (pr j / 5) (pr j % 5) = 9 - (9 - (e + 1))) := by
          intro j hj
          rw [e9]; exact gb j hj
        constructor
        · rintro ⟨k0, q, z1, ⟨z2, z3⟩, z4, z5, z6, z7⟩
          have hkl : k < 2 ^ cc := by rw [z6]; exact Nat.or_lt_two_pow z1 z4
          refine ⟨hkl, ?_⟩
          rw [e10]
          exact (m_step L gb' hkl).mpr ⟨k0, q, z1, z3, z4, fun j hj hb => m_nd z5 (by omega) hb, z6, by rw [e9]; exact z7⟩
        · rintro ⟨z1, z2⟩
          rw [e10] at z2
          obtain ⟨k0, q, y1, y2, y3, y4, y5, y6⟩ := (m_step L gb' z1).mp z2
          rw [e9] at y6
          exact ⟨k0, q, y1, ⟨y1, y2⟩, y3, m_nd_of (by omega) y3 y4, y5, y6⟩
    · rintro m' j _ hj rfl K'
      have hp := L.1 j hj
      have la : pr j / 5 < 5 := by omega
      have lb : pr j % 5 < 5 := by omega
      have l9 := e_g_9 hn d (pr j / 5) (pr j % 5)
      refine br_f (nI_ge hj (by omega)) ?_
      rw [nI_clamp (by omega), (hbw j hj).1, (hbw j hj).2, bi_ic (by omega) (by omega), hm _ _ la lb, e_g_z hp.2.1]
      refine ⟨vp_in_nI (by omega) (by decide), vp_in_nI (by omega) (by decide), bi_in (m := 5) la lb (by decide) (by decide), pk_eq (e_g n d (pr j / 5) (pr j % 5)) (e + 1) (fun z => nm_r (bi_add (fun j => decide (e_g n d (pr j / 5) (pr j % 5) = e + 1)) (by omega) (decide_eq_true z)) (nm_r (nI_1 j) (K' _ rfl))) (fun z => nm_r (nI_1 j) (K' _ (by rw [bi_skip (fun j => decide (e_g n d (pr j / 5) (pr j % 5) = e + 1)) (decide_eq_false z)])))⟩
theorem y_iO {post : Int32 → SY → Prop} {n : Nat} {d : Nat → Nat} {v : SY} (R : ry_K n d v) (H : ∀ v' s, m_R (e_g n d) s → ry_K n d v' → post (nI s) v') : wpY_inOrder post v := by
  obtain ⟨yn, yq, yo, yp, ym, yt, yl, yb, yw, yk, yh, yC, yN⟩ := v
  obtain ⟨rfl, hok, hb, hm⟩ := R
  have hn := hok.1
  refine loop_0 (fun m t (s : Int32 × (Nat → Int32) × (Nat → Int32)) => wY_inOrder_7 post (nI n) m (nI t) s.1 yo yp ym yt yl s.2.1 s.2.2 yk yh yC yN) (fun t s => ∃ cc pr, s.1 = nI cc ∧ m_Ls (e_g n d) (fun p => p < t) cc pr ∧ ∀ j, j < cc → s.2.1 j = nI (pr j / 5) ∧ s.2.2 j = nI (pr j % 5)) 25 (0, yb, yw) ⟨0, fun _ => 0, rfl, ⟨fun j hj => by omega, fun j j' hj => by omega, fun p _ _ z => by omega⟩, fun j hj => by omega⟩ ?_ ?_
  · rintro m ⟨q, yb', yw'⟩ ⟨cc, pr, h1, h2, hbw⟩
    dsimp only at h1 hbw ⊢
    subst h1
    have L : m_Ls (e_g n d) (fun _ => True) cc pr := m_Ls_S h2 fun x hx _ => ⟨fun _ => hx, fun _ => trivial⟩
    have hcc := m_Ls_10 (fun a => e_g_0 n d a) (fun a b => e_g_anti) L
    have p10 := m_p10 hcc
    have p1 := Nat.two_pow_pos cc
    refine br_t (Int32.le_refl _) ?_
    refine loop_0 (fun m k (x : Nat → Int32) => wY_inOrder_64 post (nI n) (nI cc) m (nI k) yo yp ym yt yl yb' yw' x yh yC yN) (fun k x => ∀ j, j < k → x j = nI (decide (j = 0)).toNat) 1024 yk (fun j h => by omega) ?_ ?_
    · intro m x h
      refine br_t (Int32.le_refl _) (y_iO_95 hn hcc hm L hbw ?_ fun s yk' yh' hs => H _ s hs ⟨rfl, hok, hb, hm⟩)
      intro k hk
      by_cases e : k = 0
      · subst e
        exact Or.inl ⟨h 0 (by decide), p1, (m_F_0 L p1).mpr rfl⟩
      · refine Or.inr ⟨?_, fun z => e ((m_F_0 L z.1).mp z.2)⟩
        rw [h k hk, decide_eq_false e]; rfl
    · intro m k x hk h K
      refine br_f (nI_ge (b := 1024) hk (by decide)) (pk_eq k 0 (fun e => ⟨vp_in_nI hk (by decide), nm_r (e' := upd x k (nI 1)) (by rw [nI_clamp (by omega), bv_t1]) (nm_r (nI_1 k) (K _ fun j hj => ?_))⟩) (fun e => ⟨vp_in_nI hk (by decide), nm_r (e' := upd x k (nI 0)) (by rw [nI_clamp (by omega), bv_t0]) (nm_r (nI_1 k) (K _ fun j hj => ?_))⟩))
      · by_cases e2 : j = k
        · subst e2; rw [pk_us, decide_eq_true e]; rfl
        · exact (pk_un e2).trans (h j (by omega))
      · by_cases e2 : j = k
        · subst e2; rw [pk_us, decide_eq_false e]; rfl
        · exact (pk_un e2).trans (h j (by omega))
  · rintro m t ⟨q, yb', yw'⟩ ht ⟨cc, pr, h1, h2, hbw⟩ K
    dsimp only at h1 hbw K ⊢
    subst h1
    have r := e_m_r hn d (t / 5) (t % 5)
    have em : ym (nI t).toNatClampNeg = zI (e_m n d (t / 5) (t % 5)) := by
      have := hm (t / 5) (t % 5) (by omega) (by omega)
      rw [show 5 * (t / 5) + t % 5 = t by omega] at this
      rw [nI_clamp (by omega), this]
    refine br_f (nI_ge (b := 25) ht (by decide)) ⟨vp_in_nI ht (by decide), ?_⟩
    rw [em]
    refine zb_le (e_m n d (t / 5) (t % 5)) 0 (fun hle => nm_r (nI_1 t) (K (nI cc, yb', yw') ⟨cc, pr, rfl, m_Ls_S h2 fun x hx hg => ?_, hbw⟩)) (fun hgt => ?_) (by omega) (by omega)
    · by_cases e : x = t
      · subst e
        unfold e_g at hg
        omega
      · omega
    · have hp := m_Ls_push (S' := fun p => p < t + 1) (p := t) h2 ht (by unfold e_g; omega) (by omega) (fun x hx => by omega)
      have h10 := m_Ls_10 (fun a => e_g_0 n d a) (fun a b => e_g_anti) hp
      rw [o_rem (by omega), o_div (by omega)]
      refine ⟨by decide, vp_in_nI (by omega) (by decide), nm_r (e' := upd yb' cc (nI (t / 5))) (by rw [nI_clamp (by omega)]) ⟨by decide, vp_in_nI (by omega) (by decide), nm_r (e' := upd yw' cc (nI (t % 5))) (by rw [nI_clamp (by omega)]) (nm_r (nI_1 cc) (nm_r (nI_1 t) (K (nI (cc + 1), upd yb' cc (nI (t / 5)), upd yw' cc (nI (t % 5))) ⟨cc + 1, _, rfl, hp, fun j hj => ?_⟩)))⟩⟩
      show upd yb' cc (nI (t / 5)) j = nI ((if j = cc then t else pr j) / 5) ∧ upd yw' cc (nI (t % 5)) j = nI ((if j = cc then t else pr j) % 5)
      by_cases ej : j = cc
      · subst ej
        rw [if_pos rfl, pk_us, pk_us]
        exact ⟨rfl, rfl⟩
      · rw [if_neg ej, pk_un ej, pk_un ej]
        exact hbw j (by omega)
end
end
section
def f_fw (v : Nat → Int) : Nat → Nat × Int
  | 0 => (0, 1000)
  | c + 1 => if v c < 0 then f_fw v c else if v c < (f_fw v c).2 then (2 ^ c, v c) else if v c = (f_fw v c).2 then ((f_fw v c).1 ||| 2 ^ c, (f_fw v c).2) else f_fw v c
def f_res (v : Nat → Int) : Nat := if (f_fw v 5).1 = 0 then 31 else (f_fw v 5).1
theorem f_fw_r {v : Nat → Int} (hv : ∀ c, c < 5 → v c = -1002 ∨ (0 ≤ v c ∧ v c ≤ 100)) : ∀ c, c ≤ 5 → (0 ≤ (f_fw v c).2 ∧ (f_fw v c).2 ≤ 1000) ∧ (f_fw v c).1 < 32 := by
  intro c
  induction c with
  | zero => intro _; exact ⟨⟨(by decide : (0 : Int) ≤ 1000), (by decide : (1000 : Int) ≤ 1000)⟩, (by decide : 0 < 32)⟩
  | succ c ih =>
    intro hc
    have h1 := hv c (by omega)
    have h2 := ih (by omega)
    have h3 : 2 ^ c < 32 := Nat.pow_lt_pow_right (a := 2) (n := 5) (by decide) (by omega)
    simp only [f_fw]
    split
    · exact h2
    · split
      · dsimp only; omega
      · split
        · exact ⟨h2.1, q_or_lt h2.2 h3⟩
        · exact h2
theorem f_res_lt {v : Nat → Int} (hv : ∀ c, c < 5 → v c = -1002 ∨ (0 ≤ v c ∧ v c ≤ 100)) : f_res v < 32 := by
  have := (f_fw_r hv 5 (by decide)).2
  unfold f_res
  split <;> omega
theorem q_least (P : Nat → Prop) : ∀ m, P m → ∃ k, P k ∧ ∀ j, P j → k ≤ j := by
  intro m
  induction m using Nat.strongRecOn with
  | ind m ih =>
    intro h
    by_cases g : ∃ j, j < m ∧ P j
    · obtain ⟨j, hj, hp⟩ := g
      exact ih j hj hp
    · exact ⟨m, h, fun j hp => Nat.le_of_not_lt fun hj => g ⟨j, hj, hp⟩⟩
theorem sw_ex {n c : Nat} {d : Nat → Nat} (hok : e_ok n d) (hc : c < 5) : ∃ z, sw_sv n d c z := by
  by_cases h : n = 0
  · exact ⟨-1002, Or.inl ⟨h, rfl⟩⟩
  · obtain ⟨v, hv⟩ := sw_reach hok (Nat.pos_of_ne_zero h) hc
    obtain ⟨k, h1, h2⟩ := q_least (fun v => sw_D d c (sw_st n d c 5) n 0 v) v hv
    exact ⟨(k : Int), Or.inr ⟨Nat.pos_of_ne_zero h, k, rfl, h1, h2⟩⟩
noncomputable def sw_v (n : Nat) (d : Nat → Nat) (c : Nat) : Int := Classical.epsilon (fun z => sw_sv n d c z)
theorem sw_v_of {n c : Nat} {d : Nat → Nat} (hok : e_ok n d) (hc : c < 5) : sw_sv n d c (sw_v n d c) := Classical.epsilon_spec (sw_ex hok hc)
/-- the value of c by rule 15 or 16 -/
noncomputable def f_v (n : Nat) (d : Nat → Nat) (r c : Nat) : Int := if r = 15 then sw_v n d c else v_res n d c
theorem f_v_r {n r : Nat} {d : Nat → Nat} (hok : e_ok n d) : ∀ c, c < 5 → f_v n d r c = -1002 ∨ (0 ≤ f_v n d r c ∧ f_v n d r c ≤ 100) := by
  intro c hc
  unfold f_v
  split
  · have := sw_sv_r hok.1 hc (sw_v_of hok hc)
    omega
  · have := v_res_r (d := d) (c := c) hok.1
    omega
section
variable {xc xk xq : Int32} {xo xr xp xm xb xs xl xt xe xA xB xf xg xL xO xC xN : Nat → Int32}
theorem x_fw {post : Int32 → SX → Prop} {n r : Nat} {d : Nat → Nat} {u : SX} (hr : r = 15 ∨ r = 16) (R : rx_K n d u) (H : ∀ u', rx_K n d u' → post (nI (f_res (f_v n d r))) u') : wpX_fewest post u (nI r) := by
  have hok : e_ok n d := by
    obtain ⟨xc, xk, xq, xo, xr, xp, xm, xb, xs, xl, xt, xe, xA, xB, xf, xg, xL, xO, xC, xN⟩ := u
    exact R.2.2.1
  have hv := f_v_r (r := r) hok
  have hR := f_fw_r hv
  have main : ∃ m, (fun m c (s : Int32 × Int32 × SX) => match s.2.2 with | (xc, xk, xq, xo, xr, xp, xm, xb, xs, xl, xt, xe, xA, xB, xf, xg, xL, xO, xC, xN) => wX_fewest_9 post (nI r) m s.1 s.2.1 (nI c) xc xk xq xo xr xp xm xb xs xl xt xe xA xB xf xg xL xO xC xN) m 0 (0, 1000, u) := by
    refine loop_0 (fun m c (s : Int32 × Int32 × SX) => match s.2.2 with | (xc, xk, xq, xo, xr, xp, xm, xb, xs, xl, xt, xe, xA, xB, xf, xg, xL, xO, xC, xN) => wX_fewest_9 post (nI r) m s.1 s.2.1 (nI c) xc xk xq xo xr xp xm xb xs xl xt xe xA xB xf xg xL xO xC xN) (fun c s => s.1 = nI (f_fw (f_v n d r) c).1 ∧ s.2.1 = zI (f_fw (f_v n d r) c).2 ∧ rx_K n d s.2.2) 5 (0, 1000, u) ⟨rfl, rfl, R⟩ ?_ ?_
    · rintro m ⟨x2, x3, u⟩ ⟨h1, h2, h3⟩
      obtain ⟨xc, xk, xq, xo, xr, xp, xm, xb, xs, xl, xt, xe, xA, xB, xf, xg, xL, xO, xC, xN⟩ := u
      dsimp only at h1 h2 h3 ⊢
      subst h1 h2
      have l := (hR 5 (by decide)).2
      have := H _ h3
      unfold f_res at this
      refine br_t (Int32.le_refl _) (pk_eq (f_fw (f_v n d r) 5).1 0 (fun e => ?_) (fun e => ?_))
      · rw [if_pos e] at this; exact this
      · rw [if_neg e] at this; exact this
    · rintro m c ⟨x2, x3, u⟩ hc ⟨h1, h2, h3⟩ K
      obtain ⟨xc, xk, xq, xo, xr, xp, xm, xb, xs, xl, xt, xe, xA, xB, xf, xg, xL, xO, xC, xN⟩ := u
      dsimp only at h1 h2 h3 ⊢
      subst h1 h2
      have r1 := hR c (by omega)
      have r2 := hv c hc
      have h2c : 2 ^ c < 32 := Nat.pow_lt_pow_right (a := 2) (n := 5) (by decide) hc
      have T : ∀ u', rx_K n d u' → match u' with | (xc, xk, xq, xo, xr, xp, xm, xb, xs, xl, xt, xe, xA, xB, xf, xg, xL, xO, xC, xN) => wX_fewest_36 post (wX_fewest_9 post (nI r) m) (nI r) (nI (f_fw (f_v n d r) c).1) (zI (f_fw (f_v n d r) c).2) (nI c) (zI (f_v n d r c)) xc xk xq xo xr xp xm xb xs xl xt xe xA xB xf xg xL xO xC xN := by
        intro u' h3
        obtain ⟨xc, xk, xq, xo, xr, xp, xm, xb, xs, xl, xt, xe, xA, xB, xf, xg, xL, xO, xC, xN⟩ := u'
        dsimp only
        have K2 := fun x2 x3 e1 e2 => K (x2, x3, (xc, xk, xq, xo, xr, xp, xm, xb, xs, xl, xt, xe, xA, xB, xf, xg, xL, xO, xC, xN)) ⟨e1, e2, h3⟩
        dsimp only at K2
        refine zb_le 0 (f_v n d r c) (fun h0 => zb_le (f_fw (f_v n d r) c).2 (f_v n d r c) (fun h4 => zb_lt (f_fw (f_v n d r) c).2 (f_v n d r c) (fun h5 => nm_r (nI_1 c) (K2 _ _ ?_ ?_)) (fun h5 => nm_r rfl (nm_r (nI_1 c) (K2 _ _ ?_ ?_))) (by omega) (by omega)) (fun h4 => zb_lt (f_fw (f_v n d r) c).2 (f_v n d r c) (fun h5 => absurd h4 (by omega)) (fun h5 => nm_r rfl (nm_r (nI_1 c) (K2 _ _ ?_ ?_))) (by omega) (by omega)) (by omega) (by omega)) (fun h0 => nm_r (nI_1 c) (K2 _ _ ?_ ?_)) (by omega) (by omega)
        · simp only [f_fw]; rw [if_neg (by omega), if_neg (by omega), if_neg (by omega)]
        · simp only [f_fw]; rw [if_neg (by omega), if_neg (by omega), if_neg (by omega)]
        · simp only [f_fw]; rw [if_neg (by omega), if_neg (by omega), if_pos (by omega), bi_shl (by omega), bi_or]
        · simp only [f_fw]; rw [if_neg (by omega), if_neg (by omega), if_pos (by omega), show f_v n d r c = (f_fw (f_v n d r) c).2 by omega]
        · simp only [f_fw]; rw [if_neg (by omega), if_pos (by omega), bi_shl (by omega)]
          exact Int32.zero_or
        · simp only [f_fw]; rw [if_neg (by omega), if_pos (by omega)]
        · simp only [f_fw]; rw [if_pos (by omega)]
        · simp only [f_fw]; rw [if_pos (by omega)]
      have T2 := T (xc, xk, xq, xo, xr, xp, xm, xb, xs, xl, xt, xe, xA, xB, xf, xg, xL, xO, xC, xN) h3
      refine br_f (nI_ge (b := 5) hc (by decide)) ?_
      rcases hr with rfl | rfl
      · refine br_t rfl (x_sw h3 hc fun u' z hz hk => ?_)
        have e : z = f_v n d 15 c := sw_sv_u hz (sw_v_of hok hc)
        subst e
        have T3 := T u' hk
        obtain ⟨xc, xk, xq, xo, xr, xp, xm, xb, xs, xl, xt, xe, xA, xB, xf, xg, xL, xO, xC, xN⟩ := u'
        exact T3
      · refine br_f (by decide) ?_
        obtain ⟨e1, e2, _, _, hcn⟩ := h3
        subst e1
        exact x_rm hok.1 hcn.1 hc T2
  obtain ⟨xc, xk, xq, xo, xr, xp, xm, xb, xs, xl, xt, xe, xA, xB, xf, xg, xL, xO, xC, xN⟩ := u
  obtain ⟨m, hm⟩ := main
  exact ⟨m, hm⟩
end
section
variable {yn yq : Int32} {yo yp ym yt yl yb yw yk yh yC yN : Nat → Int32}
theorem y_fw {post : Int32 → SY → Prop} {n r : Nat} {d : Nat → Nat} {v : SY} {z0 : Int32} (hr : (r = 15 ∧ z0 = 1) ∨ (r = 16 ∧ z0 = 0)) (R : ry_K n d v) (H : ∀ v', ry_K n d v' → post (nI (f_res (f_v n d r))) v') : wpY_fewest post v z0 := by
  obtain ⟨yn, yq, yo, yp, ym, yt, yl, yb, yw, yk, yh, yC, yN⟩ := v
  obtain ⟨rfl, hok, hb, hm⟩ := R
  have hv := f_v_r (r := r) hok
  have hR := f_fw_r hv
  refine loop_0 (fun m c (s : Int32 × Int32 × (Nat → Int32) × (Nat → Int32)) => wY_fewest_9 post z0 m s.1 s.2.1 (nI c) (nI n) yq yo yp ym yt yl yb yw yk yh s.2.2.1 s.2.2.2) (fun c s => s.1 = nI (f_fw (f_v n d r) c).1 ∧ s.2.1 = zI (f_fw (f_v n d r) c).2) 5 (0, 1000, yC, yN) ⟨rfl, rfl⟩ ?_ ?_
  · rintro m ⟨x2, x3, yC', yN'⟩ ⟨h1, h2⟩
    dsimp only at h1 h2 ⊢
    subst h1 h2
    have l := (hR 5 (by decide)).2
    have := H (nI n, yq, yo, yp, ym, yt, yl, yb, yw, yk, yh, yC', yN') ⟨rfl, hok, hb, hm⟩
    unfold f_res at this
    refine br_t (Int32.le_refl _) (pk_eq (f_fw (f_v n d r) 5).1 0 (fun e => ?_) (fun e => ?_))
    · rw [if_pos e] at this; exact this
    · rw [if_neg e] at this; exact this
  · rintro m c ⟨x2, x3, yC', yN'⟩ hc ⟨h1, h2⟩ K
    dsimp only at h1 h2 ⊢
    subst h1 h2
    have r1 := hR c (by omega)
    have r2 := hv c hc
    have h2c : 2 ^ c < 32 := Nat.pow_lt_pow_right (a := 2) (n := 5) (by decide) hc
    have T : ∀ yC' yN' : Nat → Int32, wY_fewest_34 post (wY_fewest_9 post z0 m) z0 (nI (f_fw (f_v n d r) c).1) (zI (f_fw (f_v n d r) c).2) (nI c) (zI (f_v n d r c)) (nI n) yq yo yp ym yt yl yb yw yk yh yC' yN' := by
      intro yC' yN'
      have K2 := fun x2 x3 e1 e2 => K (x2, x3, yC', yN') ⟨e1, e2⟩
      dsimp only at K2
      refine zb_lt (f_v n d r c) 0 (fun h0 => zb_lt (f_v n d r c) 0 (fun _ => zb_lt (f_v n d r c) 0 (fun _ => nm_r (nI_1 c) (K2 _ _ ?_ ?_)) (fun h => absurd h0 (by omega)) (by omega) (by omega)) (fun h => absurd h0 (by omega)) (by omega) (by omega)) (fun h0 => zb_le (f_fw (f_v n d r) c).2 (f_v n d r c) (fun h4 => zb_lt (f_v n d r c) 0 (fun h => absurd h (by omega)) (fun _ => zb_le (f_fw (f_v n d r) c).2 (f_v n d r c) (fun _ => zb_lt (f_v n d r c) 0 (fun h => absurd h (by omega)) (fun _ => zb_eq (f_v n d r c) (f_fw (f_v n d r) c).2 (fun h6 => nm_r rfl (nm_r (nI_1 c) (K2 _ _ ?_ ?_))) (fun h6 => nm_r (nI_1 c) (K2 _ _ ?_ ?_)) (by omega) (by omega)) (by omega) (by omega)) (fun h => absurd h4 (by omega)) (by omega) (by omega)) (by omega) (by omega)) (fun h4 => zb_lt (f_v n d r c) 0 (fun h => absurd h (by omega)) (fun _ => zb_le (f_fw (f_v n d r) c).2 (f_v n d r c) (fun h => absurd h4 (by omega)) (fun _ => zb_lt (f_v n d r c) 0 (fun h => absurd h (by omega)) (fun _ => zb_eq (f_v n d r c) (f_v n d r c) (fun h6 => nm_r rfl (nm_r (nI_1 c) (K2 _ _ ?_ ?_))) (fun h6 => absurd rfl h6) (by omega) (by omega)) (by omega) (by omega)) (by omega) (by omega)) (by omega) (by omega)) (by omega) (by omega)) (by omega) (by omega)
      · simp only [f_fw]; rw [if_pos h0]
      · simp only [f_fw]; rw [if_pos h0]
      · simp only [f_fw]; rw [if_neg (by omega), if_neg (by omega), if_pos h6, bi_shl (by omega), bi_or]
      · simp only [f_fw]; rw [if_neg (by omega), if_neg (by omega), if_pos h6]
      · simp only [f_fw]; rw [if_neg (by omega), if_neg (by omega), if_neg h6]
      · simp only [f_fw]; rw [if_neg (by omega), if_neg (by omega), if_neg h6]
      · simp only [f_fw]; rw [if_neg (by omega), if_pos (by omega), bi_shl (by omega)]
        exact Int32.zero_or
      · simp only [f_fw]; rw [if_neg (by omega), if_pos (by omega)]
    refine br_f (nI_ge (b := 5) hc (by decide)) ?_
    rcases hr with ⟨rfl, rfl⟩ | ⟨rfl, rfl⟩
    · refine br_f (by decide) (y_sw hok hb hc fun z yC'' yN'' hz => ?_)
      · have e : z = f_v n d 15 c := sw_sv_u hz (sw_v_of hok hc)
        subst e
        exact T yC'' yN''
    · refine br_t rfl ?_
      unfold wpY_removals
      exact y_in_T (n := 5) (by decide) (by decide) hc (br_f (by decide) (y_rm hok hb hc (T yC' yN')))
end
end
section
theorem k_dp_ex (n : Nat) (d : Nat → Nat) : ∃ k, k_dp n d k := by
  by_cases h1 : k_hf n d 1
  · exact ⟨1, by decide, by decide, fun _ => h1, fun j q1 q2 => by omega⟩
  by_cases h2 : k_hf n d 2
  · refine ⟨2, by decide, by decide, fun _ => h2, fun j q1 q2 => ?_⟩
    have : j = 1 := by omega
    subst this; exact h1
  by_cases h3 : k_hf n d 3
  · refine ⟨3, by decide, by decide, fun _ => h3, fun j q1 q2 => ?_⟩
    rcases (by omega : j = 1 ∨ j = 2) with rfl | rfl <;> assumption
  by_cases h4 : k_hf n d 4
  · refine ⟨4, by decide, by decide, fun _ => h4, fun j q1 q2 => ?_⟩
    rcases (by omega : j = 1 ∨ j = 2 ∨ j = 3) with rfl | rfl | rfl <;> assumption
  · refine ⟨5, by decide, by decide, fun z => by omega, fun j q1 q2 => ?_⟩
    rcases (by omega : j = 1 ∨ j = 2 ∨ j = 3 ∨ j = 4) with rfl | rfl | rfl | rfl <;> assumption
theorem k_s_ex (n : Nat) (d : Nat → Nat) (r c : Nat) : ∃ z, k_s n d r c z := by
  unfold k_s
  split
  · exact ⟨_, rfl⟩
  · split
    · exact ⟨_, rfl⟩
    · split
      · exact ⟨_, rfl⟩
      · obtain ⟨k, hk⟩ := k_dp_ex n d
        exact ⟨_, k, hk, rfl⟩
noncomputable def k_f (n : Nat) (d : Nat → Nat) (r c : Nat) : Int := Classical.epsilon (fun z => k_s n d r c z)
theorem k_f_of (n : Nat) (d : Nat → Nat) (r c : Nat) : k_s n d r c (k_f n d r c) := Classical.epsilon_spec (k_s_ex n d r c)
theorem k_gr_lt (f : Nat → Int) : ∀ c, c ≤ 5 → (k_gr f c).1 < 32 := by
  intro c
  induction c with
  | zero => intro _; exact (by decide : 0 < 32)
  | succ c ih =>
    intro hc
    have h2 := ih (by omega)
    have h3 : 2 ^ c < 32 := Nat.pow_lt_pow_right (a := 2) (n := 5) (by decide) (by omega)
    simp only [k_gr]
    split
    · exact h3
    · split
      · exact q_or_lt h2 h3
      · exact h2
theorem u_ch_lt (b : Nat → Nat → Bool) (B : Nat → Nat) : ∀ k, u_ch b B k < 32 := by
  intro k
  induction k with
  | zero => exact (by decide : 0 < 32)
  | succ k ih =>
    have h := u_fv_le b (k + 1)
    simp only [u_ch]
    split
    · exact q_or_lt ih (Nat.pow_lt_pow_right (a := 2) (n := 5) (by decide) (by omega))
    · exact ih
/-- the winners by a rule -/
def w_V (n : Nat) (d : Nat → Nat) (r s : Nat) : Prop :=
  if r ≤ 5 then s = (k_gr (k_f n d r) 5).1 else if r ≤ 8 then s = l_acc (k_v n d (r - 6)) 0 else if r = 9 then s = q_mk (r_wn (p_W (e_g n d) 5)) 5 else if r = 10 then m_R (e_g n d) s else if r = 11 then s = u_sb (u_B n d) 30 else if r = 12 then s = q_mk (r_ur (r_C (e_b n d) 5)) 5 else if r = 13 then s = q_mk (u_uc n d) 5 else if r = 14 then s = u_ch (e_b n d) (u_B n d) 31 else s = f_res (f_v n d r)
theorem w_V_u {n : Nat} {d : Nat → Nat} {r s s' : Nat} (h : w_V n d r s) (h' : w_V n d r s') : s = s' := by
  unfold w_V at h h'
  split at h
  · rw [if_pos ‹_›] at h'; rw [h, h']
  rw [if_neg ‹_›] at h'
  split at h
  · rw [if_pos ‹_›] at h'; rw [h, h']
  rw [if_neg ‹_›] at h'
  split at h
  · rw [if_pos ‹_›] at h'; rw [h, h']
  rw [if_neg ‹_›] at h'
  split at h
  · rw [if_pos ‹_›] at h'; exact m_R_u h h'
  rw [if_neg ‹_›] at h'
  split at h
  · rw [if_pos ‹_›] at h'; rw [h, h']
  rw [if_neg ‹_›] at h'
  split at h
  · rw [if_pos ‹_›] at h'; rw [h, h']
  rw [if_neg ‹_›] at h'
  split at h
  · rw [if_pos ‹_›] at h'; rw [h, h']
  rw [if_neg ‹_›] at h'
  split at h
  · rw [if_pos ‹_›] at h'; rw [h, h']
  rw [if_neg ‹_›] at h'
  rw [h, h']
theorem w_V_lt {n : Nat} {d : Nat → Nat} {r s : Nat} (hok : e_ok n d) (h : w_V n d r s) : s < 32 := by
  unfold w_V at h
  split at h
  · rw [h]; exact k_gr_lt _ 5 (by decide)
  split at h
  · rw [h]; exact q_mk5 _
  split at h
  · rw [h]; exact q_mk5 _
  split at h
  · exact h.1
  split at h
  · rw [h]; exact u_sb_lt _ 30 (by decide)
  split at h
  · rw [h]; exact q_mk5 _
  split at h
  · rw [h]; exact q_mk5 _
  split at h
  · rw [h]; exact u_ch_lt _ _ _
  rw [h]; exact f_res_lt (f_v_r hok)
theorem w_St {n : Nat} (hn : n ≤ 9) (d : Nat → Nat) : r_St (e_g n d) (p_W (e_g n d) 5) := p_W_St (fun a b _ _ => e_g_9 hn d a b) (fun a _ => e_g_0 n d a)
section
variable {xc xk xq : Int32} {xo xr xp xm xb xs xl xt xe xA xB xf xg xL xO xC xN : Nat → Int32}
theorem x_gS {post : Int32 → SX → Prop} {n r : Nat} {d : Nat → Nat} {u : SX} (hr : r ≤ 5) (R : rx_K n d u) (H : ∀ u', rx_K n d u' → post (nI (k_gr (k_f n d r) 5).1) u') : wpX_greatestScores post u (nI r) := by
  obtain ⟨xc, xk, xq, xo, xr, xp, xm, xb, xs, xl, xt, xe, xA, xB, xf, xg, xL, xO, xC, xN⟩ := u
  obtain ⟨rfl, rfl, hok, hb, hcn⟩ := R
  unfold wpX_greatestScores
  refine x_fS hr hok hb hcn fun xs' hx => x_gS_14 (f := k_f n d r) (fun c hc => ?_) (H _ ⟨rfl, rfl, hok, hb, hcn⟩)
  obtain ⟨z, h1, h2⟩ := hx c hc
  have e := k_s_u h1 (k_f_of n d r c)
  subst e
  exact ⟨k_s_r hok.1 h1, h2⟩
theorem x_wB {post : Int32 → SX → Prop} {n r : Nat} {d : Nat → Nat} {u : SX} (hr : r ≤ 16) (R : rx_S n d u) (H : ∀ u' s, w_V n d r s → rx_K n d u' → post (nI s) u') : wpX_winnersBy post u (nI r) := by
  obtain ⟨xc, xk, xq, xo, xr, xp, xm, xb, xs, xl, xt, xe, xA, xB, xf, xg, xL, xO, xC, xN⟩ := u
  unfold wpX_winnersBy
  refine x_countAll R fun u' R' => ?_
  clear R
  have R2 := R'
  obtain ⟨xc, xk, xq, xo, xr, xp, xm, xb, xs, xl, xt, xe, xA, xB, xf, xg, xL, xO, xC, xN⟩ := u'
  obtain ⟨_, _, hok, hb, hcn⟩ := R2
  have hn := hok.1
  have V : ∀ s, w_V n d r s ↔ w_V n d r s := fun s => Iff.rfl
  unfold w_V at V H
  refine pk_le 6 r (fun h6 => pk_le 9 r (fun h9 => pk_eq r 9 (fun e => ?_) (fun e9 => pk_eq r 10 (fun e => ?_) (fun e10 => pk_eq r 11 (fun e => ?_) (fun e11 => pk_eq r 12 (fun e => ?_) (fun e12 => pk_eq r 13 (fun e => ?_) (fun e13 => pk_eq r 14 (fun e => ?_) (fun e14 => ?_))))))) (fun h9 => ?_)) (fun h6 => ?_)
  · subst e
    refine x_bS R' fun u' s hs hk => ?_
    have := H u' _ (r_wn_u hs (w_St hn d)) hk
    obtain ⟨xc, xk, xq, xo, xr, xp, xm, xb, xs, xl, xt, xe, xA, xB, xf, xg, xL, xO, xC, xN⟩ := u'
    exact this
  · subst e
    refine x_bC R' fun u' s hs hk => ?_
    have := H u' s hs hk
    obtain ⟨xc, xk, xq, xo, xr, xp, xm, xb, xs, xl, xt, xe, xA, xB, xf, xg, xL, xO, xC, xN⟩ := u'
    exact this
  · subst e
    exact x_ss hcn.2.2 (H _ _ rfl R')
  · subst e
    refine x_ur R' fun u' hk => ?_
    have := H u' _ rfl hk
    obtain ⟨xc, xk, xq, xo, xr, xp, xm, xb, xs, xl, xt, xe, xA, xB, xf, xg, xL, xO, xC, xN⟩ := u'
    exact this
  · subst e
    exact x_uc hcn.2.2 (H _ _ rfl R')
  · subst e
    exact x_ch hcn.2.2 (H _ _ rfl R')
  · refine x_fw (by omega) R' fun u' hk => ?_
    have := H u' (f_res (f_v n d r)) (by rw [if_neg (by omega), if_neg (by omega), if_neg e9, if_neg e10, if_neg e11, if_neg e12, if_neg e13, if_neg e14]) hk
    obtain ⟨xc, xk, xq, xo, xr, xp, xm, xb, xs, xl, xt, xe, xA, xB, xf, xg, xL, xO, xC, xN⟩ := u'
    exact this
  · obtain ⟨k, rfl⟩ : ∃ k, r = k + 6 := ⟨r - 6, by omega⟩
    refine x_bE (by omega) R' fun u' hk => ?_
    have := H u' (l_acc (k_v n d k) 0) (by rw [if_neg (by omega), if_pos (by omega), Nat.add_sub_cancel]) hk
    obtain ⟨xc, xk, xq, xo, xr, xp, xm, xb, xs, xl, xt, xe, xA, xB, xf, xg, xL, xO, xC, xN⟩ := u'
    exact this
  · refine x_gS (by omega) R' fun u' hk => ?_
    have := H u' _ (by rw [if_pos (by omega)]) hk
    obtain ⟨xc, xk, xq, xo, xr, xp, xm, xb, xs, xl, xt, xe, xA, xB, xf, xg, xL, xO, xC, xN⟩ := u'
    exact this
end
section
variable {yn yq : Int32} {yo yp ym yt yl yb yw yk yh yC yN : Nat → Int32}
theorem y_wn {post : Int32 → SY → Prop} {n r : Nat} {d : Nat → Nat} {v : SY} (hr : r ≤ 16) (R : ry_S n d v) (H : ∀ v' s, w_V n d r s → ry_K n d v' → post (nI s) v') : wpY_winners post v (nI r) := by
  obtain ⟨yn, yq, yo, yp, ym, yt, yl, yb, yw, yk, yh, yC, yN⟩ := v
  unfold wpY_winners
  refine y_in_T (n := 17) (by decide) (by decide) (by omega) (br_f (by decide) ?_)
  refine y_count R fun v' R' => ?_
  clear R
  have R2 := R'
  obtain ⟨yn, yq, yo, yp, ym, yt, yl, yb, yw, yk, yh, yC, yN⟩ := v'
  obtain ⟨e0, hok, hb, hm⟩ := R2
  have hn := hok.1
  unfold w_V at H
  subst e0
  refine pk_lt 5 r (fun h6 => pk_lt 8 r (fun h9 => pk_eq r 9 (fun e => ?_) (fun e9 => pk_eq r 10 (fun e => ?_) (fun e10 => pk_eq r 11 (fun e => ?_) (fun e11 => pk_eq r 12 (fun e => ?_) (fun e12 => pk_eq r 13 (fun e => ?_) (fun e13 => pk_eq r 14 (fun e => ?_) (fun e14 => pk_eq r 15 (fun e15 => ?_) (fun e15 => ?_)))))))) (fun h9 => ?_)) (fun h6 => ?_)
  · subst e
    refine y_stg R' fun u' s hs hk => ?_
    have := H u' _ (r_wn_u hs (w_St hn d)) hk
    obtain ⟨yn, yq, yo, yp, ym, yt, yl, yb, yw, yk, yh, yC, yN⟩ := u'
    exact this
  · subst e
    refine y_iO R' fun u' s hs hk => ?_
    have := H u' s hs hk
    obtain ⟨yn, yq, yo, yp, ym, yt, yl, yb, yw, yk, yh, yC, yN⟩ := u'
    exact this
  · subst e
    exact y_ss hn hm (H _ _ rfl R')
  · subst e
    refine y_ans R' fun u' s hs hk => ?_
    have := H u' _ (r_an_ur hs) hk
    obtain ⟨yn, yq, yo, yp, ym, yt, yl, yb, yw, yk, yh, yC, yN⟩ := u'
    exact this
  · subst e
    exact y_uc hn hm (H _ _ rfl R')
  · subst e
    exact y_ch hn hm (H _ _ rfl R')
  · unfold wY_winners_125
    refine y_fw (r := r) (Or.inl ⟨e15, rfl⟩) R' fun u' hk => ?_
    have := H u' (f_res (f_v n d r)) (by rw [if_neg (by omega), if_neg (by omega), if_neg e9, if_neg e10, if_neg e11, if_neg e12, if_neg e13, if_neg e14]) hk
    obtain ⟨yn, yq, yo, yp, ym, yt, yl, yb, yw, yk, yh, yC, yN⟩ := u'
    exact this
  · unfold wY_winners_125
    refine y_fw (r := r) (Or.inr ⟨by omega, rfl⟩) R' fun u' hk => ?_
    have := H u' (f_res (f_v n d r)) (by rw [if_neg (by omega), if_neg (by omega), if_neg e9, if_neg e10, if_neg e11, if_neg e12, if_neg e13, if_neg e14]) hk
    obtain ⟨yn, yq, yo, yp, ym, yt, yl, yb, yw, yk, yh, yC, yN⟩ := u'
    exact this
  · obtain ⟨k, rfl⟩ : ∃ k, r = k + 6 := ⟨r - 6, by omega⟩
    have e6 : nI (k + 6) - 6 = nI k := by
      rw [show (6 : Int32) = nI 6 from rfl, pk_sub (by omega), Nat.add_sub_cancel]
    rw [e6]
    refine y_el (by omega) R' fun u' hk => ?_
    have := H u' (l_acc (k_v n d k) 0) (by rw [if_neg (by omega), if_pos (by omega), Nat.add_sub_cancel]) hk
    obtain ⟨yn, yq, yo, yp, ym, yt, yl, yb, yw, yk, yh, yC, yN⟩ := u'
    exact this
  · exact y_hi (f := k_f n d r) (by omega) hn hb hm (fun c _ => k_f_of n d r c) (H _ _ (by rw [if_pos (by omega)]) R')
end
end
section
theorem g_rg {v : Int32} {N : Nat} (hN : N < 2 ^ 30) (h : ¬ ∃ i, i < N ∧ v = nI i) : v < 0 ∨ (¬ v < 0 ∧ nI N ≤ v) := by
  by_cases h0 : v < 0
  · exact Or.inl h0
  · obtain ⟨j, hj, rfl⟩ := nI_of h0
    exact Or.inr ⟨h0, nI_le (Nat.le_of_not_lt fun z => h ⟨j, z, rfl⟩) hj⟩
theorem g_gt {v : Int32} {m : Nat} (hm : m + 1 < 2 ^ 31) (h : nI (m + 1) ≤ v) : nI m < v := Int32.lt_of_lt_of_le (nI_lt (by omega) hm) h
theorem g_nle {v : Int32} {m : Nat} (hm : m + 1 < 2 ^ 31) (h : nI (m + 1) ≤ v) : ¬ v ≤ nI m := Int32.not_le.mpr (g_gt hm h)
theorem g_nlt {v : Int32} {m : Nat} (h : nI m ≤ v) : ¬ v < nI m := Int32.not_lt.mpr h
/-- the place of the best of s in an order -/
def b_p (o s : Nat) : Nat → Nat
  | 0 => 5
  | j + 1 => if s.testBit (o / 5 ^ j % 5) = true then 4 - j else b_p o s j
theorem b_p_le (o s : Nat) : ∀ j, b_p o s j ≤ 5 := by
  intro j
  induction j with
  | zero => exact Nat.le_refl 5
  | succ j ih => simp only [b_p]; split <;> omega
def g_hit (n : Nat) (d : Nat → Nat) (r i best o : Nat) : Prop := o_ok o = true ∧ ∃ s, w_V n (q_up d i o) r s ∧ b_p (d i) s 5 < best
/-- the answer of gain -/
def g_R (n : Nat) (d : Nat → Nat) (r i best : Nat) (res : Int32) : Prop := (∃ o, o < 3125 ∧ res = nI o ∧ g_hit n d r i best o ∧ ∀ o', o' < o → ¬ g_hit n d r i best o') ∨ (res = -1002 ∧ ∀ o, o < 3125 → ¬ g_hit n d r i best o)
def g_A (n : Nat) (d : Nat → Nat) (r i : Nat) (res : Int32) : Prop := ∃ s, w_V n d r s ∧ g_R n d r i (b_p (d i) s 5) res
theorem g_R_u {n : Nat} {d : Nat → Nat} {r i best : Nat} {x y : Int32} (h : g_R n d r i best x) (h' : g_R n d r i best y) : x = y := by
  rcases h with ⟨o, h1, rfl, h2, h3⟩ | ⟨rfl, h1⟩
  · rcases h' with ⟨o', g1, rfl, g2, g3⟩ | ⟨rfl, g1⟩
    · rcases Nat.lt_trichotomy o o' with h | rfl | h
      · exact absurd h2 (g3 o h)
      · rfl
      · exact absurd g2 (h3 o' h)
    · exact absurd h2 (g1 o h1)
  · rcases h' with ⟨o', g1, rfl, g2, g3⟩ | ⟨rfl, g1⟩
    · exact absurd g2 (h1 o' g1)
    · rfl
theorem g_A_u {n : Nat} {d : Nat → Nat} {r i : Nat} {x y : Int32} (h : g_A n d r i x) (h' : g_A n d r i y) : x = y := by
  obtain ⟨s, h1, h2⟩ := h
  obtain ⟨s', g1, g2⟩ := h'
  have := w_V_u h1 g1
  subst this
  exact g_R_u h2 g2
theorem q_up_up (d : Nat → Nat) (i o o' : Nat) : q_up (q_up d i o) i o' = q_up d i o' := by
  funext j; unfold q_up
  by_cases e : j = i
  · rw [if_pos e, if_pos e]
  · rw [if_neg e, if_neg e, if_neg e]
theorem q_up_self (d : Nat → Nat) (i : Nat) : q_up d i (d i) = d := by
  funext j; unfold q_up
  by_cases e : j = i
  · rw [if_pos e, e]
  · rw [if_neg e]
theorem g_m1002 : ¬ (0 : Int32) ≤ -1002 := by decide
section
variable {xc xk xq : Int32} {xo xr xp xm xb xs xl xt xe xA xB xf xg xL xO xC xN : Nat → Int32}
theorem x_bP {post : Int32 → Prop} {o s : Nat} (ho : o < 3125) (hs : s < 32) (H : post (nI (b_p o s 5))) : wpX_bestPlace post (xc, xk, xq, xo, xr, xp, xm, xb, xs, xl, xt, xe, xA, xB, xf, xg, xL, xO, xC, xN) (nI o) (nI s) := by
  refine ⟨6, ?_⟩
  refine pk_loopD (fun m e (y : Int32 × Int32) => wX_bestPlace_8 post (nI s) xc xk xq xo xr xp xm xb xs xl xt xe xA xB xf xg xL xO xC xN m y.1 y.2 (nI e - 1)) (fun e y => e ≤ 5 ∧ y = (nI (b_p o s (5 - e)), nI (o / 5 ^ (5 - e)))) ?_ ?_ 5 (5, nI o) ⟨Nat.le_refl 5, by rw [Nat.sub_self, Nat.pow_zero, Nat.div_one]; rfl⟩
  · rintro m _ ⟨_, rfl⟩
    exact br_t (by decide) H
  · rintro m e _ ⟨he, rfl⟩ K
    dsimp only at K ⊢
    rw [nI_pred]
    have hb : o / 5 ^ (5 - (e + 1)) < 2 ^ 31 := Nat.lt_of_le_of_lt (o_le o _) (by omega)
    have hm : o / 5 ^ (5 - (e + 1)) % 5 < 5 := Nat.mod_lt _ (by decide)
    have e5 : 5 - e = 5 - (e + 1) + 1 := by omega
    have e4 : 4 - (5 - (e + 1)) = e := by omega
    refine br_f (nI_pos (by omega)) ⟨by decide, ?_⟩
    rw [o_rem hb, o_div hb, o_shr]
    refine x_isIn (by omega) (by omega) (fun h => ⟨by decide, nm_e (nm_r (e' := nI e - 1) (Int32.sub_eq_add_neg _ _).symm (K (_, _) ⟨by omega, ?_⟩))⟩) (fun h => ⟨by decide, nm_e (nm_r (e' := nI e - 1) (Int32.sub_eq_add_neg _ _).symm (K (_, _) ⟨by omega, ?_⟩))⟩)
    · rw [e5]; simp only [b_p]; rw [if_neg (by rw [h]; decide)]; rfl
    · rw [e5]; simp only [b_p]; rw [if_pos h, e4]; rfl
theorem x_gn_57 {post : Int32 → SX → Prop} {n r i best : Nat} {d : Nat → Nat} {u : SX} (hr : r ≤ 14) (hi : i < n) (hbest : best ≤ 5) (hd : o_ok (d i) = true) (R : rx_S n d u) (H : ∀ u' res, g_R n d r i best res → rx_S n d u' → post res u') : ∃ m, match u with | (xc, xk, xq, xo, xr, xp, xm, xb, xs, xl, xt, xe, xA, xB, xf, xg, xL, xO, xC, xN) => wX_gain_57 post (nI r) (nI i) (nI (d i)) (nI best) m (-1002) 0 xc xk xq xo xr xp xm xb xs xl xt xe xA xB xf xg xL xO xC xN := by
  have hdl := o_ok_lt hd
  have ex : ∀ x6 u, g_R n d r i best x6 → (∃ d', rx_S n d' u ∧ ∀ o, q_up d' i o = q_up d i o) → match u with | (xc, xk, xq, xo, xr, xp, xm, xb, xs, xl, xt, xe, xA, xB, xf, xg, xL, xO, xC, xN) => wX_gain_118 post (nI i) (nI (d i)) x6 xc xk xq xo xr xp xm xb xs xl xt xe xA xB xf xg xL xO xC xN := by
    rintro x6 u hg ⟨d', R', hq⟩
    obtain ⟨xc, xk, xq, xo, xr, xp, xm, xb, xs, xl, xt, xe, xA, xB, xf, xg, xL, xO, xC, xN⟩ := u
    obtain ⟨rfl, hok, hb, _⟩ := R'
    have hn := hok.1
    dsimp only
    unfold wX_gain_118
    refine x_put (by omega) hd fun xr' h1 h2 => H _ x6 hg ⟨rfl, ?_, ?_, Or.inl rfl⟩
    · rw [← q_up_self d i, ← hq]; exact e_ok_up hok hd
    · have := e_bal_put hb h1 h2
      rwa [hq, q_up_self] at this
  refine loop_0 (fun m k (s : Int32 × SX) => match s.2 with | (xc, xk, xq, xo, xr, xp, xm, xb, xs, xl, xt, xe, xA, xB, xf, xg, xL, xO, xC, xN) => wX_gain_57 post (nI r) (nI i) (nI (d i)) (nI best) m s.1 (nI k) xc xk xq xo xr xp xm xb xs xl xt xe xA xB xf xg xL xO xC xN) (fun k s => ((s.1 = -1002 ∧ ∀ o, o < k → ¬ g_hit n d r i best o) ∨ (∃ o, o < 3125 ∧ s.1 = nI o ∧ g_hit n d r i best o ∧ ∀ o', o' < o → ¬ g_hit n d r i best o')) ∧ ∃ d', rx_S n d' s.2 ∧ ∀ o, q_up d' i o = q_up d i o) 3125 (-1002, u) ⟨Or.inl ⟨rfl, fun o h => by omega⟩, d, R, fun _ => rfl⟩ ?_ ?_
  · rintro m ⟨x6, u⟩ ⟨h1, h2⟩
    dsimp only at h1 h2
    have hg : g_R n d r i best x6 := by
      rcases h1 with ⟨e, h⟩ | h
      · exact Or.inr ⟨e, h⟩
      · exact Or.inl h
    have E := ex x6 u hg h2
    obtain ⟨xc, xk, xq, xo, xr, xp, xm, xb, xs, xl, xt, xe, xA, xB, xf, xg, xL, xO, xC, xN⟩ := u
    exact br_t (Int32.le_refl _) E
  · rintro m k ⟨x6, u⟩ hk ⟨h1, h2⟩ K
    dsimp only at h1 h2
    rcases h1 with ⟨rfl, h1⟩ | h1
    · obtain ⟨d', R', hq⟩ := h2
      have nx : ∀ u, ¬ g_hit n d r i best k → (∃ d', rx_S n d' u ∧ ∀ o, q_up d' i o = q_up d i o) → match u with | (xc, xk, xq, xo, xr, xp, xm, xb, xs, xl, xt, xe, xA, xB, xf, xg, xL, xO, xC, xN) => wX_gain_57 post (nI r) (nI i) (nI (d i)) (nI best) m (-1002) (nI (k + 1)) xc xk xq xo xr xp xm xb xs xl xt xe xA xB xf xg xL xO xC xN := by
        intro u hn hs
        refine K (-1002, u) ⟨Or.inl ⟨rfl, fun o ho => ?_⟩, hs⟩
        by_cases e : o = k
        · subst e; exact hn
        · exact h1 o (by omega)
      by_cases hok : o_ok k = true
      · have hput : ∀ u1, rx_S n (q_up d i k) u1 → match u1 with | (xc, xk, xq, xo, xr, xp, xm, xb, xs, xl, xt, xe, xA, xB, xf, xg, xL, xO, xC, xN) => wpX_winnersBy (fun r_115 u => match u with | (xc, xk, xq, xo, xr, xp, xm, xb, xs, xl, xt, xe, xA, xB, xf, xg, xL, xO, xC, xN) => (wpX_bestPlace (fun r_136 => (((nI best ≤ r_136 → (∀ x7_158 : Int32, x7_158 = nI k + 1 → (wX_gain_57 post (nI r) (nI i) (nI (d i)) (nI best) m (-1002) x7_158 xc xk xq xo xr xp xm xb xs xl xt xe xA xB xf xg xL xO xC xN))) ∧ (¬ nI best ≤ r_136 → (∀ x7_159 : Int32, x7_159 = nI k + 1 → (wX_gain_57 post (nI r) (nI i) (nI (d i)) (nI best) m (nI k) x7_159 xc xk xq xo xr xp xm xb xs xl xt xe xA xB xf xg xL xO xC xN)))))) (xc, xk, xq, xo, xr, xp, xm, xb, xs, xl, xt, xe, xA, xB, xf, xg, xL, xO, xC, xN) (nI (d i)) r_115)) (xc, xk, xq, xo, xr, xp, xm, xb, xs, xl, xt, xe, xA, xB, xf, xg, xL, xO, xC, xN) (nI r) := by
          intro u1 R1
          have hok2 : e_ok n (q_up d i k) := by
            obtain ⟨xc, xk, xq, xo, xr, xp, xm, xb, xs, xl, xt, xe, xA, xB, xf, xg, xL, xO, xC, xN⟩ := u1
            exact R1.2.1
          have W : wpX_winnersBy (fun r_115 u => match u with | (xc, xk, xq, xo, xr, xp, xm, xb, xs, xl, xt, xe, xA, xB, xf, xg, xL, xO, xC, xN) => (wpX_bestPlace (fun r_136 => (((nI best ≤ r_136 → (∀ x7_158 : Int32, x7_158 = nI k + 1 → (wX_gain_57 post (nI r) (nI i) (nI (d i)) (nI best) m (-1002) x7_158 xc xk xq xo xr xp xm xb xs xl xt xe xA xB xf xg xL xO xC xN))) ∧ (¬ nI best ≤ r_136 → (∀ x7_159 : Int32, x7_159 = nI k + 1 → (wX_gain_57 post (nI r) (nI i) (nI (d i)) (nI best) m (nI k) x7_159 xc xk xq xo xr xp xm xb xs xl xt xe xA xB xf xg xL xO xC xN)))))) (xc, xk, xq, xo, xr, xp, xm, xb, xs, xl, xt, xe, xA, xB, xf, xg, xL, xO, xC, xN) (nI (d i)) r_115)) u1 (nI r) := by
            refine x_wB (by omega) R1 fun u2 s hs hk2 => ?_
            have hsl := w_V_lt hok2 hs
            have hbp := b_p_le (d i) s 5
            have R2 := rx_K_S hk2
            have N1 := nx u2
            have N2 := K (nI k, u2)
            obtain ⟨xc, xk, xq, xo, xr, xp, xm, xb, xs, xl, xt, xe, xA, xB, xf, xg, xL, xO, xC, xN⟩ := u2
            refine x_bP hdl hsl (pk_le best (b_p (d i) s 5) (fun hle => nm_r (nI_1 k) (N1 ?_ ⟨_, R2, fun o => q_up_up d i k o⟩)) (fun hgt => nm_r (nI_1 k) (N2 ⟨Or.inr ⟨k, hk, rfl, ⟨hok, s, hs, hgt⟩, h1⟩, _, R2, fun o => q_up_up d i k o⟩)))
            rintro ⟨_, s', hs', hlt⟩
            have := w_V_u hs hs'
            subst this
            omega
          obtain ⟨xc, xk, xq, xo, xr, xp, xm, xb, xs, xl, xt, xe, xA, xB, xf, xg, xL, xO, xC, xN⟩ := u1
          exact W
        obtain ⟨xc, xk, xq, xo, xr, xp, xm, xb, xs, xl, xt, xe, xA, xB, xf, xg, xL, xO, xC, xN⟩ := u
        obtain ⟨rfl, hok1, hb, _⟩ := R'
        have hn := hok1.1
        refine br_f (nI_ge (b := 3125) hk (by decide)) (br_f g_m1002 (x_isO_t hok (br_f (by decide) (x_put (by omega) hok fun xr' q1 q2 => ?_))))
        refine hput (nI n, 0, xq, upd xo i (nI k), xr', xp, xm, xb, xs, xl, xt, xe, xA, xB, xf, xg, xL, xO, xC, xN) ⟨rfl, ?_, ?_, Or.inl rfl⟩
        · rw [← hq]; exact e_ok_up hok1 hok
        · rw [← hq]; exact e_bal_put hb q1 q2
      · have N1 := nx u (fun z => hok z.1) ⟨d', R', hq⟩
        obtain ⟨xc, xk, xq, xo, xr, xp, xm, xb, xs, xl, xt, xe, xA, xB, xf, xg, xL, xO, xC, xN⟩ := u
        refine br_f (nI_ge (b := 3125) hk (by decide)) (br_f g_m1002 (x_isO_f ?_ (br_t rfl (nm_r (nI_1 k) N1))))
        rintro ⟨o, e, ho⟩
        have := o_ok_lt ho
        have := (nI_eq (by omega) (by omega)).mp e
        subst this
        exact hok ho
    · have E := ex x6 u (Or.inl h1) h2
      obtain ⟨o, q1, rfl, _⟩ := h1
      obtain ⟨xc, xk, xq, xo, xr, xp, xm, xb, xs, xl, xt, xe, xA, xB, xf, xg, xL, xO, xC, xN⟩ := u
      exact br_f (nI_ge (b := 3125) hk (by decide)) (br_t (nI_pos' (by omega)) E)
theorem x_gain {post : Int32 → SX → Prop} {n r i : Nat} {d : Nat → Nat} {u : SX} (hr : r ≤ 14) (hi : i < n) (R : rx_S n d u) (H : ∀ u' res, g_A n d r i res → rx_S n d u' → post res u') : wpX_gain post u (nI r) (nI i) := by
  have hok : e_ok n d := by
    obtain ⟨xc, xk, xq, xo, xr, xp, xm, xb, xs, xl, xt, xe, xA, xB, xf, xg, xL, xO, xC, xN⟩ := u
    exact R.2.1
  have hn := hok.1
  have hd := hok.2 i hi
  have W : wpX_winnersBy (fun r_7 u => match u with | (xc, xk, xq, xo, xr, xp, xm, xb, xs, xl, xt, xe, xA, xB, xf, xg, xL, xO, xC, xN) => (wpX_bestPlace (fun r_28 => (∃ n57 : Nat, wX_gain_57 post (nI r) (nI i) (nI (d i)) r_28 n57 (-1002) 0 xc xk xq xo xr xp xm xb xs xl xt xe xA xB xf xg xL xO xC xN)) (xc, xk, xq, xo, xr, xp, xm, xb, xs, xl, xt, xe, xA, xB, xf, xg, xL, xO, xC, xN) (nI (d i)) r_7)) u (nI r) := by
    refine x_wB (by omega) R fun u2 s hs hk2 => ?_
    have G := x_gn_57 (best := b_p (d i) s 5) (post := post) hr hi (b_p_le _ _ _) hd (rx_K_S hk2) (fun u' res hg hR => H u' res ⟨s, hs, hg⟩ hR)
    obtain ⟨xc, xk, xq, xo, xr, xp, xm, xb, xs, xl, xt, xe, xA, xB, xf, xg, xL, xO, xC, xN⟩ := u2
    exact x_bP (o_ok_lt hd) (w_V_lt hok hs) G
  obtain ⟨xc, xk, xq, xo, xr, xp, xm, xb, xs, xl, xt, xe, xA, xB, xf, xg, xL, xO, xC, xN⟩ := u
  obtain ⟨rfl, _, hb, _⟩ := R
  refine br_f (nI_pos (by omega)) (br_f (nI_nlt (a := 14) (by omega) (by decide)) (br_f (nI_pos (by omega)) (br_t (nI_lt hi (by omega)) ⟨vp_in_nI (by omega) (by decide), nm_r (e' := nI (d i)) (by rw [nI_clamp (by omega), (hb i hi).1]) W⟩)))
theorem x_gain_f {post : Int32 → SX → Prop} {n : Nat} {d : Nat → Nat} {v1 v2 : Int32} {u : SX} (R : rx_S n d u) (h : ¬ ((∃ r, r < 15 ∧ v1 = nI r) ∧ ∃ i, i < n ∧ v2 = nI i)) (H : post (-1000) u) : wpX_gain post u v1 v2 := by
  obtain ⟨xc, xk, xq, xo, xr, xp, xm, xb, xs, xl, xt, xe, xA, xB, xf, xg, xL, xO, xC, xN⟩ := u
  obtain ⟨rfl, hok, _⟩ := R
  have hn := hok.1
  by_cases h1 : ∃ r, r < 15 ∧ v1 = nI r
  · have h2 : ¬ ∃ i, i < n ∧ v2 = nI i := fun z => h ⟨h1, z⟩
    obtain ⟨r, hr, rfl⟩ := h1
    refine br_f (nI_pos (by omega)) (br_f (nI_nlt (a := 14) (by omega) (by decide)) ?_)
    rcases g_rg (by omega) h2 with z | ⟨z1, z2⟩
    · exact br_t z H
    · exact br_f z1 (br_f (g_nlt z2) H)
  · rcases g_rg (by decide) h1 with z | ⟨z1, z2⟩
    · exact br_t z H
    · exact br_f z1 (br_t (g_gt (m := 14) (by decide) z2) H)
end
end
section
section
variable {yn yq : Int32} {yo yp ym yt yl yb yw yk yh yC yN : Nat → Int32}
theorem y_bP {post : Int32 → Prop} {o s : Nat} (ho : o < 3125) (hs : s < 32) (H : post (nI (b_p o s 5))) : wpY_bestPlace post (yn, yq, yo, yp, ym, yt, yl, yb, yw, yk, yh, yC, yN) (nI s) (nI o) := by
  refine ⟨6, ?_⟩
  refine pk_loopD (fun m e (y : Int32 × Int32) => wY_bestPlace_8 post (nI s) yn yq yo yp ym yt yl yb yw yk yh yC yN m y.2 y.1 (nI e - 1)) (fun e y => e ≤ 5 ∧ y = (nI (b_p o s (5 - e)), nI (o / 5 ^ (5 - e)))) ?_ ?_ 5 (5, nI o) ⟨Nat.le_refl 5, by rw [Nat.sub_self, Nat.pow_zero, Nat.div_one]; rfl⟩
  · rintro m _ ⟨_, rfl⟩
    exact br_t (by decide) H
  · rintro m e _ ⟨he, rfl⟩ K
    dsimp only at K ⊢
    rw [nI_pred]
    have hb : o / 5 ^ (5 - (e + 1)) < 2 ^ 31 := Nat.lt_of_le_of_lt (o_le o _) (by omega)
    have hm : o / 5 ^ (5 - (e + 1)) % 5 < 5 := Nat.mod_lt _ (by decide)
    have e5 : 5 - e = 5 - (e + 1) + 1 := by omega
    have e4 : 4 - (5 - (e + 1)) = e := by omega
    refine br_f (nI_pos (by omega)) ⟨by decide, ?_⟩
    rw [o_rem hb, o_div hb, o_shr]
    refine bi_1 s _ (by omega) (by omega) (fun h => ⟨by decide, nm_e (nm_r (e' := nI e - 1) (Int32.sub_eq_add_neg _ _).symm (K (_, _) ⟨by omega, ?_⟩))⟩) (fun h => ⟨by decide, nm_e (nm_r (e' := nI e - 1) (Int32.sub_eq_add_neg _ _).symm (K (_, _) ⟨by omega, ?_⟩))⟩)
    · rw [e5]; simp only [b_p]; rw [if_pos h, e4]; rfl
    · rw [e5]; simp only [b_p]; rw [if_neg (by rw [h]; decide)]; rfl
theorem y_gn_61 {post : Int32 → SY → Prop} {n r i best : Nat} {d : Nat → Nat} {u : SY} (hr : r ≤ 14) (hi : i < n) (hbest : best ≤ 5) (hd : o_ok (d i) = true) (R : ry_S n d u) (H : ∀ u' res, g_R n d r i best res → ry_S n d u' → post res u') : ∃ m, match u with | (yn, yq, yo, yp, ym, yt, yl, yb, yw, yk, yh, yC, yN) => wY_gain_61 post (nI r) (nI i) (nI (d i)) (nI best) m (-1002) 0 yn yq yo yp ym yt yl yb yw yk yh yC yN := by
  have hdl := o_ok_lt hd
  have ex : ∀ x6 u, g_R n d r i best x6 → (∃ d', ry_S n d' u ∧ ∀ o, q_up d' i o = q_up d i o) → match u with | (yn, yq, yo, yp, ym, yt, yl, yb, yw, yk, yh, yC, yN) => wY_gain_127 post (nI i) (nI (d i)) x6 yn yq yo yp ym yt yl yb yw yk yh yC yN := by
    rintro x6 u hg ⟨d', R', hq⟩
    obtain ⟨yn, yq, yo, yp, ym, yt, yl, yb, yw, yk, yh, yC, yN⟩ := u
    obtain ⟨rfl, hok, hb⟩ := R'
    have hn := hok.1
    dsimp only
    unfold wY_gain_127
    refine y_write (by omega) hd fun yp' h1 h2 => H _ x6 hg ⟨rfl, ?_, ?_⟩
    · rw [← q_up_self d i, ← hq]; exact e_ok_up hok hd
    · have := e_balY_put hb h1 h2
      rwa [hq, q_up_self] at this
  refine loop_0 (fun m k (s : Int32 × SY) => match s.2 with | (yn, yq, yo, yp, ym, yt, yl, yb, yw, yk, yh, yC, yN) => wY_gain_61 post (nI r) (nI i) (nI (d i)) (nI best) m s.1 (nI k) yn yq yo yp ym yt yl yb yw yk yh yC yN) (fun k s => ((s.1 = -1002 ∧ ∀ o, o < k → ¬ g_hit n d r i best o) ∨ (∃ o, o < 3125 ∧ s.1 = nI o ∧ g_hit n d r i best o ∧ ∀ o', o' < o → ¬ g_hit n d r i best o')) ∧ ∃ d', ry_S n d' s.2 ∧ ∀ o, q_up d' i o = q_up d i o) 3125 (-1002, u) ⟨Or.inl ⟨rfl, fun o h => by omega⟩, d, R, fun _ => rfl⟩ ?_ ?_
  · rintro m ⟨x6, u⟩ ⟨h1, h2⟩
    dsimp only at h1 h2
    have hg : g_R n d r i best x6 := by
      rcases h1 with ⟨e, h⟩ | h
      · exact Or.inr ⟨e, h⟩
      · exact Or.inl h
    have E := ex x6 u hg h2
    obtain ⟨yn, yq, yo, yp, ym, yt, yl, yb, yw, yk, yh, yC, yN⟩ := u
    exact br_t (Int32.le_refl _) E
  · rintro m k ⟨x6, u⟩ hk ⟨h1, h2⟩ K
    dsimp only at h1 h2
    rcases h1 with ⟨rfl, h1⟩ | h1
    · by_cases hb0 : best = 0
      · have E := ex (-1002) u (Or.inr ⟨rfl, fun o _ ⟨_, s, _, z⟩ => by omega⟩) h2
        subst hb0
        obtain ⟨yn, yq, yo, yp, ym, yt, yl, yb, yw, yk, yh, yC, yN⟩ := u
        exact br_f (nI_ge (b := 3125) hk (by decide)) (br_t rfl (br_t (Int32.le_refl _) E))
      obtain ⟨d', R', hq⟩ := h2
      have nx : ∀ u, ¬ g_hit n d r i best k → (∃ d', ry_S n d' u ∧ ∀ o, q_up d' i o = q_up d i o) → match u with | (yn, yq, yo, yp, ym, yt, yl, yb, yw, yk, yh, yC, yN) => wY_gain_61 post (nI r) (nI i) (nI (d i)) (nI best) m (-1002) (nI (k + 1)) yn yq yo yp ym yt yl yb yw yk yh yC yN := by
        intro u hn hs
        refine K (-1002, u) ⟨Or.inl ⟨rfl, fun o ho => ?_⟩, hs⟩
        by_cases e : o = k
        · subst e; exact hn
        · exact h1 o (by omega)
      have hbn : ¬ nI best ≤ 0 := nI_nle (by omega) (by omega)
      by_cases hok : o_ok k = true
      · have hput : ∀ u1, ry_S n (q_up d i k) u1 → match u1 with | (yn, yq, yo, yp, ym, yt, yl, yb, yw, yk, yh, yC, yN) => wpY_winners (fun r_108 u => match u with | (yn, yq, yo, yp, ym, yt, yl, yb, yw, yk, yh, yC, yN) => (wpY_bestPlace (fun r_122 => (((nI best ≤ r_122 → (∀ x7_137 : Int32, x7_137 = nI k + 1 → (wY_gain_61 post (nI r) (nI i) (nI (d i)) (nI best) m (-1002) x7_137 yn yq yo yp ym yt yl yb yw yk yh yC yN))) ∧ (¬ nI best ≤ r_122 → (∀ x7_138 : Int32, x7_138 = nI k + 1 → (wY_gain_61 post (nI r) (nI i) (nI (d i)) (nI best) m (nI k) x7_138 yn yq yo yp ym yt yl yb yw yk yh yC yN)))))) (yn, yq, yo, yp, ym, yt, yl, yb, yw, yk, yh, yC, yN) r_108 (nI (d i)))) (yn, yq, yo, yp, ym, yt, yl, yb, yw, yk, yh, yC, yN) (nI r) := by
          intro u1 R1
          have hok2 : e_ok n (q_up d i k) := by
            obtain ⟨yn, yq, yo, yp, ym, yt, yl, yb, yw, yk, yh, yC, yN⟩ := u1
            exact R1.2.1
          have W : wpY_winners (fun r_108 u => match u with | (yn, yq, yo, yp, ym, yt, yl, yb, yw, yk, yh, yC, yN) => (wpY_bestPlace (fun r_122 => (((nI best ≤ r_122 → (∀ x7_137 : Int32, x7_137 = nI k + 1 → (wY_gain_61 post (nI r) (nI i) (nI (d i)) (nI best) m (-1002) x7_137 yn yq yo yp ym yt yl yb yw yk yh yC yN))) ∧ (¬ nI best ≤ r_122 → (∀ x7_138 : Int32, x7_138 = nI k + 1 → (wY_gain_61 post (nI r) (nI i) (nI (d i)) (nI best) m (nI k) x7_138 yn yq yo yp ym yt yl yb yw yk yh yC yN)))))) (yn, yq, yo, yp, ym, yt, yl, yb, yw, yk, yh, yC, yN) r_108 (nI (d i)))) u1 (nI r) := by
            refine y_wn (by omega) R1 fun u2 s hs hk2 => ?_
            have hsl := w_V_lt hok2 hs
            have hbp := b_p_le (d i) s 5
            have R2 := ry_K_S hk2
            have N1 := nx u2
            have N2 := K (nI k, u2)
            obtain ⟨yn, yq, yo, yp, ym, yt, yl, yb, yw, yk, yh, yC, yN⟩ := u2
            refine y_bP hdl hsl (pk_le best (b_p (d i) s 5) (fun hle => nm_r (nI_1 k) (N1 ?_ ⟨_, R2, fun o => q_up_up d i k o⟩)) (fun hgt => nm_r (nI_1 k) (N2 ⟨Or.inr ⟨k, hk, rfl, ⟨hok, s, hs, hgt⟩, h1⟩, _, R2, fun o => q_up_up d i k o⟩)))
            rintro ⟨_, s', hs', hlt⟩
            have := w_V_u hs hs'
            subst this
            omega
          obtain ⟨yn, yq, yo, yp, ym, yt, yl, yb, yw, yk, yh, yC, yN⟩ := u1
          exact W
        obtain ⟨yn, yq, yo, yp, ym, yt, yl, yb, yw, yk, yh, yC, yN⟩ := u
        obtain ⟨rfl, hok1, hb⟩ := R'
        have hn := hok1.1
        refine br_f (nI_ge (b := 3125) hk (by decide)) (br_t rfl (br_f hbn (y_isO_t hok (br_f (by decide) (y_write (by omega) hok fun yp' q1 q2 => ?_)))))
        refine hput (nI n, yq, upd yo i (nI k), yp', ym, yt, yl, yb, yw, yk, yh, yC, yN) ⟨rfl, ?_, ?_⟩
        · rw [← hq]; exact e_ok_up hok1 hok
        · rw [← hq]; exact e_balY_put hb q1 q2
      · have N1 := nx u (fun z => hok z.1) ⟨d', R', hq⟩
        obtain ⟨yn, yq, yo, yp, ym, yt, yl, yb, yw, yk, yh, yC, yN⟩ := u
        refine br_f (nI_ge (b := 3125) hk (by decide)) (br_t rfl (br_f hbn (y_isO_f ?_ (br_t rfl (nm_r (nI_1 k) N1)))))
        rintro ⟨o, e, ho⟩
        have := o_ok_lt ho
        have := (nI_eq (by omega) (by omega)).mp e
        subst this
        exact hok ho
    · have E := ex x6 u (Or.inl h1) h2
      obtain ⟨o, q1, rfl, _⟩ := h1
      obtain ⟨yn, yq, yo, yp, ym, yt, yl, yb, yw, yk, yh, yC, yN⟩ := u
      refine br_f (nI_ge (b := 3125) hk (by decide)) (br_f ?_ E)
      intro z
      have := congrArg Int32.toInt z
      rw [nI_toInt (by omega)] at this
      rw [show (-1002 : Int32).toInt = -1002 by decide] at this
      omega
theorem y_gain {post : Int32 → SY → Prop} {n r i : Nat} {d : Nat → Nat} {u : SY} (hr : r ≤ 14) (hi : i < n) (R : ry_S n d u) (H : ∀ u' res, g_A n d r i res → ry_S n d u' → post res u') : wpY_gain post u (nI r) (nI i) := by
  have hok : e_ok n d := by
    obtain ⟨yn, yq, yo, yp, ym, yt, yl, yb, yw, yk, yh, yC, yN⟩ := u
    exact R.2.1
  have hn := hok.1
  have hd := hok.2 i hi
  have W : wpY_winners (fun r_33 u => match u with | (yn, yq, yo, yp, ym, yt, yl, yb, yw, yk, yh, yC, yN) => (wpY_bestPlace (fun r_47 => (∃ n61 : Nat, wY_gain_61 post (nI r) (nI i) (nI (d i)) r_47 n61 (-1002) 0 yn yq yo yp ym yt yl yb yw yk yh yC yN)) (yn, yq, yo, yp, ym, yt, yl, yb, yw, yk, yh, yC, yN) r_33 (nI (d i)))) u (nI r) := by
    refine y_wn (by omega) R fun u2 s hs hk2 => ?_
    have G := y_gn_61 (best := b_p (d i) s 5) (post := post) hr hi (b_p_le _ _ _) hd (ry_K_S hk2) (fun u' res hg hR => H u' res ⟨s, hs, hg⟩ hR)
    obtain ⟨yn, yq, yo, yp, ym, yt, yl, yb, yw, yk, yh, yC, yN⟩ := u2
    exact y_bP (o_ok_lt hd) (w_V_lt hok hs) G
  obtain ⟨yn, yq, yo, yp, ym, yt, yl, yb, yw, yk, yh, yC, yN⟩ := u
  obtain ⟨rfl, _, hb⟩ := R
  unfold wpY_gain
  refine y_in_T (n := 15) (by decide) (by decide) (by omega) (br_f (by decide) (y_in_T rfl (by omega) hi (br_f (by decide) ⟨vp_in_nI (by omega) (by decide), nm_r (e' := nI (d i)) (by rw [nI_clamp (by omega), (hb i hi).1]) W⟩)))
theorem y_gain_f {post : Int32 → SY → Prop} {n : Nat} {d : Nat → Nat} {v1 v2 : Int32} {u : SY} (R : ry_S n d u) (h : ¬ ((∃ r, r < 15 ∧ v1 = nI r) ∧ ∃ i, i < n ∧ v2 = nI i)) (H : post (-1000) u) : wpY_gain post u v1 v2 := by
  obtain ⟨yn, yq, yo, yp, ym, yt, yl, yb, yw, yk, yh, yC, yN⟩ := u
  obtain ⟨rfl, hok, _⟩ := R
  have hn := hok.1
  unfold wpY_gain
  by_cases h1 : ∃ r, r < 15 ∧ v1 = nI r
  · have h2 : ¬ ∃ i, i < n ∧ v2 = nI i := fun z => h ⟨h1, z⟩
    obtain ⟨r, hr, rfl⟩ := h1
    exact y_in_T (n := 15) (by decide) (by decide) hr (br_f (by decide) (y_in_F rfl (by omega) h2 (br_t rfl H)))
  · exact y_in_F (n := 15) (by decide) (by decide) h1 (br_t rfl H)
end
end
section
section
variable {xc xk xq : Int32} {xo xr xp xm xb xs xl xt xe xA xB xf xg xL xO xC xN : Nat → Int32}
theorem x_win {post : Int32 → SX → Prop} {n r : Nat} {d : Nat → Nat} {u : SX} (hr : r ≤ 16) (R : rx_S n d u) (H : ∀ u' s, w_V n d r s → rx_S n d u' → post (nI s) u') : wpX_winners post u (nI r) := by
  have W : wpX_winnersBy (fun r_3 u => match u with | (xc, xk, xq, xo, xr, xp, xm, xb, xs, xl, xt, xe, xA, xB, xf, xg, xL, xO, xC, xN) => (post r_3 (xc, xk, xq, xo, xr, xp, xm, xb, xs, xl, xt, xe, xA, xB, xf, xg, xL, xO, xC, xN))) u (nI r) := by
    refine x_wB hr R fun u' s hs hk => ?_
    have := H u' s hs (rx_K_S hk)
    obtain ⟨xc, xk, xq, xo, xr, xp, xm, xb, xs, xl, xt, xe, xA, xB, xf, xg, xL, xO, xC, xN⟩ := u'
    exact this
  obtain ⟨xc, xk, xq, xo, xr, xp, xm, xb, xs, xl, xt, xe, xA, xB, xf, xg, xL, xO, xC, xN⟩ := u
  exact br_f (nI_pos (by omega)) (br_t (nI_le (b := 16) hr (by decide)) W)
theorem x_win_f {post : Int32 → SX → Prop} {v : Int32} {u : SX} (h : ¬ ∃ r, r < 17 ∧ v = nI r) (H : post (-1000) u) : wpX_winners post u v := by
  obtain ⟨xc, xk, xq, xo, xr, xp, xm, xb, xs, xl, xt, xe, xA, xB, xf, xg, xL, xO, xC, xN⟩ := u
  rcases g_rg (by decide) h with z | ⟨z1, z2⟩
  · exact br_t z H
  · exact br_f z1 (br_f (g_nle (m := 16) (by decide) z2) H)
theorem x_sco {post : Int32 → SX → Prop} {n r c : Nat} {d : Nat → Nat} {u : SX} (hr : r ≤ 5) (hc : c < 5) (R : rx_S n d u) (H : ∀ u', rx_S n d u' → post (zI (k_f n d r c)) u') : wpX_score post u (nI r) (nI c) := by
  have W : wpX_countAll (fun u => match u with | (xc, xk, xq, xo, xr, xp, xm, xb, xs, xl, xt, xe, xA, xB, xf, xg, xL, xO, xC, xN) => (wpX_findScores (fun u => match u with | (xc, xk, xq, xo, xr, xp, xm, xb, xs, xl, xt, xe, xA, xB, xf, xg, xL, xO, xC, xN) => (vp_in (nI c) 5 ∧ (post (xs (nI c).toNatClampNeg) (xc, xk, xq, xo, xr, xp, xm, xb, xs, xl, xt, xe, xA, xB, xf, xg, xL, xO, xC, xN)))) (xc, xk, xq, xo, xr, xp, xm, xb, xs, xl, xt, xe, xA, xB, xf, xg, xL, xO, xC, xN) (nI r))) u := by
    refine x_countAll R fun u' R' => ?_
    obtain ⟨xc, xk, xq, xo, xr, xp, xm, xb, xs, xl, xt, xe, xA, xB, xf, xg, xL, xO, xC, xN⟩ := u'
    obtain ⟨rfl, rfl, hok, hb, hcn⟩ := R'
    refine x_fS hr hok hb hcn fun xs' hx => ⟨vp_in_nI hc (by decide), ?_⟩
    obtain ⟨z, h1, h2⟩ := hx c hc
    have e := k_s_u h1 (k_f_of n d r c)
    subst e
    rw [nI_clamp (by omega), h2]
    exact H _ ⟨rfl, hok, hb, Or.inr ⟨rfl, hcn⟩⟩
  obtain ⟨xc, xk, xq, xo, xr, xp, xm, xb, xs, xl, xt, xe, xA, xB, xf, xg, xL, xO, xC, xN⟩ := u
  exact br_f (nI_pos (by omega)) (br_f (nI_nlt (a := 5) hr (by decide)) (x_isC_t hc (br_f (by decide) W)))
theorem x_sco_f {post : Int32 → SX → Prop} {v1 v2 : Int32} {u : SX} (h : ¬ ((∃ r, r < 6 ∧ v1 = nI r) ∧ ∃ c, c < 5 ∧ v2 = nI c)) (H : post (-1000) u) : wpX_score post u v1 v2 := by
  obtain ⟨xc, xk, xq, xo, xr, xp, xm, xb, xs, xl, xt, xe, xA, xB, xf, xg, xL, xO, xC, xN⟩ := u
  by_cases h1 : ∃ r, r < 6 ∧ v1 = nI r
  · have h2 : ¬ ∃ c, c < 5 ∧ v2 = nI c := fun z => h ⟨h1, z⟩
    obtain ⟨r, hr, rfl⟩ := h1
    exact br_f (nI_pos (by omega)) (br_f (nI_nlt (a := 5) (by omega) (by decide)) (x_isC_f h2 (br_t rfl H)))
  · rcases g_rg (by decide) h1 with z | ⟨z1, z2⟩
    · exact br_t z H
    · exact br_f z1 (br_t (g_gt (m := 5) (by decide) z2) H)
theorem x_mar {post : Int32 → SX → Prop} {n a b : Nat} {d : Nat → Nat} {u : SX} (ha : a < 5) (hb : b < 5) (R : rx_S n d u) (H : ∀ u', rx_S n d u' → post (zI (e_m n d a b)) u') : wpX_margin post u (nI a) (nI b) := by
  have W : wpX_countAll (fun u => match u with | (xc, xk, xq, xo, xr, xp, xm, xb, xs, xl, xt, xe, xA, xB, xf, xg, xL, xO, xC, xN) => (vp_in ((5 * nI a) + nI b) 25 ∧ (post (xm ((5 * nI a) + nI b).toNatClampNeg) (xc, xk, xq, xo, xr, xp, xm, xb, xs, xl, xt, xe, xA, xB, xf, xg, xL, xO, xC, xN)))) u := by
    refine x_countAll R fun u' R' => ?_
    have R2 := rx_K_S R'
    obtain ⟨xc, xk, xq, xo, xr, xp, xm, xb, xs, xl, xt, xe, xA, xB, xf, xg, xL, xO, xC, xN⟩ := u'
    obtain ⟨rfl, rfl, hok, hB, hcn⟩ := R'
    refine ⟨bi_in (m := 5) ha hb (by decide) (by decide), ?_⟩
    rw [bi_ic (by omega) (by omega), hcn.2.1 a b ha hb]
    exact H _ R2
  obtain ⟨xc, xk, xq, xo, xr, xp, xm, xb, xs, xl, xt, xe, xA, xB, xf, xg, xL, xO, xC, xN⟩ := u
  unfold wpX_margin
  exact x_isC_t ha (br_f (by decide) (x_isC_t hb (br_f (by decide) W)))
theorem x_mar_f {post : Int32 → SX → Prop} {v1 v2 : Int32} {u : SX} (h : ¬ ((∃ a, a < 5 ∧ v1 = nI a) ∧ (∃ b, b < 5 ∧ v2 = nI b))) (H : post 0 u) : wpX_margin post u v1 v2 := by
  obtain ⟨xc, xk, xq, xo, xr, xp, xm, xb, xs, xl, xt, xe, xA, xB, xf, xg, xL, xO, xC, xN⟩ := u
  unfold wpX_margin
  by_cases h1 : ∃ a, a < 5 ∧ v1 = nI a
  · have h2 : ¬ ∃ b, b < 5 ∧ v2 = nI b := fun z => h ⟨h1, z⟩
    obtain ⟨a, ha, rfl⟩ := h1
    exact x_isC_t ha (br_f (by decide) (x_isC_f h2 (br_t rfl H)))
  · exact x_isC_f h1 (br_t rfl H)
theorem x_swp {post : Int32 → SX → Prop} {n c : Nat} {d : Nat → Nat} {u : SX} (hc : c < 5) (R : rx_S n d u) (H : ∀ u' z, sw_sv n d c z → rx_S n d u' → post (zI z) u') : wpX_swaps post u (nI c) := by
  have W : wpX_countAll (fun u => match u with | (xc, xk, xq, xo, xr, xp, xm, xb, xs, xl, xt, xe, xA, xB, xf, xg, xL, xO, xC, xN) => (wpX_swapsOf (fun r_44 u => match u with | (xc, xk, xq, xo, xr, xp, xm, xb, xs, xl, xt, xe, xA, xB, xf, xg, xL, xO, xC, xN) => (post r_44 (xc, xk, xq, xo, xr, xp, xm, xb, xs, xl, xt, xe, xA, xB, xf, xg, xL, xO, xC, xN))) (xc, xk, xq, xo, xr, xp, xm, xb, xs, xl, xt, xe, xA, xB, xf, xg, xL, xO, xC, xN) (nI c))) u := by
    refine x_countAll R fun u' R' => ?_
    obtain ⟨xc, xk, xq, xo, xr, xp, xm, xb, xs, xl, xt, xe, xA, xB, xf, xg, xL, xO, xC, xN⟩ := u'
    refine x_sw R' hc fun u' z hz hk => ?_
    have := H u' z hz (rx_K_S hk)
    obtain ⟨xc, xk, xq, xo, xr, xp, xm, xb, xs, xl, xt, xe, xA, xB, xf, xg, xL, xO, xC, xN⟩ := u'
    exact this
  obtain ⟨xc, xk, xq, xo, xr, xp, xm, xb, xs, xl, xt, xe, xA, xB, xf, xg, xL, xO, xC, xN⟩ := u
  unfold wpX_swaps
  exact x_isC_t hc (br_f (by decide) W)
theorem x_swp_f {post : Int32 → SX → Prop} {v : Int32} {u : SX} (h : ¬ ∃ c, c < 5 ∧ v = nI c) (H : post (-1000) u) : wpX_swaps post u v := by
  obtain ⟨xc, xk, xq, xo, xr, xp, xm, xb, xs, xl, xt, xe, xA, xB, xf, xg, xL, xO, xC, xN⟩ := u
  unfold wpX_swaps
  exact x_isC_f h (br_t rfl H)
theorem x_rmv {post : Int32 → SX → Prop} {n c : Nat} {d : Nat → Nat} {u : SX} (hc : c < 5) (R : rx_S n d u) (H : ∀ u', rx_S n d u' → post (zI (v_res n d c)) u') : wpX_removals post u (nI c) := by
  have W : wpX_countAll (fun u => match u with | (xc, xk, xq, xo, xr, xp, xm, xb, xs, xl, xt, xe, xA, xB, xf, xg, xL, xO, xC, xN) => (wpX_removalsOf (fun r_44 => (post r_44 (xc, xk, xq, xo, xr, xp, xm, xb, xs, xl, xt, xe, xA, xB, xf, xg, xL, xO, xC, xN))) (xc, xk, xq, xo, xr, xp, xm, xb, xs, xl, xt, xe, xA, xB, xf, xg, xL, xO, xC, xN) (nI c))) u := by
    refine x_countAll R fun u' R' => ?_
    have R2 := rx_K_S R'
    obtain ⟨xc, xk, xq, xo, xr, xp, xm, xb, xs, xl, xt, xe, xA, xB, xf, xg, xL, xO, xC, xN⟩ := u'
    obtain ⟨rfl, rfl, hok, hB, hcn⟩ := R'
    exact x_rm hok.1 hcn.1 hc (H _ R2)
  obtain ⟨xc, xk, xq, xo, xr, xp, xm, xb, xs, xl, xt, xe, xA, xB, xf, xg, xL, xO, xC, xN⟩ := u
  unfold wpX_removals
  exact x_isC_t hc (br_f (by decide) W)
theorem x_rmv_f {post : Int32 → SX → Prop} {v : Int32} {u : SX} (h : ¬ ∃ c, c < 5 ∧ v = nI c) (H : post (-1000) u) : wpX_removals post u v := by
  obtain ⟨xc, xk, xq, xo, xr, xp, xm, xb, xs, xl, xt, xe, xA, xB, xf, xg, xL, xO, xC, xN⟩ := u
  unfold wpX_removals
  exact x_isC_f h (br_t rfl H)
theorem x_agr {post : Int32 → SX → Prop} {n r q : Nat} {d : Nat → Nat} {u : SX} (hr : r ≤ 16) (hq : q ≤ 16) (R : rx_S n d u) (H : ∀ u' s t, w_V n d r s → w_V n d q t → rx_S n d u' → post (if s = t then 1 else 0) u') : wpX_agree post u (nI r) (nI q) := by
  have hok : e_ok n d := by
    obtain ⟨xc, xk, xq, xo, xr, xp, xm, xb, xs, xl, xt, xe, xA, xB, xf, xg, xL, xO, xC, xN⟩ := u
    exact R.2.1
  have W : wpX_winnersBy (fun r_5 u => match u with | (xc, xk, xq, xo, xr, xp, xm, xb, xs, xl, xt, xe, xA, xB, xf, xg, xL, xO, xC, xN) => (wpX_winnersBy (fun r_26 u => match u with | (xc, xk, xq, xo, xr, xp, xm, xb, xs, xl, xt, xe, xA, xB, xf, xg, xL, xO, xC, xN) => (((r_5 = r_26 → (post 1 (xc, xk, xq, xo, xr, xp, xm, xb, xs, xl, xt, xe, xA, xB, xf, xg, xL, xO, xC, xN))) ∧ (¬ r_5 = r_26 → (post 0 (xc, xk, xq, xo, xr, xp, xm, xb, xs, xl, xt, xe, xA, xB, xf, xg, xL, xO, xC, xN)))))) (xc, xk, xq, xo, xr, xp, xm, xb, xs, xl, xt, xe, xA, xB, xf, xg, xL, xO, xC, xN) (nI q))) u (nI r) := by
    refine x_wB hr R fun u' s hs hk => ?_
    have l1 := w_V_lt hok hs
    have W2 : wpX_winnersBy (fun r_26 u => match u with | (xc, xk, xq, xo, xr, xp, xm, xb, xs, xl, xt, xe, xA, xB, xf, xg, xL, xO, xC, xN) => (((nI s = r_26 → (post 1 (xc, xk, xq, xo, xr, xp, xm, xb, xs, xl, xt, xe, xA, xB, xf, xg, xL, xO, xC, xN))) ∧ (¬ nI s = r_26 → (post 0 (xc, xk, xq, xo, xr, xp, xm, xb, xs, xl, xt, xe, xA, xB, xf, xg, xL, xO, xC, xN)))))) u' (nI q) := by
      refine x_wB hq (rx_K_S hk) fun u2 t ht hk2 => ?_
      have l2 := w_V_lt hok ht
      have := H u2 s t hs ht (rx_K_S hk2)
      obtain ⟨xc, xk, xq, xo, xr, xp, xm, xb, xs, xl, xt, xe, xA, xB, xf, xg, xL, xO, xC, xN⟩ := u2
      refine pk_eq s t (fun e => ?_) (fun e => ?_)
      · rw [if_pos e] at this; exact this
      · rw [if_neg e] at this; exact this
    obtain ⟨xc, xk, xq, xo, xr, xp, xm, xb, xs, xl, xt, xe, xA, xB, xf, xg, xL, xO, xC, xN⟩ := u'
    exact W2
  obtain ⟨xc, xk, xq, xo, xr, xp, xm, xb, xs, xl, xt, xe, xA, xB, xf, xg, xL, xO, xC, xN⟩ := u
  exact br_f (nI_pos (by omega)) (br_f (nI_nlt (a := 16) hr (by decide)) (br_f (nI_pos (by omega)) (br_t (nI_le (b := 16) hq (by decide)) W)))
theorem x_agr_f {post : Int32 → SX → Prop} {v1 v2 : Int32} {u : SX} (h : ¬ ((∃ r, r < 17 ∧ v1 = nI r) ∧ ∃ q, q < 17 ∧ v2 = nI q)) (H : post 0 u) : wpX_agree post u v1 v2 := by
  obtain ⟨xc, xk, xq, xo, xr, xp, xm, xb, xs, xl, xt, xe, xA, xB, xf, xg, xL, xO, xC, xN⟩ := u
  by_cases h1 : ∃ r, r < 17 ∧ v1 = nI r
  · have h2 : ¬ ∃ q, q < 17 ∧ v2 = nI q := fun z => h ⟨h1, z⟩
    obtain ⟨r, hr, rfl⟩ := h1
    refine br_f (nI_pos (by omega)) (br_f (nI_nlt (a := 16) (by omega) (by decide)) ?_)
    rcases g_rg (by decide) h2 with z | ⟨z1, z2⟩
    · exact br_t z H
    · exact br_f z1 (br_f (g_nle (m := 16) (by decide) z2) H)
  · rcases g_rg (by decide) h1 with z | ⟨z1, z2⟩
    · exact br_t z H
    · exact br_f z1 (br_t (g_gt (m := 16) (by decide) z2) H)
end
section
variable {yn yq : Int32} {yo yp ym yt yl yb yw yk yh yC yN : Nat → Int32}
theorem y_win {post : Int32 → SY → Prop} {n r : Nat} {d : Nat → Nat} {v : SY} (hr : r ≤ 16) (R : ry_S n d v) (H : ∀ v' s, w_V n d r s → ry_S n d v' → post (nI s) v') : wpY_winners post v (nI r) :=
  y_wn hr R fun v' s hs hk => H v' s hs (ry_K_S hk)
theorem y_win_f {post : Int32 → SY → Prop} {v1 : Int32} {v : SY} (h : ¬ ∃ r, r < 17 ∧ v1 = nI r) (H : post (-1000) v) : wpY_winners post v v1 := by
  obtain ⟨yn, yq, yo, yp, ym, yt, yl, yb, yw, yk, yh, yC, yN⟩ := v
  unfold wpY_winners
  exact y_in_F (n := 17) (by decide) (by decide) h (br_t rfl H)
theorem y_sco {post : Int32 → SY → Prop} {n r c : Nat} {d : Nat → Nat} {v : SY} (hr : r ≤ 5) (hc : c < 5) (R : ry_S n d v) (H : ∀ v', ry_S n d v' → post (zI (k_f n d r c)) v') : wpY_score post v (nI r) (nI c) := by
  have W : wpY_count (fun u => match u with | (yn, yq, yo, yp, ym, yt, yl, yb, yw, yk, yh, yC, yN) => (wpY_scoreOf (fun r_45 => (post r_45 (yn, yq, yo, yp, ym, yt, yl, yb, yw, yk, yh, yC, yN))) (yn, yq, yo, yp, ym, yt, yl, yb, yw, yk, yh, yC, yN) (nI r) (nI c))) v := by
    refine y_count R fun v' R' => ?_
    have R2 := ry_K_S R'
    obtain ⟨yn, yq, yo, yp, ym, yt, yl, yb, yw, yk, yh, yC, yN⟩ := v'
    obtain ⟨rfl, hok, hb, hm⟩ := R'
    refine y_sO hr hok.1 hb hm hc fun z hz => ?_
    have e := k_s_u hz (k_f_of n d r c)
    subst e
    exact H _ R2
  obtain ⟨yn, yq, yo, yp, ym, yt, yl, yb, yw, yk, yh, yC, yN⟩ := v
  unfold wpY_score
  exact y_in_T (n := 6) (by decide) (by decide) (by omega) (br_f (by decide) (y_in_T (n := 5) (by decide) (by decide) hc (br_f (by decide) W)))
theorem y_sco_f {post : Int32 → SY → Prop} {v1 v2 : Int32} {v : SY} (h : ¬ ((∃ r, r < 6 ∧ v1 = nI r) ∧ ∃ c, c < 5 ∧ v2 = nI c)) (H : post (-1000) v) : wpY_score post v v1 v2 := by
  obtain ⟨yn, yq, yo, yp, ym, yt, yl, yb, yw, yk, yh, yC, yN⟩ := v
  unfold wpY_score
  by_cases h1 : ∃ r, r < 6 ∧ v1 = nI r
  · have h2 : ¬ ∃ c, c < 5 ∧ v2 = nI c := fun z => h ⟨h1, z⟩
    obtain ⟨r, hr, rfl⟩ := h1
    exact y_in_T (n := 6) (by decide) (by decide) hr (br_f (by decide) (y_in_F (n := 5) (by decide) (by decide) h2 (br_t rfl H)))
  · exact y_in_F (n := 6) (by decide) (by decide) h1 (br_t rfl H)
theorem y_swp {post : Int32 → SY → Prop} {n c : Nat} {d : Nat → Nat} {v : SY} (hc : c < 5) (R : ry_S n d v) (H : ∀ v' z, sw_sv n d c z → ry_S n d v' → post (zI z) v') : wpY_swaps post v (nI c) := by
  obtain ⟨yn, yq, yo, yp, ym, yt, yl, yb, yw, yk, yh, yC, yN⟩ := v
  obtain ⟨rfl, hok, hb⟩ := R
  exact y_sw hok hb hc fun z yC' yN' hz => H _ z hz ⟨rfl, hok, hb⟩
theorem y_swp_f {post : Int32 → SY → Prop} {v1 : Int32} {v : SY} (h : ¬ ∃ c, c < 5 ∧ v1 = nI c) (H : post (-1000) v) : wpY_swaps post v v1 := by
  obtain ⟨yn, yq, yo, yp, ym, yt, yl, yb, yw, yk, yh, yC, yN⟩ := v
  unfold wpY_swaps
  exact y_in_F (n := 5) (by decide) (by decide) h (br_t rfl H)
theorem y_rmv {post : Int32 → Prop} {n c : Nat} {d : Nat → Nat} {v : SY} (hc : c < 5) (R : ry_S n d v) (H : post (zI (v_res n d c))) : wpY_removals post v (nI c) := by
  obtain ⟨yn, yq, yo, yp, ym, yt, yl, yb, yw, yk, yh, yC, yN⟩ := v
  obtain ⟨rfl, hok, hb⟩ := R
  unfold wpY_removals
  exact y_in_T (n := 5) (by decide) (by decide) hc (br_f (by decide) (y_rm hok hb hc H))
theorem y_rmv_f {post : Int32 → Prop} {v1 : Int32} {v : SY} (h : ¬ ∃ c, c < 5 ∧ v1 = nI c) (H : post (-1000)) : wpY_removals post v v1 := by
  obtain ⟨yn, yq, yo, yp, ym, yt, yl, yb, yw, yk, yh, yC, yN⟩ := v
  unfold wpY_removals
  exact y_in_F (n := 5) (by decide) (by decide) h (br_t rfl H)
theorem y_agr {post : Int32 → SY → Prop} {n r q : Nat} {d : Nat → Nat} {v : SY} (hr : r ≤ 16) (hq : q ≤ 16) (R : ry_S n d v) (H : ∀ v' s t, w_V n d r s → w_V n d q t → ry_S n d v' → post (if s = t then 1 else 0) v') : wpY_agree post v (nI r) (nI q) := by
  have hok : e_ok n d := by
    obtain ⟨yn, yq, yo, yp, ym, yt, yl, yb, yw, yk, yh, yC, yN⟩ := v
    exact R.2.1
  have W : wpY_winners (fun r_31 u => match u with | (yn, yq, yo, yp, ym, yt, yl, yb, yw, yk, yh, yC, yN) => (wpY_winners (fun r_45 u => match u with | (yn, yq, yo, yp, ym, yt, yl, yb, yw, yk, yh, yC, yN) => (((r_31 = r_45 → (post 1 (yn, yq, yo, yp, ym, yt, yl, yb, yw, yk, yh, yC, yN))) ∧ (¬ r_31 = r_45 → (post 0 (yn, yq, yo, yp, ym, yt, yl, yb, yw, yk, yh, yC, yN)))))) (yn, yq, yo, yp, ym, yt, yl, yb, yw, yk, yh, yC, yN) (nI q))) v (nI r) := by
    refine y_wn hr R fun u' s hs hk => ?_
    have l1 := w_V_lt hok hs
    have W2 : wpY_winners (fun r_45 u => match u with | (yn, yq, yo, yp, ym, yt, yl, yb, yw, yk, yh, yC, yN) => (((nI s = r_45 → (post 1 (yn, yq, yo, yp, ym, yt, yl, yb, yw, yk, yh, yC, yN))) ∧ (¬ nI s = r_45 → (post 0 (yn, yq, yo, yp, ym, yt, yl, yb, yw, yk, yh, yC, yN)))))) u' (nI q) := by
      refine y_wn hq (ry_K_S hk) fun u2 t ht hk2 => ?_
      have l2 := w_V_lt hok ht
      have := H u2 s t hs ht (ry_K_S hk2)
      obtain ⟨yn, yq, yo, yp, ym, yt, yl, yb, yw, yk, yh, yC, yN⟩ := u2
      refine pk_eq s t (fun e => ?_) (fun e => ?_)
      · rw [if_pos e] at this; exact this
      · rw [if_neg e] at this; exact this
    obtain ⟨yn, yq, yo, yp, ym, yt, yl, yb, yw, yk, yh, yC, yN⟩ := u'
    exact W2
  obtain ⟨yn, yq, yo, yp, ym, yt, yl, yb, yw, yk, yh, yC, yN⟩ := v
  unfold wpY_agree
  exact y_in_T (n := 17) (by decide) (by decide) (by omega) (br_f (by decide) (y_in_T (n := 17) (by decide) (by decide) (by omega) (br_f (by decide) W)))
theorem y_agr_f {post : Int32 → SY → Prop} {v1 v2 : Int32} {v : SY} (h : ¬ ((∃ r, r < 17 ∧ v1 = nI r) ∧ ∃ q, q < 17 ∧ v2 = nI q)) (H : post 0 v) : wpY_agree post v v1 v2 := by
  obtain ⟨yn, yq, yo, yp, ym, yt, yl, yb, yw, yk, yh, yC, yN⟩ := v
  unfold wpY_agree
  by_cases h1 : ∃ r, r < 17 ∧ v1 = nI r
  · have h2 : ¬ ∃ q, q < 17 ∧ v2 = nI q := fun z => h ⟨h1, z⟩
    obtain ⟨r, hr, rfl⟩ := h1
    exact y_in_T (n := 17) (by decide) (by decide) hr (br_f (by decide) (y_in_F (n := 17) (by decide) (by decide) h2 (br_t rfl H)))
  · exact y_in_F (n := 17) (by decide) (by decide) h1 (br_t rfl H)
end
end
section
/-- both sides hold the same ballots -/
def i_Rel (k : Nat) (u : SX) (v : SY) : Prop := ∃ n d, rx_S n d u ∧ ry_S n d v
theorem i_up {k : Nat} {u : SX} {v : SY} (h : i_Rel k u v) : i_Rel (k + 3) u v := h
theorem i_vc0 : wpX_init (fun u => wpY_init (fun v => i_Rel 0 u v)) :=
  ⟨0, fun _ => 0, ⟨rfl, ⟨by decide, fun i h => absurd h (Nat.not_lt_zero i)⟩, fun i h => absurd h (Nat.not_lt_zero i), Or.inl rfl⟩, ⟨rfl, ⟨by decide, fun i h => absurd h (Nat.not_lt_zero i)⟩, fun i h => absurd h (Nat.not_lt_zero i)⟩⟩
theorem i_n9 {n : Nat} {d : Nat → Nat} {v : SY} (R : ry_S n d v) : n ≤ 9 := by
  obtain ⟨yn, yq, yo, yp, ym, yt, yl, yb, yw, yk, yh, yC, yN⟩ := v
  exact R.2.1.1
theorem i_vc_ballot {k : Nat} {u : SX} {v : SY} (I : i_Rel k u v) (hk : k + 3 ≤ 1536) (v1 : Int32) : wpX_ballot (fun r u' => wpY_ballot (fun r' v' => r' = r ∧ i_Rel (k + 3) u' v') v v1) u v1 := by
  obtain ⟨n, d, RX, RY⟩ := I
  have hn := i_n9 RY
  by_cases h9 : n = 9
  · subst h9
    exact x_ballot_full RX (y_ballot_full RY ⟨rfl, 9, d, RX, RY⟩)
  · by_cases h : ∃ o, v1 = nI o ∧ o_ok o = true
    · obtain ⟨o, rfl, ho⟩ := h
      exact x_ballot_ok RX (by omega) ho fun u' RX' => y_ballot_ok RY (by omega) ho fun v' RY' => ⟨rfl, n + 1, _, RX', RY'⟩
    · exact x_ballot_bad RX (by omega) h (y_ballot_bad RY (by omega) h ⟨rfl, n, d, RX, RY⟩)
theorem i_vc_drop {k : Nat} {u : SX} {v : SY} (I : i_Rel k u v) (hk : k + 3 ≤ 1536) (v1 : Int32) : wpX_drop (fun r u' => wpY_drop (fun r' v' => r' = r ∧ i_Rel (k + 3) u' v') v v1) u v1 := by
  obtain ⟨n, d, RX, RY⟩ := I
  by_cases h : ∃ i, i < n ∧ v1 = nI i
  · obtain ⟨i, hi, rfl⟩ := h
    obtain ⟨m, rfl⟩ : ∃ m, n = m + 1 := ⟨n - 1, by omega⟩
    exact x_drop_t RX hi fun u' RX' => y_drop_t RY hi fun v' RY' => ⟨rfl, m, _, RX', RY'⟩
  · exact x_drop_f RX h (y_drop_f RY h ⟨rfl, n, d, RX, RY⟩)
theorem i_vc_order {k : Nat} {u : SX} {v : SY} (I : i_Rel k u v) (hk : k + 3 ≤ 1536) (v1 : Int32) : wpX_order (fun r => wpY_order (fun r' => r' = r ∧ i_Rel (k + 3) u v) v v1) u v1 := by
  obtain ⟨n, d, RX, RY⟩ := I
  by_cases h : ∃ i, i < n ∧ v1 = nI i
  · obtain ⟨i, hi, rfl⟩ := h
    exact x_order_t RX hi (y_order_t RY hi ⟨rfl, n, d, RX, RY⟩)
  · exact x_order_f RX h (y_order_f RY h ⟨rfl, n, d, RX, RY⟩)
theorem i_vc_margin {k : Nat} {u : SX} {v : SY} (I : i_Rel k u v) (hk : k + 3 ≤ 1536) (v1 : Int32) (v2 : Int32) : wpX_margin (fun r u' => wpY_margin (fun r' => r' = r ∧ i_Rel (k + 3) u' v) v v1 v2) u v1 v2 := by
  obtain ⟨n, d, RX, RY⟩ := I
  by_cases h : (∃ a, a < 5 ∧ v1 = nI a) ∧ (∃ b, b < 5 ∧ v2 = nI b)
  · obtain ⟨⟨a, ha, rfl⟩, b, hb, rfl⟩ := h
    exact x_mar ha hb RX fun u' RX' => y_margin_t RY ha hb ⟨rfl, n, d, RX', RY⟩
  · exact x_mar_f h (y_margin_f h ⟨rfl, n, d, RX, RY⟩)
theorem i_vc_winners {k : Nat} {u : SX} {v : SY} (I : i_Rel k u v) (hk : k + 3 ≤ 1536) (v1 : Int32) : wpX_winners (fun r u' => wpY_winners (fun r' v' => r' = r ∧ i_Rel (k + 3) u' v') v v1) u v1 := by
  obtain ⟨n, d, RX, RY⟩ := I
  by_cases h : ∃ r, r < 17 ∧ v1 = nI r
  · obtain ⟨r, hr, rfl⟩ := h
    exact x_win (by omega) RX fun u' s hs RX' => y_win (by omega) RY fun v' s' hs' RY' => ⟨congrArg nI (w_V_u hs' hs), n, d, RX', RY'⟩
  · exact x_win_f h (y_win_f h ⟨rfl, n, d, RX, RY⟩)
theorem i_vc_score {k : Nat} {u : SX} {v : SY} (I : i_Rel k u v) (hk : k + 3 ≤ 1536) (v1 : Int32) (v2 : Int32) : wpX_score (fun r u' => wpY_score (fun r' v' => r' = r ∧ i_Rel (k + 3) u' v') v v1 v2) u v1 v2 := by
  obtain ⟨n, d, RX, RY⟩ := I
  by_cases h : (∃ r, r < 6 ∧ v1 = nI r) ∧ ∃ c, c < 5 ∧ v2 = nI c
  · obtain ⟨⟨r, hr, rfl⟩, c, hc, rfl⟩ := h
    exact x_sco (by omega) hc RX fun u' RX' => y_sco (by omega) hc RY fun v' RY' => ⟨rfl, n, d, RX', RY'⟩
  · exact x_sco_f h (y_sco_f h ⟨rfl, n, d, RX, RY⟩)
theorem i_vc_strength {k : Nat} {u : SX} {v : SY} (I : i_Rel k u v) (hk : k + 3 ≤ 1536) (v1 : Int32) (v2 : Int32) : wpX_strength (fun r u' => wpY_strength (fun r' v' => r' = r ∧ i_Rel (k + 3) u' v') v v1 v2) u v1 v2 := by
  obtain ⟨n, d, RX, RY⟩ := I
  by_cases h : ∃ a b, a < 5 ∧ b < 5 ∧ a ≠ b ∧ v1 = nI a ∧ v2 = nI b
  · obtain ⟨a, b, ha, hb, hab, rfl, rfl⟩ := h
    exact x_str RX ha hb hab fun u' s hs RX' => y_str RY ha hb hab fun v' s' hs' RY' => ⟨congrArg nI (r_St_u hs' hs ha hb), n, d, RX', RY'⟩
  · exact x_str_f h (y_str_f h ⟨rfl, n, d, RX, RY⟩)
theorem i_vc_swaps {k : Nat} {u : SX} {v : SY} (I : i_Rel k u v) (hk : k + 3 ≤ 1536) (v1 : Int32) : wpX_swaps (fun r u' => wpY_swaps (fun r' v' => r' = r ∧ i_Rel (k + 3) u' v') v v1) u v1 := by
  obtain ⟨n, d, RX, RY⟩ := I
  by_cases h : ∃ c, c < 5 ∧ v1 = nI c
  · obtain ⟨c, hc, rfl⟩ := h
    exact x_swp hc RX fun u' z hz RX' => y_swp hc RY fun v' z' hz' RY' => ⟨congrArg zI (sw_sv_u hz' hz), n, d, RX', RY'⟩
  · exact x_swp_f h (y_swp_f h ⟨rfl, n, d, RX, RY⟩)
theorem i_vc_removals {k : Nat} {u : SX} {v : SY} (I : i_Rel k u v) (hk : k + 3 ≤ 1536) (v1 : Int32) : wpX_removals (fun r u' => wpY_removals (fun r' => r' = r ∧ i_Rel (k + 3) u' v) v v1) u v1 := by
  obtain ⟨n, d, RX, RY⟩ := I
  by_cases h : ∃ c, c < 5 ∧ v1 = nI c
  · obtain ⟨c, hc, rfl⟩ := h
    exact x_rmv hc RX fun u' RX' => y_rmv hc RY ⟨rfl, n, d, RX', RY⟩
  · exact x_rmv_f h (y_rmv_f h ⟨rfl, n, d, RX, RY⟩)
theorem i_vc_leader {k : Nat} {u : SX} {v : SY} (I : i_Rel k u v) (hk : k + 3 ≤ 1536) : wpX_leader (fun r u' => wpY_leader (fun r' v' => r' = r ∧ i_Rel (k + 3) u' v') v) u := by
  obtain ⟨n, d, RX, RY⟩ := I
  exact x_lead RX fun u' RX' => y_lead RY fun v' RY' => ⟨rfl, n, d, RX', RY'⟩
theorem i_vc_gain {k : Nat} {u : SX} {v : SY} (I : i_Rel k u v) (hk : k + 3 ≤ 1536) (v1 : Int32) (v2 : Int32) : wpX_gain (fun r u' => wpY_gain (fun r' v' => r' = r ∧ i_Rel (k + 3) u' v') v v1 v2) u v1 v2 := by
  obtain ⟨n, d, RX, RY⟩ := I
  by_cases h : (∃ r, r < 15 ∧ v1 = nI r) ∧ ∃ i, i < n ∧ v2 = nI i
  · obtain ⟨⟨r, hr, rfl⟩, i, hi, rfl⟩ := h
    exact x_gain (by omega) hi RX fun u' x hx RX' => y_gain (by omega) hi RY fun v' y hy RY' => ⟨g_A_u hy hx, n, d, RX', RY'⟩
  · exact x_gain_f RX h (y_gain_f RY h ⟨rfl, n, d, RX, RY⟩)
theorem i_vc_agree {k : Nat} {u : SX} {v : SY} (I : i_Rel k u v) (hk : k + 3 ≤ 1536) (v1 : Int32) (v2 : Int32) : wpX_agree (fun r u' => wpY_agree (fun r' v' => r' = r ∧ i_Rel (k + 3) u' v') v v1 v2) u v1 v2 := by
  obtain ⟨n, d, RX, RY⟩ := I
  by_cases h : (∃ r, r < 17 ∧ v1 = nI r) ∧ ∃ q, q < 17 ∧ v2 = nI q
  · obtain ⟨⟨r, hr, rfl⟩, q, hq, rfl⟩ := h
    exact x_agr (by omega) (by omega) RX fun u' s t hs ht RX' => y_agr (by omega) (by omega) RY fun v' s' t' hs' ht' RY' => ⟨by rw [w_V_u hs' hs, w_V_u ht' ht], n, d, RX', RY'⟩
  · exact x_agr_f h (y_agr_f h ⟨rfl, n, d, RX, RY⟩)
theorem i_vc_ballots {k : Nat} {u : SX} {v : SY} (I : i_Rel k u v) (hk : k + 3 ≤ 1536) : wpX_ballots (fun r => wpY_ballots (fun r' => r' = r ∧ i_Rel (k + 3) u v) v) u := by
  obtain ⟨n, d, RX, RY⟩ := I
  exact x_ballots RX (y_ballots RY ⟨rfl, n, d, RX, RY⟩)
end
