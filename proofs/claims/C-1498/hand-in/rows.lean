section
/-! pure rows to paste: stores, nI and lN arithmetic, masks, shifts, narrowing, branches by naturals (pk_le, pk_lt, pk_eq), loops (lp1 .. lp16: the measure of the state; rp1 ..: recursion), negatives. Take what you need -/
theorem pk_us {f : Nat → Int32} {k : Nat} {x : Int32} : upd f k x k = x := if_pos rfl
theorem pk_un {f : Nat → Int32} {k j : Nat} {x : Int32} (h : j ≠ k) : upd f k x j = f j := if_neg h
theorem pk_uLs {f : Nat → Int64} {k : Nat} {x : Int64} : vp_updL f k x k = x := if_pos rfl
theorem pk_uLn {f : Nat → Int64} {k j : Nat} {x : Int64} (h : j ≠ k) : vp_updL f k x j = f j := if_neg h
theorem pk_sub {a b : Nat} (h : b ≤ a) : nI a - nI b = nI (a - b) := by
  obtain ⟨c, rfl⟩ : ∃ c, a = c + b := ⟨a - b, by omega⟩
  rw [← nI_add, Int32.add_sub_cancel, Nat.add_sub_cancel]
theorem pk_m1 (n : Nat) : nI (n + 1) + (-1) = nI n := by
  rw [← nI_1, Int32.add_assoc, show (1 : Int32) + (-1) = 0 from rfl, Int32.add_zero]
theorem pk_mul (a b : Nat) : nI a * nI b = nI (a * b) := (Int32.ofNat_mul a b).symm
theorem pk_div {a d : Nat} (ha : a < 2 ^ 31) (h0 : 0 < d) (hd : d < 2 ^ 31) : nI a / nI d = nI (a / d) := by
  apply Int32.toInt_inj.mp
  rw [lg_idiv_nonneg (by rw [nI_toInt ha]; omega) (by rw [nI_toInt hd]; omega), nI_toInt ha, nI_toInt hd, nI_toInt (Nat.lt_of_le_of_lt (Nat.div_le_self a d) ha)]
  first | rfl | exact (Int.natCast_ediv _ _).symm
theorem pk_rem {a d : Nat} (ha : a < 2 ^ 31) (h0 : 0 < d) (hd : d < 2 ^ 31) : nI a - nI a / nI d * nI d = nI (a % d) := by
  rw [pk_div ha h0 hd, pk_mul, pk_sub (Nat.div_mul_le_self a d)]
  exact congrArg nI (by have := Nat.div_add_mod' a d; omega)
theorem pk_sub_toInt {a b : Nat} (ha : a < 2 ^ 30) (hb : b < 2 ^ 30) : (nI a - nI b).toInt = (a : Int) - b := by
  rw [Int32.toInt_sub, nI_toInt (by omega), nI_toInt (by omega)]
  exact Int.bmod_eq_of_le (by omega) (by omega)
theorem pk_sneg {a b : Nat} (hb : b < 2 ^ 30) (h : a < b) : nI a - nI b < 0 := by
  rw [Int32.lt_iff_toInt_lt, pk_sub_toInt (by omega) hb, show (0 : Int32).toInt = 0 from by decide]
  omega
theorem pk_ix (x : Int32) {n : Nat} (hn : n < 2 ^ 31) : x < 0 ∨ nI n ≤ x ∨ ∃ j : Nat, j < n ∧ x = nI j := by
  by_cases h : x < 0
  · exact Or.inl h
  · obtain ⟨j, hj, rfl⟩ := nI_of h
    by_cases h2 : j < n
    · exact Or.inr (Or.inr ⟨j, h2, rfl⟩)
    · exact Or.inr (Or.inl (nI_le (by omega) hj))
theorem pk_le {x y : Int32} {A B : Prop} (a b : Nat) (f : a ≤ b → A) (g : b < a → B) (hx : x = nI a := by rfl) (hy : y = nI b := by rfl) (ha : a < 2 ^ 31 := by omega) (hb : b < 2 ^ 31 := by omega) : (x ≤ y → A) ∧ (¬ x ≤ y → B) := by
  subst hx hy
  rw [nI_leI ha hb]
  exact ⟨f, fun z => g (by omega)⟩
theorem pk_lt {x y : Int32} {A B : Prop} (a b : Nat) (f : a < b → A) (g : b ≤ a → B) (hx : x = nI a := by rfl) (hy : y = nI b := by rfl) (ha : a < 2 ^ 31 := by omega) (hb : b < 2 ^ 31 := by omega) : (x < y → A) ∧ (¬ x < y → B) := by
  subst hx hy
  rw [nI_ltI ha hb]
  exact ⟨f, fun z => g (by omega)⟩
theorem pk_eq {x y : Int32} {A B : Prop} (a b : Nat) (f : a = b → A) (g : a ≠ b → B) (hx : x = nI a := by rfl) (hy : y = nI b := by rfl) (ha : a < 2 ^ 31 := by omega) (hb : b < 2 ^ 31 := by omega) : (x = y → A) ∧ (¬ x = y → B) := by
  subst hx hy
  rw [nI_eq ha hb]
  exact ⟨f, g⟩
theorem pk_in {x : Int32} (n N : Nat) (h : n < N) (hx : x = nI n := by rfl) (hN : N < 2 ^ 31 := by omega) : vp_in x N := by
  subst hx
  exact vp_in_nI h hN
theorem pk_cl {x : Int32} (n : Nat) (hx : x = nI n := by rfl) (h : n < 2 ^ 31 := by omega) : x.toNatClampNeg = n := by
  subst hx
  exact nI_clamp h
theorem pk_tn {n : Nat} (h : n < 2 ^ 32) : (nI n).toBitVec.toNat = n := Nat.mod_eq_of_lt h
theorem pk_and (x : Int32) {m : Int32} (k : Nat) (hm : m.toBitVec.toNat = 2 ^ k - 1) : x &&& m = nI (x.toBitVec.toNat % 2 ^ k) := by
  apply Int32.toBitVec_inj.mp
  apply BitVec.eq_of_toNat_eq
  rw [Int32.toBitVec_and, BitVec.toNat_and, hm, Nat.and_two_pow_sub_one_eq_mod]
  show _ = (BitVec.ofNat 32 _).toNat
  rw [BitVec.toNat_ofNat]
  exact (Nat.mod_eq_of_lt (Nat.lt_of_le_of_lt (Nat.mod_le _ _) x.toBitVec.isLt)).symm
theorem pk_andN {n : Nat} (h : n < 2 ^ 32) {m : Int32} (k : Nat) (hm : m.toBitVec.toNat = 2 ^ k - 1) : nI n &&& m = nI (n % 2 ^ k) := by
  rw [pk_and _ k hm, pk_tn h]
theorem pk_andE (x : Int32) {m : Int32} (k : Nat) (hm : m.toBitVec.toNat = 2 ^ k - 1) : ∃ j : Nat, j < 2 ^ k ∧ x &&& m = nI j := ⟨_, Nat.mod_lt _ (Nat.two_pow_pos k), pk_and x k hm⟩
theorem pk_andIn (x : Int32) {m : Int32} (k : Nat) (hm : m.toBitVec.toNat = 2 ^ k - 1) (hk : k ≤ 30) : vp_in (x &&& m) (2 ^ k) := by
  obtain ⟨j, hj, e⟩ := pk_andE x k hm
  rw [e]
  exact vp_in_nI hj (Nat.lt_of_le_of_lt (Nat.pow_le_pow_right (by decide) hk) (by decide))
theorem pk_shl (a s : Int32) (k : Nat) (hs : (s.toBitVec.smod 32).toNat = k) : (a <<< s).toBitVec.toNat = a.toBitVec.toNat * 2 ^ k % 2 ^ 32 := by
  show (a.toBitVec <<< (s.toBitVec.smod 32).toNat).toNat = _
  rw [hs, BitVec.toNat_shiftLeft, Nat.shiftLeft_eq]
theorem pk_shlN {n : Nat} (s : Int32) (k : Nat) (hs : (s.toBitVec.smod 32).toNat = k) (h : n * 2 ^ k < 2 ^ 32) : nI n <<< s = nI (n * 2 ^ k) := by
  apply Int32.toBitVec_inj.mp
  apply BitVec.eq_of_toNat_eq
  have hn : n < 2 ^ 32 := Nat.lt_of_le_of_lt (Nat.le_mul_of_pos_right n (Nat.two_pow_pos k)) h
  rw [pk_shl _ _ k hs, pk_tn hn, pk_tn h, Nat.mod_eq_of_lt h]
theorem pk_shr (a s : Int32) (k : Nat) (hs : (s.toBitVec.smod 32).toNat = k) : (a >>> s).toInt = a.toInt >>> k := by
  show (a.toBitVec.sshiftRight (s.toBitVec.smod 32).toNat).toInt = _
  rw [hs, BitVec.toInt_sshiftRight]
  rfl
theorem pk_shrN {n : Nat} (h : n < 2 ^ 31) (s : Int32) (k : Nat) (hs : (s.toBitVec.smod 32).toNat = k) : nI n >>> s = nI (n / 2 ^ k) := by
  apply Int32.toInt_inj.mp
  have h2 : n / 2 ^ k ≤ n := Nat.div_le_self _ _
  rw [pk_shr _ _ k hs, nI_toInt h, nI_toInt (by omega), Int.shiftRight_eq_div_pow]
  rfl
theorem pk_ushr (x s : Int32) (k : Nat) (hs : ((s.toUInt32 &&& Int32.toUInt32 31).toBitVec % 32).toNat = k) : (x.toUInt32 >>> (s.toUInt32 &&& Int32.toUInt32 31)).toInt32.toBitVec.toNat = x.toBitVec.toNat / 2 ^ k := by
  have e : (x.toUInt32 >>> (s.toUInt32 &&& Int32.toUInt32 31)).toInt32.toBitVec = x.toBitVec >>> k := by
    rw [← hs]
    exact UInt32.toBitVec_shiftRight _ _
  rw [e, BitVec.toNat_ushiftRight, Nat.shiftRight_eq_div_pow]
theorem pk_ushrN {n : Nat} (hn : n < 2 ^ 32) (s : Int32) (k : Nat) (hs : ((s.toUInt32 &&& Int32.toUInt32 31).toBitVec % 32).toNat = k) : ((nI n).toUInt32 >>> (s.toUInt32 &&& Int32.toUInt32 31)).toInt32 = nI (n / 2 ^ k) := by
  apply Int32.toBitVec_inj.mp
  apply BitVec.eq_of_toNat_eq
  rw [pk_ushr _ s k hs, pk_tn hn, pk_tn (Nat.lt_of_le_of_lt (Nat.div_le_self _ _) hn)]
theorem pk_nb (z : Int32) : narrow .byte (.int z.toInt8.toInt32) = .int z.toInt8.toInt32 := congrArg Value.int (by simp)
theorem pk_ns (z : Int32) : narrow .short (.int z.toInt16.toInt32) = .int z.toInt16.toInt32 := congrArg Value.int (by simp)
theorem pk_fb (r : Int32) : fits .byte (.int r.toInt8.toInt32) = true := by
  have ⟨a, b⟩ := lg_i2b_range r
  have h1 : (-128 : Int32).toInt = -128 := by decide
  have h2 : (127 : Int32).toInt = 127 := by decide
  simp only [fits, Bool.and_eq_true, decide_eq_true_eq, Int32.le_iff_toInt_le, h1, h2]
  omega
theorem pk_fs (r : Int32) : fits .short (.int r.toInt16.toInt32) = true := by
  have ⟨a, b⟩ := lg_i2s_range r
  have h1 : (-32768 : Int32).toInt = -32768 := by decide
  have h2 : (32767 : Int32).toInt = 32767 := by decide
  simp only [fits, Bool.and_eq_true, decide_eq_true_eq, Int32.le_iff_toInt_le, h1, h2]
  omega
theorem pk_charN {q : Nat} (hq : q < 65536) : narrow .char (.int (nI q)) = .int (nI q) ∧ fits .char (.int (nI q)) = true := by
  constructor
  · have e : (nI q).toUInt32.toUInt16.toUInt32.toInt32 = nI q := by
      apply Int32.toBitVec_inj.mp
      apply BitVec.eq_of_toNat_eq
      show (nI q).toUInt32.toUInt16.toUInt32.toNat = q % 2 ^ 32
      rw [UInt16.toNat_toUInt32, UInt32.toNat_toUInt16, show (nI q).toUInt32.toNat = q % 2 ^ 32 from rfl]
      omega
    exact congrArg Value.int e
  · have a : (0 : Int32) ≤ nI q := nI_pos' (by omega)
    have b : nI q ≤ 65535 := nI_le (b := 65535) (by omega) (by decide)
    show (decide ((0 : Int32) ≤ nI q) && decide (nI q ≤ 65535)) = true
    rw [decide_eq_true a, decide_eq_true b]
    rfl
theorem pk_char (x : Int32) : (x.toUInt32 % 65536).toInt32 = nI (x.toBitVec.toNat % 65536) := by
  apply Int32.toBitVec_inj.mp
  apply BitVec.eq_of_toNat_eq
  rw [pk_tn (by omega)]
  show (x.toUInt32 % 65536).toNat = _
  rw [UInt32.toNat_mod]
  rfl
theorem pk_nc (x : Int32) : narrow .char (.int (x.toUInt32 % 65536).toInt32) = .int (x.toUInt32 % 65536).toInt32 := by
  rw [pk_char]
  exact (pk_charN (Nat.mod_lt _ (by decide))).1
theorem pk_fc (x : Int32) : fits .char (.int (x.toUInt32 % 65536).toInt32) = true := by
  rw [pk_char]
  exact (pk_charN (Nat.mod_lt _ (by decide))).2
theorem pk_vb (z : Int32) : vp_nar .byte z.toInt8.toInt32 = z.toInt8.toInt32 := by rw [vp_nar_byte]; simp
theorem pk_vs (z : Int32) : vp_nar .short z.toInt16.toInt32 = z.toInt16.toInt32 := by rw [vp_nar_short]; simp
theorem pk_vc (z : Int32) : vp_nar .char (z.toUInt32 % 65536).toInt32 = (z.toUInt32 % 65536).toInt32 := Value.int.inj (pk_nc z)
theorem pk_lT {n : Nat} (h : n < 2 ^ 63) : (lN n).toInt = (n : Int) := lg_ofNat_toInt h
theorem pk_lLT {a b : Nat} (ha : a < 2 ^ 63) (hb : b < 2 ^ 63) : lN a < lN b ↔ a < b := by
  rw [Int64.lt_iff_toInt_lt, pk_lT ha, pk_lT hb]; omega
theorem pk_lLE {a b : Nat} (ha : a < 2 ^ 63) (hb : b < 2 ^ 63) : lN a ≤ lN b ↔ a ≤ b := by
  rw [Int64.le_iff_toInt_le, pk_lT ha, pk_lT hb]; omega
theorem pk_lEQ {a b : Nat} (ha : a < 2 ^ 63) (hb : b < 2 ^ 63) : lN a = lN b ↔ a = b := by
  rw [← Int64.toInt_inj, pk_lT ha, pk_lT hb]; omega
theorem pk_lOf {x : Int64} (h : ¬ x < 0) : ∃ k : Nat, k < 2 ^ 63 ∧ x = lN k := by
  rw [Int64.lt_iff_toInt_lt] at h
  have h0 : (0 : Int64).toInt = 0 := by decide
  have hx := Int64.toInt_lt x
  refine ⟨x.toInt.toNat, by omega, Int64.toInt_inj.mp ?_⟩
  rw [pk_lT (by omega)]
  omega
theorem pk_lDiv {a b : Nat} (ha : a < 2 ^ 63) (h0 : 0 < b) (hb : b < 2 ^ 63) : lN a / lN b = lN (a / b) := by
  apply Int64.toInt_inj.mp
  rw [lg_ldiv_nonneg (by rw [pk_lT ha]; omega) (by rw [pk_lT hb]; omega), pk_lT ha, pk_lT hb, pk_lT (Nat.lt_of_le_of_lt (Nat.div_le_self a b) ha)]
  rfl
theorem pk_lRem {a b : Nat} (ha : a < 2 ^ 63) (h0 : 0 < b) (hb : b < 2 ^ 63) : lN a - lN a / lN b * lN b = lN (a % b) := by
  rw [pk_lDiv ha h0 hb, lN_mul, lN_sub (Nat.div_mul_le_self a b)]
  exact congrArg lN (by have := Nat.div_add_mod' a b; omega)
theorem pk_loop {σ : Type} (W : Nat → Nat → σ → Prop) (I : Nat → σ → Prop) (e i0 : Nat) (s : σ) (hi : i0 ≤ e) (h0 : I i0 s) (hx : ∀ n s, I e s → W (n + 1) e s)
    (hs : ∀ n i s, i < e → I i s → (∀ s', I (i + 1) s' → W n (i + 1) s') → W (n + 1) i s) : ∃ n, W n i0 s :=
  ⟨e + 1, loop_i W I e hx hs (e + 1) i0 s hi (by omega) h0⟩
theorem pk_loopD {σ : Type} (W : Nat → Nat → σ → Prop) (I : Nat → σ → Prop) (hx : ∀ n s, I 0 s → W (n + 1) 0 s)
    (hs : ∀ n i s, I (i + 1) s → (∀ s', I i s' → W n i s') → W (n + 1) (i + 1) s) : ∀ (e : Nat) (s : σ), I e s → W (e + 1) e s := by
  intro e
  induction e with
  | zero => exact fun s h => hx 0 s h
  | succ e ih => exact fun s h => hs (e + 1) e s h (fun s' h' => ih s' h')
theorem lp1 {A1 : Type} (W : Nat → A1 → Prop) (I : A1 → Prop) (μ : A1 → Nat) (hs : ∀ (n : Nat) (a1 : A1), I a1 → (∀ (b1 : A1), I b1 → μ b1 < μ a1 → W n b1) → W (n + 1) a1) (a1 : A1) (h : I a1) : ∃ n, W n a1 :=
  loop_m (σ := A1) (fun n s => W n s) (fun s => I s) (fun s => μ s) (fun n s hI hk => hs n s hI (fun b1 h9 hm => hk b1 h9 hm)) a1 h
theorem lp2 {A1 A2 : Type} (W : Nat → A1 → A2 → Prop) (I : A1 → A2 → Prop) (μ : A1 → A2 → Nat) (hs : ∀ (n : Nat) (a1 : A1) (a2 : A2), I a1 a2 → (∀ (b1 : A1) (b2 : A2), I b1 b2 → μ b1 b2 < μ a1 a2 → W n b1 b2) → W (n + 1) a1 a2) (a1 : A1) (a2 : A2) (h : I a1 a2) : ∃ n, W n a1 a2 :=
  loop_m (σ := A1 × A2) (fun n s => W n s.1 s.2) (fun s => I s.1 s.2) (fun s => μ s.1 s.2) (fun n s hI hk => hs n s.1 s.2 hI (fun b1 b2 h9 hm => hk (b1, b2) h9 hm)) (a1, a2) h
theorem lp3 {A1 A2 A3 : Type} (W : Nat → A1 → A2 → A3 → Prop) (I : A1 → A2 → A3 → Prop) (μ : A1 → A2 → A3 → Nat) (hs : ∀ (n : Nat) (a1 : A1) (a2 : A2) (a3 : A3), I a1 a2 a3 → (∀ (b1 : A1) (b2 : A2) (b3 : A3), I b1 b2 b3 → μ b1 b2 b3 < μ a1 a2 a3 → W n b1 b2 b3) → W (n + 1) a1 a2 a3) (a1 : A1) (a2 : A2) (a3 : A3) (h : I a1 a2 a3) : ∃ n, W n a1 a2 a3 :=
  loop_m (σ := A1 × A2 × A3) (fun n s => W n s.1 s.2.1 s.2.2) (fun s => I s.1 s.2.1 s.2.2) (fun s => μ s.1 s.2.1 s.2.2) (fun n s hI hk => hs n s.1 s.2.1 s.2.2 hI (fun b1 b2 b3 h9 hm => hk (b1, b2, b3) h9 hm)) (a1, a2, a3) h
theorem lp4 {A1 A2 A3 A4 : Type} (W : Nat → A1 → A2 → A3 → A4 → Prop) (I : A1 → A2 → A3 → A4 → Prop) (μ : A1 → A2 → A3 → A4 → Nat) (hs : ∀ (n : Nat) (a1 : A1) (a2 : A2) (a3 : A3) (a4 : A4), I a1 a2 a3 a4 → (∀ (b1 : A1) (b2 : A2) (b3 : A3) (b4 : A4), I b1 b2 b3 b4 → μ b1 b2 b3 b4 < μ a1 a2 a3 a4 → W n b1 b2 b3 b4) → W (n + 1) a1 a2 a3 a4) (a1 : A1) (a2 : A2) (a3 : A3) (a4 : A4) (h : I a1 a2 a3 a4) : ∃ n, W n a1 a2 a3 a4 :=
  loop_m (σ := A1 × A2 × A3 × A4) (fun n s => W n s.1 s.2.1 s.2.2.1 s.2.2.2) (fun s => I s.1 s.2.1 s.2.2.1 s.2.2.2) (fun s => μ s.1 s.2.1 s.2.2.1 s.2.2.2) (fun n s hI hk => hs n s.1 s.2.1 s.2.2.1 s.2.2.2 hI (fun b1 b2 b3 b4 h9 hm => hk (b1, b2, b3, b4) h9 hm)) (a1, a2, a3, a4) h
theorem lp5 {A1 A2 A3 A4 A5 : Type} (W : Nat → A1 → A2 → A3 → A4 → A5 → Prop) (I : A1 → A2 → A3 → A4 → A5 → Prop) (μ : A1 → A2 → A3 → A4 → A5 → Nat) (hs : ∀ (n : Nat) (a1 : A1) (a2 : A2) (a3 : A3) (a4 : A4) (a5 : A5), I a1 a2 a3 a4 a5 → (∀ (b1 : A1) (b2 : A2) (b3 : A3) (b4 : A4) (b5 : A5), I b1 b2 b3 b4 b5 → μ b1 b2 b3 b4 b5 < μ a1 a2 a3 a4 a5 → W n b1 b2 b3 b4 b5) → W (n + 1) a1 a2 a3 a4 a5) (a1 : A1) (a2 : A2) (a3 : A3) (a4 : A4) (a5 : A5) (h : I a1 a2 a3 a4 a5) : ∃ n, W n a1 a2 a3 a4 a5 :=
  loop_m (σ := A1 × A2 × A3 × A4 × A5) (fun n s => W n s.1 s.2.1 s.2.2.1 s.2.2.2.1 s.2.2.2.2) (fun s => I s.1 s.2.1 s.2.2.1 s.2.2.2.1 s.2.2.2.2) (fun s => μ s.1 s.2.1 s.2.2.1 s.2.2.2.1 s.2.2.2.2) (fun n s hI hk => hs n s.1 s.2.1 s.2.2.1 s.2.2.2.1 s.2.2.2.2 hI (fun b1 b2 b3 b4 b5 h9 hm => hk (b1, b2, b3, b4, b5) h9 hm)) (a1, a2, a3, a4, a5) h
theorem lp6 {A1 A2 A3 A4 A5 A6 : Type} (W : Nat → A1 → A2 → A3 → A4 → A5 → A6 → Prop) (I : A1 → A2 → A3 → A4 → A5 → A6 → Prop) (μ : A1 → A2 → A3 → A4 → A5 → A6 → Nat) (hs : ∀ (n : Nat) (a1 : A1) (a2 : A2) (a3 : A3) (a4 : A4) (a5 : A5) (a6 : A6), I a1 a2 a3 a4 a5 a6 → (∀ (b1 : A1) (b2 : A2) (b3 : A3) (b4 : A4) (b5 : A5) (b6 : A6), I b1 b2 b3 b4 b5 b6 → μ b1 b2 b3 b4 b5 b6 < μ a1 a2 a3 a4 a5 a6 → W n b1 b2 b3 b4 b5 b6) → W (n + 1) a1 a2 a3 a4 a5 a6) (a1 : A1) (a2 : A2) (a3 : A3) (a4 : A4) (a5 : A5) (a6 : A6) (h : I a1 a2 a3 a4 a5 a6) : ∃ n, W n a1 a2 a3 a4 a5 a6 :=
  loop_m (σ := A1 × A2 × A3 × A4 × A5 × A6) (fun n s => W n s.1 s.2.1 s.2.2.1 s.2.2.2.1 s.2.2.2.2.1 s.2.2.2.2.2) (fun s => I s.1 s.2.1 s.2.2.1 s.2.2.2.1 s.2.2.2.2.1 s.2.2.2.2.2) (fun s => μ s.1 s.2.1 s.2.2.1 s.2.2.2.1 s.2.2.2.2.1 s.2.2.2.2.2) (fun n s hI hk => hs n s.1 s.2.1 s.2.2.1 s.2.2.2.1 s.2.2.2.2.1 s.2.2.2.2.2 hI (fun b1 b2 b3 b4 b5 b6 h9 hm => hk (b1, b2, b3, b4, b5, b6) h9 hm)) (a1, a2, a3, a4, a5, a6) h
theorem lp7 {A1 A2 A3 A4 A5 A6 A7 : Type} (W : Nat → A1 → A2 → A3 → A4 → A5 → A6 → A7 → Prop) (I : A1 → A2 → A3 → A4 → A5 → A6 → A7 → Prop) (μ : A1 → A2 → A3 → A4 → A5 → A6 → A7 → Nat) (hs : ∀ (n : Nat) (a1 : A1) (a2 : A2) (a3 : A3) (a4 : A4) (a5 : A5) (a6 : A6) (a7 : A7), I a1 a2 a3 a4 a5 a6 a7 → (∀ (b1 : A1) (b2 : A2) (b3 : A3) (b4 : A4) (b5 : A5) (b6 : A6) (b7 : A7), I b1 b2 b3 b4 b5 b6 b7 → μ b1 b2 b3 b4 b5 b6 b7 < μ a1 a2 a3 a4 a5 a6 a7 → W n b1 b2 b3 b4 b5 b6 b7) → W (n + 1) a1 a2 a3 a4 a5 a6 a7) (a1 : A1) (a2 : A2) (a3 : A3) (a4 : A4) (a5 : A5) (a6 : A6) (a7 : A7) (h : I a1 a2 a3 a4 a5 a6 a7) : ∃ n, W n a1 a2 a3 a4 a5 a6 a7 :=
  loop_m (σ := A1 × A2 × A3 × A4 × A5 × A6 × A7) (fun n s => W n s.1 s.2.1 s.2.2.1 s.2.2.2.1 s.2.2.2.2.1 s.2.2.2.2.2.1 s.2.2.2.2.2.2) (fun s => I s.1 s.2.1 s.2.2.1 s.2.2.2.1 s.2.2.2.2.1 s.2.2.2.2.2.1 s.2.2.2.2.2.2) (fun s => μ s.1 s.2.1 s.2.2.1 s.2.2.2.1 s.2.2.2.2.1 s.2.2.2.2.2.1 s.2.2.2.2.2.2) (fun n s hI hk => hs n s.1 s.2.1 s.2.2.1 s.2.2.2.1 s.2.2.2.2.1 s.2.2.2.2.2.1 s.2.2.2.2.2.2 hI (fun b1 b2 b3 b4 b5 b6 b7 h9 hm => hk (b1, b2, b3, b4, b5, b6, b7) h9 hm)) (a1, a2, a3, a4, a5, a6, a7) h
theorem lp8 {A1 A2 A3 A4 A5 A6 A7 A8 : Type} (W : Nat → A1 → A2 → A3 → A4 → A5 → A6 → A7 → A8 → Prop) (I : A1 → A2 → A3 → A4 → A5 → A6 → A7 → A8 → Prop) (μ : A1 → A2 → A3 → A4 → A5 → A6 → A7 → A8 → Nat) (hs : ∀ (n : Nat) (a1 : A1) (a2 : A2) (a3 : A3) (a4 : A4) (a5 : A5) (a6 : A6) (a7 : A7) (a8 : A8), I a1 a2 a3 a4 a5 a6 a7 a8 → (∀ (b1 : A1) (b2 : A2) (b3 : A3) (b4 : A4) (b5 : A5) (b6 : A6) (b7 : A7) (b8 : A8), I b1 b2 b3 b4 b5 b6 b7 b8 → μ b1 b2 b3 b4 b5 b6 b7 b8 < μ a1 a2 a3 a4 a5 a6 a7 a8 → W n b1 b2 b3 b4 b5 b6 b7 b8) → W (n + 1) a1 a2 a3 a4 a5 a6 a7 a8) (a1 : A1) (a2 : A2) (a3 : A3) (a4 : A4) (a5 : A5) (a6 : A6) (a7 : A7) (a8 : A8) (h : I a1 a2 a3 a4 a5 a6 a7 a8) : ∃ n, W n a1 a2 a3 a4 a5 a6 a7 a8 :=
  loop_m (σ := A1 × A2 × A3 × A4 × A5 × A6 × A7 × A8) (fun n s => W n s.1 s.2.1 s.2.2.1 s.2.2.2.1 s.2.2.2.2.1 s.2.2.2.2.2.1 s.2.2.2.2.2.2.1 s.2.2.2.2.2.2.2) (fun s => I s.1 s.2.1 s.2.2.1 s.2.2.2.1 s.2.2.2.2.1 s.2.2.2.2.2.1 s.2.2.2.2.2.2.1 s.2.2.2.2.2.2.2) (fun s => μ s.1 s.2.1 s.2.2.1 s.2.2.2.1 s.2.2.2.2.1 s.2.2.2.2.2.1 s.2.2.2.2.2.2.1 s.2.2.2.2.2.2.2) (fun n s hI hk => hs n s.1 s.2.1 s.2.2.1 s.2.2.2.1 s.2.2.2.2.1 s.2.2.2.2.2.1 s.2.2.2.2.2.2.1 s.2.2.2.2.2.2.2 hI (fun b1 b2 b3 b4 b5 b6 b7 b8 h9 hm => hk (b1, b2, b3, b4, b5, b6, b7, b8) h9 hm)) (a1, a2, a3, a4, a5, a6, a7, a8) h
theorem lp9 {A1 A2 A3 A4 A5 A6 A7 A8 A9 : Type} (W : Nat → A1 → A2 → A3 → A4 → A5 → A6 → A7 → A8 → A9 → Prop) (I : A1 → A2 → A3 → A4 → A5 → A6 → A7 → A8 → A9 → Prop) (μ : A1 → A2 → A3 → A4 → A5 → A6 → A7 → A8 → A9 → Nat) (hs : ∀ (n : Nat) (a1 : A1) (a2 : A2) (a3 : A3) (a4 : A4) (a5 : A5) (a6 : A6) (a7 : A7) (a8 : A8) (a9 : A9), I a1 a2 a3 a4 a5 a6 a7 a8 a9 → (∀ (b1 : A1) (b2 : A2) (b3 : A3) (b4 : A4) (b5 : A5) (b6 : A6) (b7 : A7) (b8 : A8) (b9 : A9), I b1 b2 b3 b4 b5 b6 b7 b8 b9 → μ b1 b2 b3 b4 b5 b6 b7 b8 b9 < μ a1 a2 a3 a4 a5 a6 a7 a8 a9 → W n b1 b2 b3 b4 b5 b6 b7 b8 b9) → W (n + 1) a1 a2 a3 a4 a5 a6 a7 a8 a9) (a1 : A1) (a2 : A2) (a3 : A3) (a4 : A4) (a5 : A5) (a6 : A6) (a7 : A7) (a8 : A8) (a9 : A9) (h : I a1 a2 a3 a4 a5 a6 a7 a8 a9) : ∃ n, W n a1 a2 a3 a4 a5 a6 a7 a8 a9 :=
  loop_m (σ := A1 × A2 × A3 × A4 × A5 × A6 × A7 × A8 × A9) (fun n s => W n s.1 s.2.1 s.2.2.1 s.2.2.2.1 s.2.2.2.2.1 s.2.2.2.2.2.1 s.2.2.2.2.2.2.1 s.2.2.2.2.2.2.2.1 s.2.2.2.2.2.2.2.2) (fun s => I s.1 s.2.1 s.2.2.1 s.2.2.2.1 s.2.2.2.2.1 s.2.2.2.2.2.1 s.2.2.2.2.2.2.1 s.2.2.2.2.2.2.2.1 s.2.2.2.2.2.2.2.2) (fun s => μ s.1 s.2.1 s.2.2.1 s.2.2.2.1 s.2.2.2.2.1 s.2.2.2.2.2.1 s.2.2.2.2.2.2.1 s.2.2.2.2.2.2.2.1 s.2.2.2.2.2.2.2.2) (fun n s hI hk => hs n s.1 s.2.1 s.2.2.1 s.2.2.2.1 s.2.2.2.2.1 s.2.2.2.2.2.1 s.2.2.2.2.2.2.1 s.2.2.2.2.2.2.2.1 s.2.2.2.2.2.2.2.2 hI (fun b1 b2 b3 b4 b5 b6 b7 b8 b9 h9 hm => hk (b1, b2, b3, b4, b5, b6, b7, b8, b9) h9 hm)) (a1, a2, a3, a4, a5, a6, a7, a8, a9) h
theorem lp10 {A1 A2 A3 A4 A5 A6 A7 A8 A9 A10 : Type} (W : Nat → A1 → A2 → A3 → A4 → A5 → A6 → A7 → A8 → A9 → A10 → Prop) (I : A1 → A2 → A3 → A4 → A5 → A6 → A7 → A8 → A9 → A10 → Prop) (μ : A1 → A2 → A3 → A4 → A5 → A6 → A7 → A8 → A9 → A10 → Nat) (hs : ∀ (n : Nat) (a1 : A1) (a2 : A2) (a3 : A3) (a4 : A4) (a5 : A5) (a6 : A6) (a7 : A7) (a8 : A8) (a9 : A9) (a10 : A10), I a1 a2 a3 a4 a5 a6 a7 a8 a9 a10 → (∀ (b1 : A1) (b2 : A2) (b3 : A3) (b4 : A4) (b5 : A5) (b6 : A6) (b7 : A7) (b8 : A8) (b9 : A9) (b10 : A10), I b1 b2 b3 b4 b5 b6 b7 b8 b9 b10 → μ b1 b2 b3 b4 b5 b6 b7 b8 b9 b10 < μ a1 a2 a3 a4 a5 a6 a7 a8 a9 a10 → W n b1 b2 b3 b4 b5 b6 b7 b8 b9 b10) → W (n + 1) a1 a2 a3 a4 a5 a6 a7 a8 a9 a10) (a1 : A1) (a2 : A2) (a3 : A3) (a4 : A4) (a5 : A5) (a6 : A6) (a7 : A7) (a8 : A8) (a9 : A9) (a10 : A10) (h : I a1 a2 a3 a4 a5 a6 a7 a8 a9 a10) : ∃ n, W n a1 a2 a3 a4 a5 a6 a7 a8 a9 a10 :=
  loop_m (σ := A1 × A2 × A3 × A4 × A5 × A6 × A7 × A8 × A9 × A10) (fun n s => W n s.1 s.2.1 s.2.2.1 s.2.2.2.1 s.2.2.2.2.1 s.2.2.2.2.2.1 s.2.2.2.2.2.2.1 s.2.2.2.2.2.2.2.1 s.2.2.2.2.2.2.2.2.1 s.2.2.2.2.2.2.2.2.2) (fun s => I s.1 s.2.1 s.2.2.1 s.2.2.2.1 s.2.2.2.2.1 s.2.2.2.2.2.1 s.2.2.2.2.2.2.1 s.2.2.2.2.2.2.2.1 s.2.2.2.2.2.2.2.2.1 s.2.2.2.2.2.2.2.2.2) (fun s => μ s.1 s.2.1 s.2.2.1 s.2.2.2.1 s.2.2.2.2.1 s.2.2.2.2.2.1 s.2.2.2.2.2.2.1 s.2.2.2.2.2.2.2.1 s.2.2.2.2.2.2.2.2.1 s.2.2.2.2.2.2.2.2.2) (fun n s hI hk => hs n s.1 s.2.1 s.2.2.1 s.2.2.2.1 s.2.2.2.2.1 s.2.2.2.2.2.1 s.2.2.2.2.2.2.1 s.2.2.2.2.2.2.2.1 s.2.2.2.2.2.2.2.2.1 s.2.2.2.2.2.2.2.2.2 hI (fun b1 b2 b3 b4 b5 b6 b7 b8 b9 b10 h9 hm => hk (b1, b2, b3, b4, b5, b6, b7, b8, b9, b10) h9 hm)) (a1, a2, a3, a4, a5, a6, a7, a8, a9, a10) h
theorem lp11 {A1 A2 A3 A4 A5 A6 A7 A8 A9 A10 A11 : Type} (W : Nat → A1 → A2 → A3 → A4 → A5 → A6 → A7 → A8 → A9 → A10 → A11 → Prop) (I : A1 → A2 → A3 → A4 → A5 → A6 → A7 → A8 → A9 → A10 → A11 → Prop) (μ : A1 → A2 → A3 → A4 → A5 → A6 → A7 → A8 → A9 → A10 → A11 → Nat) (hs : ∀ (n : Nat) (a1 : A1) (a2 : A2) (a3 : A3) (a4 : A4) (a5 : A5) (a6 : A6) (a7 : A7) (a8 : A8) (a9 : A9) (a10 : A10) (a11 : A11), I a1 a2 a3 a4 a5 a6 a7 a8 a9 a10 a11 → (∀ (b1 : A1) (b2 : A2) (b3 : A3) (b4 : A4) (b5 : A5) (b6 : A6) (b7 : A7) (b8 : A8) (b9 : A9) (b10 : A10) (b11 : A11), I b1 b2 b3 b4 b5 b6 b7 b8 b9 b10 b11 → μ b1 b2 b3 b4 b5 b6 b7 b8 b9 b10 b11 < μ a1 a2 a3 a4 a5 a6 a7 a8 a9 a10 a11 → W n b1 b2 b3 b4 b5 b6 b7 b8 b9 b10 b11) → W (n + 1) a1 a2 a3 a4 a5 a6 a7 a8 a9 a10 a11) (a1 : A1) (a2 : A2) (a3 : A3) (a4 : A4) (a5 : A5) (a6 : A6) (a7 : A7) (a8 : A8) (a9 : A9) (a10 : A10) (a11 : A11) (h : I a1 a2 a3 a4 a5 a6 a7 a8 a9 a10 a11) : ∃ n, W n a1 a2 a3 a4 a5 a6 a7 a8 a9 a10 a11 :=
  loop_m (σ := A1 × A2 × A3 × A4 × A5 × A6 × A7 × A8 × A9 × A10 × A11) (fun n s => W n s.1 s.2.1 s.2.2.1 s.2.2.2.1 s.2.2.2.2.1 s.2.2.2.2.2.1 s.2.2.2.2.2.2.1 s.2.2.2.2.2.2.2.1 s.2.2.2.2.2.2.2.2.1 s.2.2.2.2.2.2.2.2.2.1 s.2.2.2.2.2.2.2.2.2.2) (fun s => I s.1 s.2.1 s.2.2.1 s.2.2.2.1 s.2.2.2.2.1 s.2.2.2.2.2.1 s.2.2.2.2.2.2.1 s.2.2.2.2.2.2.2.1 s.2.2.2.2.2.2.2.2.1 s.2.2.2.2.2.2.2.2.2.1 s.2.2.2.2.2.2.2.2.2.2) (fun s => μ s.1 s.2.1 s.2.2.1 s.2.2.2.1 s.2.2.2.2.1 s.2.2.2.2.2.1 s.2.2.2.2.2.2.1 s.2.2.2.2.2.2.2.1 s.2.2.2.2.2.2.2.2.1 s.2.2.2.2.2.2.2.2.2.1 s.2.2.2.2.2.2.2.2.2.2) (fun n s hI hk => hs n s.1 s.2.1 s.2.2.1 s.2.2.2.1 s.2.2.2.2.1 s.2.2.2.2.2.1 s.2.2.2.2.2.2.1 s.2.2.2.2.2.2.2.1 s.2.2.2.2.2.2.2.2.1 s.2.2.2.2.2.2.2.2.2.1 s.2.2.2.2.2.2.2.2.2.2 hI (fun b1 b2 b3 b4 b5 b6 b7 b8 b9 b10 b11 h9 hm => hk (b1, b2, b3, b4, b5, b6, b7, b8, b9, b10, b11) h9 hm)) (a1, a2, a3, a4, a5, a6, a7, a8, a9, a10, a11) h
theorem lp12 {A1 A2 A3 A4 A5 A6 A7 A8 A9 A10 A11 A12 : Type} (W : Nat → A1 → A2 → A3 → A4 → A5 → A6 → A7 → A8 → A9 → A10 → A11 → A12 → Prop) (I : A1 → A2 → A3 → A4 → A5 → A6 → A7 → A8 → A9 → A10 → A11 → A12 → Prop) (μ : A1 → A2 → A3 → A4 → A5 → A6 → A7 → A8 → A9 → A10 → A11 → A12 → Nat) (hs : ∀ (n : Nat) (a1 : A1) (a2 : A2) (a3 : A3) (a4 : A4) (a5 : A5) (a6 : A6) (a7 : A7) (a8 : A8) (a9 : A9) (a10 : A10) (a11 : A11) (a12 : A12), I a1 a2 a3 a4 a5 a6 a7 a8 a9 a10 a11 a12 → (∀ (b1 : A1) (b2 : A2) (b3 : A3) (b4 : A4) (b5 : A5) (b6 : A6) (b7 : A7) (b8 : A8) (b9 : A9) (b10 : A10) (b11 : A11) (b12 : A12), I b1 b2 b3 b4 b5 b6 b7 b8 b9 b10 b11 b12 → μ b1 b2 b3 b4 b5 b6 b7 b8 b9 b10 b11 b12 < μ a1 a2 a3 a4 a5 a6 a7 a8 a9 a10 a11 a12 → W n b1 b2 b3 b4 b5 b6 b7 b8 b9 b10 b11 b12) → W (n + 1) a1 a2 a3 a4 a5 a6 a7 a8 a9 a10 a11 a12) (a1 : A1) (a2 : A2) (a3 : A3) (a4 : A4) (a5 : A5) (a6 : A6) (a7 : A7) (a8 : A8) (a9 : A9) (a10 : A10) (a11 : A11) (a12 : A12) (h : I a1 a2 a3 a4 a5 a6 a7 a8 a9 a10 a11 a12) : ∃ n, W n a1 a2 a3 a4 a5 a6 a7 a8 a9 a10 a11 a12 :=
  loop_m (σ := A1 × A2 × A3 × A4 × A5 × A6 × A7 × A8 × A9 × A10 × A11 × A12) (fun n s => W n s.1 s.2.1 s.2.2.1 s.2.2.2.1 s.2.2.2.2.1 s.2.2.2.2.2.1 s.2.2.2.2.2.2.1 s.2.2.2.2.2.2.2.1 s.2.2.2.2.2.2.2.2.1 s.2.2.2.2.2.2.2.2.2.1 s.2.2.2.2.2.2.2.2.2.2.1 s.2.2.2.2.2.2.2.2.2.2.2) (fun s => I s.1 s.2.1 s.2.2.1 s.2.2.2.1 s.2.2.2.2.1 s.2.2.2.2.2.1 s.2.2.2.2.2.2.1 s.2.2.2.2.2.2.2.1 s.2.2.2.2.2.2.2.2.1 s.2.2.2.2.2.2.2.2.2.1 s.2.2.2.2.2.2.2.2.2.2.1 s.2.2.2.2.2.2.2.2.2.2.2) (fun s => μ s.1 s.2.1 s.2.2.1 s.2.2.2.1 s.2.2.2.2.1 s.2.2.2.2.2.1 s.2.2.2.2.2.2.1 s.2.2.2.2.2.2.2.1 s.2.2.2.2.2.2.2.2.1 s.2.2.2.2.2.2.2.2.2.1 s.2.2.2.2.2.2.2.2.2.2.1 s.2.2.2.2.2.2.2.2.2.2.2) (fun n s hI hk => hs n s.1 s.2.1 s.2.2.1 s.2.2.2.1 s.2.2.2.2.1 s.2.2.2.2.2.1 s.2.2.2.2.2.2.1 s.2.2.2.2.2.2.2.1 s.2.2.2.2.2.2.2.2.1 s.2.2.2.2.2.2.2.2.2.1 s.2.2.2.2.2.2.2.2.2.2.1 s.2.2.2.2.2.2.2.2.2.2.2 hI (fun b1 b2 b3 b4 b5 b6 b7 b8 b9 b10 b11 b12 h9 hm => hk (b1, b2, b3, b4, b5, b6, b7, b8, b9, b10, b11, b12) h9 hm)) (a1, a2, a3, a4, a5, a6, a7, a8, a9, a10, a11, a12) h
theorem lp13 {A1 A2 A3 A4 A5 A6 A7 A8 A9 A10 A11 A12 A13 : Type} (W : Nat → A1 → A2 → A3 → A4 → A5 → A6 → A7 → A8 → A9 → A10 → A11 → A12 → A13 → Prop) (I : A1 → A2 → A3 → A4 → A5 → A6 → A7 → A8 → A9 → A10 → A11 → A12 → A13 → Prop) (μ : A1 → A2 → A3 → A4 → A5 → A6 → A7 → A8 → A9 → A10 → A11 → A12 → A13 → Nat) (hs : ∀ (n : Nat) (a1 : A1) (a2 : A2) (a3 : A3) (a4 : A4) (a5 : A5) (a6 : A6) (a7 : A7) (a8 : A8) (a9 : A9) (a10 : A10) (a11 : A11) (a12 : A12) (a13 : A13), I a1 a2 a3 a4 a5 a6 a7 a8 a9 a10 a11 a12 a13 → (∀ (b1 : A1) (b2 : A2) (b3 : A3) (b4 : A4) (b5 : A5) (b6 : A6) (b7 : A7) (b8 : A8) (b9 : A9) (b10 : A10) (b11 : A11) (b12 : A12) (b13 : A13), I b1 b2 b3 b4 b5 b6 b7 b8 b9 b10 b11 b12 b13 → μ b1 b2 b3 b4 b5 b6 b7 b8 b9 b10 b11 b12 b13 < μ a1 a2 a3 a4 a5 a6 a7 a8 a9 a10 a11 a12 a13 → W n b1 b2 b3 b4 b5 b6 b7 b8 b9 b10 b11 b12 b13) → W (n + 1) a1 a2 a3 a4 a5 a6 a7 a8 a9 a10 a11 a12 a13) (a1 : A1) (a2 : A2) (a3 : A3) (a4 : A4) (a5 : A5) (a6 : A6) (a7 : A7) (a8 : A8) (a9 : A9) (a10 : A10) (a11 : A11) (a12 : A12) (a13 : A13) (h : I a1 a2 a3 a4 a5 a6 a7 a8 a9 a10 a11 a12 a13) : ∃ n, W n a1 a2 a3 a4 a5 a6 a7 a8 a9 a10 a11 a12 a13 :=
  loop_m (σ := A1 × A2 × A3 × A4 × A5 × A6 × A7 × A8 × A9 × A10 × A11 × A12 × A13) (fun n s => W n s.1 s.2.1 s.2.2.1 s.2.2.2.1 s.2.2.2.2.1 s.2.2.2.2.2.1 s.2.2.2.2.2.2.1 s.2.2.2.2.2.2.2.1 s.2.2.2.2.2.2.2.2.1 s.2.2.2.2.2.2.2.2.2.1 s.2.2.2.2.2.2.2.2.2.2.1 s.2.2.2.2.2.2.2.2.2.2.2.1 s.2.2.2.2.2.2.2.2.2.2.2.2) (fun s => I s.1 s.2.1 s.2.2.1 s.2.2.2.1 s.2.2.2.2.1 s.2.2.2.2.2.1 s.2.2.2.2.2.2.1 s.2.2.2.2.2.2.2.1 s.2.2.2.2.2.2.2.2.1 s.2.2.2.2.2.2.2.2.2.1 s.2.2.2.2.2.2.2.2.2.2.1 s.2.2.2.2.2.2.2.2.2.2.2.1 s.2.2.2.2.2.2.2.2.2.2.2.2) (fun s => μ s.1 s.2.1 s.2.2.1 s.2.2.2.1 s.2.2.2.2.1 s.2.2.2.2.2.1 s.2.2.2.2.2.2.1 s.2.2.2.2.2.2.2.1 s.2.2.2.2.2.2.2.2.1 s.2.2.2.2.2.2.2.2.2.1 s.2.2.2.2.2.2.2.2.2.2.1 s.2.2.2.2.2.2.2.2.2.2.2.1 s.2.2.2.2.2.2.2.2.2.2.2.2) (fun n s hI hk => hs n s.1 s.2.1 s.2.2.1 s.2.2.2.1 s.2.2.2.2.1 s.2.2.2.2.2.1 s.2.2.2.2.2.2.1 s.2.2.2.2.2.2.2.1 s.2.2.2.2.2.2.2.2.1 s.2.2.2.2.2.2.2.2.2.1 s.2.2.2.2.2.2.2.2.2.2.1 s.2.2.2.2.2.2.2.2.2.2.2.1 s.2.2.2.2.2.2.2.2.2.2.2.2 hI (fun b1 b2 b3 b4 b5 b6 b7 b8 b9 b10 b11 b12 b13 h9 hm => hk (b1, b2, b3, b4, b5, b6, b7, b8, b9, b10, b11, b12, b13) h9 hm)) (a1, a2, a3, a4, a5, a6, a7, a8, a9, a10, a11, a12, a13) h
theorem lp14 {A1 A2 A3 A4 A5 A6 A7 A8 A9 A10 A11 A12 A13 A14 : Type} (W : Nat → A1 → A2 → A3 → A4 → A5 → A6 → A7 → A8 → A9 → A10 → A11 → A12 → A13 → A14 → Prop) (I : A1 → A2 → A3 → A4 → A5 → A6 → A7 → A8 → A9 → A10 → A11 → A12 → A13 → A14 → Prop) (μ : A1 → A2 → A3 → A4 → A5 → A6 → A7 → A8 → A9 → A10 → A11 → A12 → A13 → A14 → Nat) (hs : ∀ (n : Nat) (a1 : A1) (a2 : A2) (a3 : A3) (a4 : A4) (a5 : A5) (a6 : A6) (a7 : A7) (a8 : A8) (a9 : A9) (a10 : A10) (a11 : A11) (a12 : A12) (a13 : A13) (a14 : A14), I a1 a2 a3 a4 a5 a6 a7 a8 a9 a10 a11 a12 a13 a14 → (∀ (b1 : A1) (b2 : A2) (b3 : A3) (b4 : A4) (b5 : A5) (b6 : A6) (b7 : A7) (b8 : A8) (b9 : A9) (b10 : A10) (b11 : A11) (b12 : A12) (b13 : A13) (b14 : A14), I b1 b2 b3 b4 b5 b6 b7 b8 b9 b10 b11 b12 b13 b14 → μ b1 b2 b3 b4 b5 b6 b7 b8 b9 b10 b11 b12 b13 b14 < μ a1 a2 a3 a4 a5 a6 a7 a8 a9 a10 a11 a12 a13 a14 → W n b1 b2 b3 b4 b5 b6 b7 b8 b9 b10 b11 b12 b13 b14) → W (n + 1) a1 a2 a3 a4 a5 a6 a7 a8 a9 a10 a11 a12 a13 a14) (a1 : A1) (a2 : A2) (a3 : A3) (a4 : A4) (a5 : A5) (a6 : A6) (a7 : A7) (a8 : A8) (a9 : A9) (a10 : A10) (a11 : A11) (a12 : A12) (a13 : A13) (a14 : A14) (h : I a1 a2 a3 a4 a5 a6 a7 a8 a9 a10 a11 a12 a13 a14) : ∃ n, W n a1 a2 a3 a4 a5 a6 a7 a8 a9 a10 a11 a12 a13 a14 :=
  loop_m (σ := A1 × A2 × A3 × A4 × A5 × A6 × A7 × A8 × A9 × A10 × A11 × A12 × A13 × A14) (fun n s => W n s.1 s.2.1 s.2.2.1 s.2.2.2.1 s.2.2.2.2.1 s.2.2.2.2.2.1 s.2.2.2.2.2.2.1 s.2.2.2.2.2.2.2.1 s.2.2.2.2.2.2.2.2.1 s.2.2.2.2.2.2.2.2.2.1 s.2.2.2.2.2.2.2.2.2.2.1 s.2.2.2.2.2.2.2.2.2.2.2.1 s.2.2.2.2.2.2.2.2.2.2.2.2.1 s.2.2.2.2.2.2.2.2.2.2.2.2.2) (fun s => I s.1 s.2.1 s.2.2.1 s.2.2.2.1 s.2.2.2.2.1 s.2.2.2.2.2.1 s.2.2.2.2.2.2.1 s.2.2.2.2.2.2.2.1 s.2.2.2.2.2.2.2.2.1 s.2.2.2.2.2.2.2.2.2.1 s.2.2.2.2.2.2.2.2.2.2.1 s.2.2.2.2.2.2.2.2.2.2.2.1 s.2.2.2.2.2.2.2.2.2.2.2.2.1 s.2.2.2.2.2.2.2.2.2.2.2.2.2) (fun s => μ s.1 s.2.1 s.2.2.1 s.2.2.2.1 s.2.2.2.2.1 s.2.2.2.2.2.1 s.2.2.2.2.2.2.1 s.2.2.2.2.2.2.2.1 s.2.2.2.2.2.2.2.2.1 s.2.2.2.2.2.2.2.2.2.1 s.2.2.2.2.2.2.2.2.2.2.1 s.2.2.2.2.2.2.2.2.2.2.2.1 s.2.2.2.2.2.2.2.2.2.2.2.2.1 s.2.2.2.2.2.2.2.2.2.2.2.2.2) (fun n s hI hk => hs n s.1 s.2.1 s.2.2.1 s.2.2.2.1 s.2.2.2.2.1 s.2.2.2.2.2.1 s.2.2.2.2.2.2.1 s.2.2.2.2.2.2.2.1 s.2.2.2.2.2.2.2.2.1 s.2.2.2.2.2.2.2.2.2.1 s.2.2.2.2.2.2.2.2.2.2.1 s.2.2.2.2.2.2.2.2.2.2.2.1 s.2.2.2.2.2.2.2.2.2.2.2.2.1 s.2.2.2.2.2.2.2.2.2.2.2.2.2 hI (fun b1 b2 b3 b4 b5 b6 b7 b8 b9 b10 b11 b12 b13 b14 h9 hm => hk (b1, b2, b3, b4, b5, b6, b7, b8, b9, b10, b11, b12, b13, b14) h9 hm)) (a1, a2, a3, a4, a5, a6, a7, a8, a9, a10, a11, a12, a13, a14) h
theorem lp15 {A1 A2 A3 A4 A5 A6 A7 A8 A9 A10 A11 A12 A13 A14 A15 : Type} (W : Nat → A1 → A2 → A3 → A4 → A5 → A6 → A7 → A8 → A9 → A10 → A11 → A12 → A13 → A14 → A15 → Prop) (I : A1 → A2 → A3 → A4 → A5 → A6 → A7 → A8 → A9 → A10 → A11 → A12 → A13 → A14 → A15 → Prop) (μ : A1 → A2 → A3 → A4 → A5 → A6 → A7 → A8 → A9 → A10 → A11 → A12 → A13 → A14 → A15 → Nat) (hs : ∀ (n : Nat) (a1 : A1) (a2 : A2) (a3 : A3) (a4 : A4) (a5 : A5) (a6 : A6) (a7 : A7) (a8 : A8) (a9 : A9) (a10 : A10) (a11 : A11) (a12 : A12) (a13 : A13) (a14 : A14) (a15 : A15), I a1 a2 a3 a4 a5 a6 a7 a8 a9 a10 a11 a12 a13 a14 a15 → (∀ (b1 : A1) (b2 : A2) (b3 : A3) (b4 : A4) (b5 : A5) (b6 : A6) (b7 : A7) (b8 : A8) (b9 : A9) (b10 : A10) (b11 : A11) (b12 : A12) (b13 : A13) (b14 : A14) (b15 : A15), I b1 b2 b3 b4 b5 b6 b7 b8 b9 b10 b11 b12 b13 b14 b15 → μ b1 b2 b3 b4 b5 b6 b7 b8 b9 b10 b11 b12 b13 b14 b15 < μ a1 a2 a3 a4 a5 a6 a7 a8 a9 a10 a11 a12 a13 a14 a15 → W n b1 b2 b3 b4 b5 b6 b7 b8 b9 b10 b11 b12 b13 b14 b15) → W (n + 1) a1 a2 a3 a4 a5 a6 a7 a8 a9 a10 a11 a12 a13 a14 a15) (a1 : A1) (a2 : A2) (a3 : A3) (a4 : A4) (a5 : A5) (a6 : A6) (a7 : A7) (a8 : A8) (a9 : A9) (a10 : A10) (a11 : A11) (a12 : A12) (a13 : A13) (a14 : A14) (a15 : A15) (h : I a1 a2 a3 a4 a5 a6 a7 a8 a9 a10 a11 a12 a13 a14 a15) : ∃ n, W n a1 a2 a3 a4 a5 a6 a7 a8 a9 a10 a11 a12 a13 a14 a15 :=
  loop_m (σ := A1 × A2 × A3 × A4 × A5 × A6 × A7 × A8 × A9 × A10 × A11 × A12 × A13 × A14 × A15) (fun n s => W n s.1 s.2.1 s.2.2.1 s.2.2.2.1 s.2.2.2.2.1 s.2.2.2.2.2.1 s.2.2.2.2.2.2.1 s.2.2.2.2.2.2.2.1 s.2.2.2.2.2.2.2.2.1 s.2.2.2.2.2.2.2.2.2.1 s.2.2.2.2.2.2.2.2.2.2.1 s.2.2.2.2.2.2.2.2.2.2.2.1 s.2.2.2.2.2.2.2.2.2.2.2.2.1 s.2.2.2.2.2.2.2.2.2.2.2.2.2.1 s.2.2.2.2.2.2.2.2.2.2.2.2.2.2) (fun s => I s.1 s.2.1 s.2.2.1 s.2.2.2.1 s.2.2.2.2.1 s.2.2.2.2.2.1 s.2.2.2.2.2.2.1 s.2.2.2.2.2.2.2.1 s.2.2.2.2.2.2.2.2.1 s.2.2.2.2.2.2.2.2.2.1 s.2.2.2.2.2.2.2.2.2.2.1 s.2.2.2.2.2.2.2.2.2.2.2.1 s.2.2.2.2.2.2.2.2.2.2.2.2.1 s.2.2.2.2.2.2.2.2.2.2.2.2.2.1 s.2.2.2.2.2.2.2.2.2.2.2.2.2.2) (fun s => μ s.1 s.2.1 s.2.2.1 s.2.2.2.1 s.2.2.2.2.1 s.2.2.2.2.2.1 s.2.2.2.2.2.2.1 s.2.2.2.2.2.2.2.1 s.2.2.2.2.2.2.2.2.1 s.2.2.2.2.2.2.2.2.2.1 s.2.2.2.2.2.2.2.2.2.2.1 s.2.2.2.2.2.2.2.2.2.2.2.1 s.2.2.2.2.2.2.2.2.2.2.2.2.1 s.2.2.2.2.2.2.2.2.2.2.2.2.2.1 s.2.2.2.2.2.2.2.2.2.2.2.2.2.2) (fun n s hI hk => hs n s.1 s.2.1 s.2.2.1 s.2.2.2.1 s.2.2.2.2.1 s.2.2.2.2.2.1 s.2.2.2.2.2.2.1 s.2.2.2.2.2.2.2.1 s.2.2.2.2.2.2.2.2.1 s.2.2.2.2.2.2.2.2.2.1 s.2.2.2.2.2.2.2.2.2.2.1 s.2.2.2.2.2.2.2.2.2.2.2.1 s.2.2.2.2.2.2.2.2.2.2.2.2.1 s.2.2.2.2.2.2.2.2.2.2.2.2.2.1 s.2.2.2.2.2.2.2.2.2.2.2.2.2.2 hI (fun b1 b2 b3 b4 b5 b6 b7 b8 b9 b10 b11 b12 b13 b14 b15 h9 hm => hk (b1, b2, b3, b4, b5, b6, b7, b8, b9, b10, b11, b12, b13, b14, b15) h9 hm)) (a1, a2, a3, a4, a5, a6, a7, a8, a9, a10, a11, a12, a13, a14, a15) h
theorem lp16 {A1 A2 A3 A4 A5 A6 A7 A8 A9 A10 A11 A12 A13 A14 A15 A16 : Type} (W : Nat → A1 → A2 → A3 → A4 → A5 → A6 → A7 → A8 → A9 → A10 → A11 → A12 → A13 → A14 → A15 → A16 → Prop) (I : A1 → A2 → A3 → A4 → A5 → A6 → A7 → A8 → A9 → A10 → A11 → A12 → A13 → A14 → A15 → A16 → Prop) (μ : A1 → A2 → A3 → A4 → A5 → A6 → A7 → A8 → A9 → A10 → A11 → A12 → A13 → A14 → A15 → A16 → Nat) (hs : ∀ (n : Nat) (a1 : A1) (a2 : A2) (a3 : A3) (a4 : A4) (a5 : A5) (a6 : A6) (a7 : A7) (a8 : A8) (a9 : A9) (a10 : A10) (a11 : A11) (a12 : A12) (a13 : A13) (a14 : A14) (a15 : A15) (a16 : A16), I a1 a2 a3 a4 a5 a6 a7 a8 a9 a10 a11 a12 a13 a14 a15 a16 → (∀ (b1 : A1) (b2 : A2) (b3 : A3) (b4 : A4) (b5 : A5) (b6 : A6) (b7 : A7) (b8 : A8) (b9 : A9) (b10 : A10) (b11 : A11) (b12 : A12) (b13 : A13) (b14 : A14) (b15 : A15) (b16 : A16), I b1 b2 b3 b4 b5 b6 b7 b8 b9 b10 b11 b12 b13 b14 b15 b16 → μ b1 b2 b3 b4 b5 b6 b7 b8 b9 b10 b11 b12 b13 b14 b15 b16 < μ a1 a2 a3 a4 a5 a6 a7 a8 a9 a10 a11 a12 a13 a14 a15 a16 → W n b1 b2 b3 b4 b5 b6 b7 b8 b9 b10 b11 b12 b13 b14 b15 b16) → W (n + 1) a1 a2 a3 a4 a5 a6 a7 a8 a9 a10 a11 a12 a13 a14 a15 a16) (a1 : A1) (a2 : A2) (a3 : A3) (a4 : A4) (a5 : A5) (a6 : A6) (a7 : A7) (a8 : A8) (a9 : A9) (a10 : A10) (a11 : A11) (a12 : A12) (a13 : A13) (a14 : A14) (a15 : A15) (a16 : A16) (h : I a1 a2 a3 a4 a5 a6 a7 a8 a9 a10 a11 a12 a13 a14 a15 a16) : ∃ n, W n a1 a2 a3 a4 a5 a6 a7 a8 a9 a10 a11 a12 a13 a14 a15 a16 :=
  loop_m (σ := A1 × A2 × A3 × A4 × A5 × A6 × A7 × A8 × A9 × A10 × A11 × A12 × A13 × A14 × A15 × A16) (fun n s => W n s.1 s.2.1 s.2.2.1 s.2.2.2.1 s.2.2.2.2.1 s.2.2.2.2.2.1 s.2.2.2.2.2.2.1 s.2.2.2.2.2.2.2.1 s.2.2.2.2.2.2.2.2.1 s.2.2.2.2.2.2.2.2.2.1 s.2.2.2.2.2.2.2.2.2.2.1 s.2.2.2.2.2.2.2.2.2.2.2.1 s.2.2.2.2.2.2.2.2.2.2.2.2.1 s.2.2.2.2.2.2.2.2.2.2.2.2.2.1 s.2.2.2.2.2.2.2.2.2.2.2.2.2.2.1 s.2.2.2.2.2.2.2.2.2.2.2.2.2.2.2) (fun s => I s.1 s.2.1 s.2.2.1 s.2.2.2.1 s.2.2.2.2.1 s.2.2.2.2.2.1 s.2.2.2.2.2.2.1 s.2.2.2.2.2.2.2.1 s.2.2.2.2.2.2.2.2.1 s.2.2.2.2.2.2.2.2.2.1 s.2.2.2.2.2.2.2.2.2.2.1 s.2.2.2.2.2.2.2.2.2.2.2.1 s.2.2.2.2.2.2.2.2.2.2.2.2.1 s.2.2.2.2.2.2.2.2.2.2.2.2.2.1 s.2.2.2.2.2.2.2.2.2.2.2.2.2.2.1 s.2.2.2.2.2.2.2.2.2.2.2.2.2.2.2) (fun s => μ s.1 s.2.1 s.2.2.1 s.2.2.2.1 s.2.2.2.2.1 s.2.2.2.2.2.1 s.2.2.2.2.2.2.1 s.2.2.2.2.2.2.2.1 s.2.2.2.2.2.2.2.2.1 s.2.2.2.2.2.2.2.2.2.1 s.2.2.2.2.2.2.2.2.2.2.1 s.2.2.2.2.2.2.2.2.2.2.2.1 s.2.2.2.2.2.2.2.2.2.2.2.2.1 s.2.2.2.2.2.2.2.2.2.2.2.2.2.1 s.2.2.2.2.2.2.2.2.2.2.2.2.2.2.1 s.2.2.2.2.2.2.2.2.2.2.2.2.2.2.2) (fun n s hI hk => hs n s.1 s.2.1 s.2.2.1 s.2.2.2.1 s.2.2.2.2.1 s.2.2.2.2.2.1 s.2.2.2.2.2.2.1 s.2.2.2.2.2.2.2.1 s.2.2.2.2.2.2.2.2.1 s.2.2.2.2.2.2.2.2.2.1 s.2.2.2.2.2.2.2.2.2.2.1 s.2.2.2.2.2.2.2.2.2.2.2.1 s.2.2.2.2.2.2.2.2.2.2.2.2.1 s.2.2.2.2.2.2.2.2.2.2.2.2.2.1 s.2.2.2.2.2.2.2.2.2.2.2.2.2.2.1 s.2.2.2.2.2.2.2.2.2.2.2.2.2.2.2 hI (fun b1 b2 b3 b4 b5 b6 b7 b8 b9 b10 b11 b12 b13 b14 b15 b16 h9 hm => hk (b1, b2, b3, b4, b5, b6, b7, b8, b9, b10, b11, b12, b13, b14, b15, b16) h9 hm)) (a1, a2, a3, a4, a5, a6, a7, a8, a9, a10, a11, a12, a13, a14, a15, a16) h
theorem pk_least (P : Nat → Prop) (h : ∃ k, P k) : ∃ k, P k ∧ ∀ j, j < k → ¬ P j := by
  obtain ⟨k, hk⟩ := h
  induction k using Nat.strongRecOn with
  | ind k ih =>
    by_cases e : ∃ j, j < k ∧ P j
    · obtain ⟨j, hj, pj⟩ := e
      exact ih j hj pj
    · exact ⟨k, hk, fun j hj pj => e ⟨j, hj, pj⟩⟩
theorem rp1 {ρ A1 : Type} (W : Nat → (ρ → Prop) → A1 → Prop) (ok : A1 → Prop) (μ : A1 → Nat) (val : A1 → ρ)
    (hs : ∀ (d : Nat) (post : ρ → Prop) (a1 : A1), ok a1 → post (val a1) → (∀ (post' : ρ → Prop) (b1 : A1), ok b1 → μ b1 < μ a1 → post' (val b1) → W d post' b1) → W (d + 1) post a1) :
    ∀ (d : Nat) (post : ρ → Prop) (a1 : A1), ok a1 → μ a1 < d → post (val a1) → W d post a1 := by
  intro d
  induction d with
  | zero => intro post a1 _ h; omega
  | succ d ih =>
    intro post a1 ho hm hp
    exact hs d post a1 ho hp (fun post' b1 ho' hm' hp' => ih post' b1 ho' (by omega) hp')
theorem rp2 {ρ A1 A2 : Type} (W : Nat → (ρ → Prop) → A1 → A2 → Prop) (ok : A1 → A2 → Prop) (μ : A1 → A2 → Nat) (val : A1 → A2 → ρ)
    (hs : ∀ (d : Nat) (post : ρ → Prop) (a1 : A1) (a2 : A2), ok a1 a2 → post (val a1 a2) → (∀ (post' : ρ → Prop) (b1 : A1) (b2 : A2), ok b1 b2 → μ b1 b2 < μ a1 a2 → post' (val b1 b2) → W d post' b1 b2) → W (d + 1) post a1 a2) :
    ∀ (d : Nat) (post : ρ → Prop) (a1 : A1) (a2 : A2), ok a1 a2 → μ a1 a2 < d → post (val a1 a2) → W d post a1 a2 := by
  intro d
  induction d with
  | zero => intro post a1 a2 _ h; omega
  | succ d ih =>
    intro post a1 a2 ho hm hp
    exact hs d post a1 a2 ho hp (fun post' b1 b2 ho' hm' hp' => ih post' b1 b2 ho' (by omega) hp')
theorem rp3 {ρ A1 A2 A3 : Type} (W : Nat → (ρ → Prop) → A1 → A2 → A3 → Prop) (ok : A1 → A2 → A3 → Prop) (μ : A1 → A2 → A3 → Nat) (val : A1 → A2 → A3 → ρ)
    (hs : ∀ (d : Nat) (post : ρ → Prop) (a1 : A1) (a2 : A2) (a3 : A3), ok a1 a2 a3 → post (val a1 a2 a3) → (∀ (post' : ρ → Prop) (b1 : A1) (b2 : A2) (b3 : A3), ok b1 b2 b3 → μ b1 b2 b3 < μ a1 a2 a3 → post' (val b1 b2 b3) → W d post' b1 b2 b3) → W (d + 1) post a1 a2 a3) :
    ∀ (d : Nat) (post : ρ → Prop) (a1 : A1) (a2 : A2) (a3 : A3), ok a1 a2 a3 → μ a1 a2 a3 < d → post (val a1 a2 a3) → W d post a1 a2 a3 := by
  intro d
  induction d with
  | zero => intro post a1 a2 a3 _ h; omega
  | succ d ih =>
    intro post a1 a2 a3 ho hm hp
    exact hs d post a1 a2 a3 ho hp (fun post' b1 b2 b3 ho' hm' hp' => ih post' b1 b2 b3 ho' (by omega) hp')
theorem rp4 {ρ A1 A2 A3 A4 : Type} (W : Nat → (ρ → Prop) → A1 → A2 → A3 → A4 → Prop) (ok : A1 → A2 → A3 → A4 → Prop) (μ : A1 → A2 → A3 → A4 → Nat) (val : A1 → A2 → A3 → A4 → ρ)
    (hs : ∀ (d : Nat) (post : ρ → Prop) (a1 : A1) (a2 : A2) (a3 : A3) (a4 : A4), ok a1 a2 a3 a4 → post (val a1 a2 a3 a4) → (∀ (post' : ρ → Prop) (b1 : A1) (b2 : A2) (b3 : A3) (b4 : A4), ok b1 b2 b3 b4 → μ b1 b2 b3 b4 < μ a1 a2 a3 a4 → post' (val b1 b2 b3 b4) → W d post' b1 b2 b3 b4) → W (d + 1) post a1 a2 a3 a4) :
    ∀ (d : Nat) (post : ρ → Prop) (a1 : A1) (a2 : A2) (a3 : A3) (a4 : A4), ok a1 a2 a3 a4 → μ a1 a2 a3 a4 < d → post (val a1 a2 a3 a4) → W d post a1 a2 a3 a4 := by
  intro d
  induction d with
  | zero => intro post a1 a2 a3 a4 _ h; omega
  | succ d ih =>
    intro post a1 a2 a3 a4 ho hm hp
    exact hs d post a1 a2 a3 a4 ho hp (fun post' b1 b2 b3 b4 ho' hm' hp' => ih post' b1 b2 b3 b4 ho' (by omega) hp')
theorem rp5 {ρ A1 A2 A3 A4 A5 : Type} (W : Nat → (ρ → Prop) → A1 → A2 → A3 → A4 → A5 → Prop) (ok : A1 → A2 → A3 → A4 → A5 → Prop) (μ : A1 → A2 → A3 → A4 → A5 → Nat) (val : A1 → A2 → A3 → A4 → A5 → ρ)
    (hs : ∀ (d : Nat) (post : ρ → Prop) (a1 : A1) (a2 : A2) (a3 : A3) (a4 : A4) (a5 : A5), ok a1 a2 a3 a4 a5 → post (val a1 a2 a3 a4 a5) → (∀ (post' : ρ → Prop) (b1 : A1) (b2 : A2) (b3 : A3) (b4 : A4) (b5 : A5), ok b1 b2 b3 b4 b5 → μ b1 b2 b3 b4 b5 < μ a1 a2 a3 a4 a5 → post' (val b1 b2 b3 b4 b5) → W d post' b1 b2 b3 b4 b5) → W (d + 1) post a1 a2 a3 a4 a5) :
    ∀ (d : Nat) (post : ρ → Prop) (a1 : A1) (a2 : A2) (a3 : A3) (a4 : A4) (a5 : A5), ok a1 a2 a3 a4 a5 → μ a1 a2 a3 a4 a5 < d → post (val a1 a2 a3 a4 a5) → W d post a1 a2 a3 a4 a5 := by
  intro d
  induction d with
  | zero => intro post a1 a2 a3 a4 a5 _ h; omega
  | succ d ih =>
    intro post a1 a2 a3 a4 a5 ho hm hp
    exact hs d post a1 a2 a3 a4 a5 ho hp (fun post' b1 b2 b3 b4 b5 ho' hm' hp' => ih post' b1 b2 b3 b4 b5 ho' (by omega) hp')
theorem rp6 {ρ A1 A2 A3 A4 A5 A6 : Type} (W : Nat → (ρ → Prop) → A1 → A2 → A3 → A4 → A5 → A6 → Prop) (ok : A1 → A2 → A3 → A4 → A5 → A6 → Prop) (μ : A1 → A2 → A3 → A4 → A5 → A6 → Nat) (val : A1 → A2 → A3 → A4 → A5 → A6 → ρ)
    (hs : ∀ (d : Nat) (post : ρ → Prop) (a1 : A1) (a2 : A2) (a3 : A3) (a4 : A4) (a5 : A5) (a6 : A6), ok a1 a2 a3 a4 a5 a6 → post (val a1 a2 a3 a4 a5 a6) → (∀ (post' : ρ → Prop) (b1 : A1) (b2 : A2) (b3 : A3) (b4 : A4) (b5 : A5) (b6 : A6), ok b1 b2 b3 b4 b5 b6 → μ b1 b2 b3 b4 b5 b6 < μ a1 a2 a3 a4 a5 a6 → post' (val b1 b2 b3 b4 b5 b6) → W d post' b1 b2 b3 b4 b5 b6) → W (d + 1) post a1 a2 a3 a4 a5 a6) :
    ∀ (d : Nat) (post : ρ → Prop) (a1 : A1) (a2 : A2) (a3 : A3) (a4 : A4) (a5 : A5) (a6 : A6), ok a1 a2 a3 a4 a5 a6 → μ a1 a2 a3 a4 a5 a6 < d → post (val a1 a2 a3 a4 a5 a6) → W d post a1 a2 a3 a4 a5 a6 := by
  intro d
  induction d with
  | zero => intro post a1 a2 a3 a4 a5 a6 _ h; omega
  | succ d ih =>
    intro post a1 a2 a3 a4 a5 a6 ho hm hp
    exact hs d post a1 a2 a3 a4 a5 a6 ho hp (fun post' b1 b2 b3 b4 b5 b6 ho' hm' hp' => ih post' b1 b2 b3 b4 b5 b6 ho' (by omega) hp')
theorem rec_p {σ ρ : Type} (W : Nat → (ρ → Prop) → σ → Prop) (ok : σ → Prop) (μ : σ → Nat) (val : σ → ρ)
    (hs : ∀ d s post, ok s → post (val s) → (∀ s' post', ok s' → μ s' < μ s → post' (val s') → W d post' s') → W (d + 1) post s) :
    ∀ d s post, ok s → μ s < d → post (val s) → W d post s := by
  intro d
  induction d with
  | zero => intro s post _ h; omega
  | succ d ih =>
    intro s post ho hm hp
    exact hs d s post ho hp (fun s' post' ho' hm' hp' => ih s' post' ho' (by omega) hp')
theorem rec_q {σ ρ : Type} (W : Nat → (ρ → Prop) → σ → Prop) (ok : σ → Prop) (μ : σ → Nat) (Q : σ → ρ → Prop)
    (hs : ∀ d s post, ok s → (∀ r, Q s r → post r) → (∀ s' post', ok s' → μ s' < μ s → (∀ r, Q s' r → post' r) → W d post' s') → W (d + 1) post s) :
    ∀ d s post, ok s → μ s < d → (∀ r, Q s r → post r) → W d post s := by
  intro d
  induction d with
  | zero => intro s post _ h; omega
  | succ d ih =>
    intro s post ho hm hp
    exact hs d s post ho hp (fun s' post' ho' hm' hp' => ih s' post' ho' (by omega) hp')
def bx_sum (f : Nat → Int32) : Nat → Int32
  | 0 => 0
  | n + 1 => bx_sum f n + f n
theorem ek_u {A : Prop} {B : Nat → Prop} {k N : Nat} (hk : k < N) (h : B k) : (some k = none → A) ∧ (∀ y : Nat, some k = some y → (y < N ∧ B y)) :=
  ⟨fun z => absurd z (Option.some_ne_none k), fun _ e => (by cases e; exact ⟨hk, h⟩)⟩
theorem ek_nu {A : Prop} {B : Nat → Prop} (h : A) : ((none : Option Nat) = none → A) ∧ (∀ y : Nat, (none : Option Nat) = some y → B y) :=
  ⟨fun _ => h, fun _ e => (by cases e)⟩
theorem ek_if {c d A B : Prop} (e : c ↔ d) (f : d → A) (g : ¬ d → B) : (c → A) ∧ (¬ c → B) :=
  ⟨fun z => f (e.mp z), fun z => g (fun y => z (e.mpr y))⟩
theorem ek_v {α : Sort _} {P : α → Prop} {a b : α} (e : a = b) (h : P b) : P a := e ▸ h
theorem co_some {x : Option Nat} {A : Prop} {B : Nat → Prop} (i : Nat) (h : B i) (hx : x = some i := by rfl) : (x = none → A) ∧ (∀ y : Nat, x = some y → B y) := by
  subst hx
  exact ⟨fun e => (nomatch e), fun y e => Option.some.inj e ▸ h⟩
theorem co_none {x : Option Nat} {A : Prop} {B : Nat → Prop} (h : A) (hx : x = none := by rfl) : (x = none → A) ∧ (∀ y : Nat, x = some y → B y) := by
  subst hx
  exact ⟨fun _ => h, fun y e => (nomatch e)⟩
theorem co_any {x : Option Nat} {A : Prop} {B : Nat → Prop} (hn : x = none → A) (hs : ∀ i : Nat, x = some i → B i) : (x = none → A) ∧ (∀ y : Nat, x = some y → B y) := ⟨hn, hs⟩
theorem co_2 {P : Nat → Prop} (h0 : P 0) (h1 : P 1) {i : Nat} (hi : i < 2) : P i :=
  match i, hi with
  | 0, _ => h0
  | 1, _ => h1
theorem co_3 {P : Nat → Prop} (h0 : P 0) (h1 : P 1) (h2 : P 2) {i : Nat} (hi : i < 3) : P i :=
  match i, hi with
  | 0, _ => h0
  | 1, _ => h1
  | 2, _ => h2
theorem co_4 {P : Nat → Prop} (h0 : P 0) (h1 : P 1) (h2 : P 2) (h3 : P 3) {i : Nat} (hi : i < 4) : P i :=
  match i, hi with
  | 0, _ => h0
  | 1, _ => h1
  | 2, _ => h2
  | 3, _ => h3
theorem co_dec {N : Nat} {P : Nat → Prop} [DecidablePred P] (h : (List.range N).all (fun i => decide (P i)) = true) {i : Nat} (hi : i < N) : P i := by
  have := List.all_eq_true.mp h i (List.mem_range.mpr hi)
  exact of_decide_eq_true this
theorem co_tab {α : Type} {l : List α} {d : α} {P : α → Prop} (h : ∀ a, a ∈ l → P a) {i : Nat} (hi : i < l.length) : P (l.getD i d) := by
  rw [List.getD_eq_getElem?_getD, List.getElem?_eq_getElem hi]
  exact h _ (List.getElem_mem hi)
theorem pk_mu {x : Int32} {L : Nat} (h0 : ¬ x < 0) (h : ¬ nI L ≤ x) (hL : L < 2 ^ 31) : ∃ j : Nat, j < L ∧ x = nI j ∧ x + 1 = nI (j + 1) ∧ x.toNatClampNeg = j ∧ L - (x + 1).toNatClampNeg < L - x.toNatClampNeg := by
  obtain ⟨j, hj, rfl⟩ := nI_of h0
  have hl : j < L := Nat.not_le.mp fun q => h (nI_le q hj)
  refine ⟨j, hl, rfl, nI_1 j, nI_clamp hj, ?_⟩
  rw [nI_1, nI_clamp (by omega), nI_clamp hj]
  omega
theorem op_s {α : Type} {r : Option α} {A : Prop} {B : α → Prop} {y : α} (h : r = some y) (b : B y) : (r = none → A) ∧ ∀ z, r = some z → B z :=
  ⟨fun e => (by rw [h] at e; cases e), fun z e => (by rw [h] at e; cases e; exact b)⟩
def l_holds {α : Type} (a : Nat → Option Nat) (LP : List Nat) (p : Nat → α) (c : Nat) (b : Nat → α) : Prop :=
  ∀ j, j < c → ∃ y, a j = some y ∧ y ∈ LP ∧ p y = b j
theorem l_holds_0 {α : Type} {a : Nat → Option Nat} {LP : List Nat} {p b : Nat → α} : l_holds a LP p 0 b := fun j h => absurd h (Nat.not_lt_zero j)
theorem l_in_new (LP : List Nat) (q : Nat) : q ∈ LP ++ [q] := List.mem_append.mpr (Or.inr (List.mem_singleton.mpr rfl))
def l_sum (b : Nat → Int32) : Nat → Int32
  | 0 => 0
  | k + 1 => l_sum b k + b k
theorem sb_shr0 (x : Int32) : x >>> ((0 : Int32) &&& 31) = x := by
  rw [show ((0 : Int32) &&& 31) = 0 by decide]
  simp
theorem sb_shl0 (x : Int32) : x <<< ((0 : Int32) &&& 31) = x := by
  rw [show ((0 : Int32) &&& 31) = 0 by decide]
  simp
theorem sb_cl0 : (0 : Int32).toNatClampNeg = 0 := by decide
theorem sb_m1 {p : Nat} (h : 0 < p) : nI p + (-1) = nI (p - 1) := by
  obtain ⟨q, rfl⟩ : ∃ q, p = q + 1 := ⟨p - 1, by omega⟩
  exact pk_m1 q
def sb_b (c : Nat) : Int32 := (nI c).toInt8.toInt32
theorem sb_byte : ∀ c, c < 256 → sb_b c &&& 255 = nI c ∧ ((nI c).toUInt32 % 65536).toInt32 = nI c ∧ nI c ≤ 255 := by decide +kernel
def sb_Fit (a : Nat → Int32) : Prop := ∀ j, fits .byte (.int (a j)) = true
def sb_Lat (t : Nat → Nat) (n : Nat) (a : Nat → Int32) : Prop := ∀ j, j < n → t j < 256 ∧ a j = sb_b (t j)
theorem sb_fitB (c : Nat) : fits .byte (.int (sb_b c)) = true := pk_fb _
theorem sb_fit0 : sb_Fit (fun _ => 0) := fun _ => by
  show fits .byte (.int 0) = true
  decide
theorem sb_fitU {a : Nat → Int32} {k : Nat} {x : Int32} (h : sb_Fit a) (hx : fits .byte (.int x) = true) : sb_Fit (upd a k x) := by
  intro j
  by_cases e : j = k
  · subst e
    rw [pk_us]
    exact hx
  · rw [pk_un e]
    exact h j
def sb_cat (t : Nat → Nat) (n : Nat) (s : Nat → Nat) : Nat → Nat := fun j => if j < n then t j else s (j - n)
theorem sb_cat_lo {t s : Nat → Nat} {n j : Nat} (h : j < n) : sb_cat t n s j = t j := if_pos h
theorem sb_cat_hi {t s : Nat → Nat} {n j : Nat} : sb_cat t n s (n + j) = s j := by
  show (if n + j < n then t (n + j) else s (n + j - n)) = s j
  rw [if_neg (by omega), Nat.add_sub_cancel_left]
theorem sb_latPut {t s : Nat → Nat} {n w : Nat} {a a' : Nat → Int32} (h : sb_Lat t n a) (hk : ∀ j, j < n → a' j = a j) (hs : ∀ i, i < w → s i < 256 ∧ a' (n + i) = sb_b (s i)) : sb_Lat (sb_cat t n s) (n + w) a' := by
  intro j hj
  by_cases e : j < n
  · rw [sb_cat_lo e, hk j e]
    exact h j e
  · obtain ⟨i, rfl⟩ : ∃ i, j = n + i := ⟨j - n, by omega⟩
    rw [sb_cat_hi]
    exact hs i (by omega)
theorem sb_latKeep {t : Nat → Nat} {n : Nat} {a a' : Nat → Int32} (h : sb_Lat t n a) (hk : ∀ j, j < n → a' j = a j) : sb_Lat t n a' := fun j hj => by
  rw [hk j hj]
  exact h j hj
def sb_cap (q m : Nat) : Nat := if q ≤ m then m else if 2 * m + 2 < q then q else 2 * m + 2
def sb_Room (q m mc ms : Nat) : Prop := q ≤ m ∨ (1 ≤ mc ∧ sb_cap q m ≤ ms ∧ sb_cap q m ≤ 65536)
theorem sb_cap_ge (q m : Nat) : q ≤ sb_cap q m := by
  unfold sb_cap
  split
  · omega
  · split <;> omega
theorem sb_cap_gem (q m : Nat) : m ≤ sb_cap q m := by
  unfold sb_cap
  split
  · omega
  · split <;> omega
theorem sb_cap_le {q m mc ms : Nat} (hm : m ≤ 65536) (hr : sb_Room q m mc ms) : sb_cap q m ≤ 65536 := by
  rcases hr with h | h
  · rw [sb_cap, if_pos h]
    exact hm
  · exact h.2.2
theorem sb_at {P : Int32 → Prop} {x y : Int32} (e : x = y) (h : P y) : P x := e ▸ h
def sb_dg (w : Nat) : Nat := if w < 10 then 1 else if w < 100 then 2 else if w < 1000 then 3 else if w < 10000 then 4 else if w < 100000 then 5 else if w < 1000000 then 6 else if w < 10000000 then 7 else if w < 100000000 then 8 else if w < 1000000000 then 9 else 10
def sb_dec (v : Nat) : Nat → Nat := fun i => 48 + v / 10 ^ (sb_dg v - 1 - i) % 10
theorem sb_dg_in (w : Nat) : 1 ≤ sb_dg w ∧ sb_dg w ≤ 10 := by
  unfold sb_dg
  constructor <;> (repeat' split) <;> omega
theorem sb_dg100 {w : Nat} (h : 100 ≤ w) (hw : w < 2 ^ 31) : sb_dg w = sb_dg (w / 100) + 2 := by
  rw [sb_dg, sb_dg, if_neg (show ¬ w < 10 by omega), if_neg (show ¬ w < 100 by omega)]
  by_cases h3 : w < 1000
  · rw [if_pos h3, if_pos (show w / 100 < 10 by omega)]
  rw [if_neg h3, if_neg (show ¬ w / 100 < 10 by omega)]
  by_cases h4 : w < 10000
  · rw [if_pos h4, if_pos (show w / 100 < 100 by omega)]
  rw [if_neg h4, if_neg (show ¬ w / 100 < 100 by omega)]
  by_cases h5 : w < 100000
  · rw [if_pos h5, if_pos (show w / 100 < 1000 by omega)]
  rw [if_neg h5, if_neg (show ¬ w / 100 < 1000 by omega)]
  by_cases h6 : w < 1000000
  · rw [if_pos h6, if_pos (show w / 100 < 10000 by omega)]
  rw [if_neg h6, if_neg (show ¬ w / 100 < 10000 by omega)]
  by_cases h7 : w < 10000000
  · rw [if_pos h7, if_pos (show w / 100 < 100000 by omega)]
  rw [if_neg h7, if_neg (show ¬ w / 100 < 100000 by omega)]
  by_cases h8 : w < 100000000
  · rw [if_pos h8, if_pos (show w / 100 < 1000000 by omega)]
  rw [if_neg h8, if_neg (show ¬ w / 100 < 1000000 by omega)]
  by_cases h9 : w < 1000000000
  · rw [if_pos h9, if_pos (show w / 100 < 10000000 by omega)]
  rw [if_neg h9, if_neg (show ¬ w / 100 < 10000000 by omega)]
  rw [if_pos (show w / 100 < 100000000 by omega)]
theorem sb_negT {w : Nat} (h : w < 2 ^ 31) : (-nI w).toInt = -(w : Int) := by
  rw [Int32.toInt_neg, nI_toInt h]
  exact Int.bmod_eq_of_le (by omega) (by omega)
theorem sb_nle {a b : Nat} (ha : a < 2 ^ 31) (hb : b < 2 ^ 31) : -nI a ≤ -nI b ↔ b ≤ a := by
  rw [Int32.le_iff_toInt_le, sb_negT ha, sb_negT hb]
  omega
theorem sb_nlt {a b : Nat} (ha : a < 2 ^ 31) (hb : b < 2 ^ 31) : -nI a < -nI b ↔ b < a := by
  rw [Int32.lt_iff_toInt_lt, sb_negT ha, sb_negT hb]
  omega
theorem sb_cmp {A B : Prop} {x : Int32} (v c : Nat) (f : c ≤ v → A) (g : v < c → B) (hv : v < 2 ^ 31) (hx : x = -nI c := by rfl) (hc : c < 2 ^ 31 := by omega) : (-nI v ≤ x → A) ∧ (¬ -nI v ≤ x → B) := by
  subst hx
  rw [sb_nle hv hc]
  exact ⟨f, fun z => g (by omega)⟩
theorem sb_ndiv {w : Nat} (hw : w < 2 ^ 31) : (-nI w) / 100 = -nI (w / 100) := by
  apply Int32.toInt_inj.mp
  have h100 : (100 : Int32).toInt = 100 := by decide
  rw [Int32.toInt_div, sb_negT hw, h100, sb_negT (by omega), Int.neg_tdiv, Int.tdiv_eq_ediv_of_nonneg (by omega), Int.bmod_eq_of_le (by omega) (by omega)]
  omega
theorem sb_nrem {w : Nat} (hw : w < 2 ^ 31) : (-nI (w / 100)) * 100 - (-nI w) = nI (w % 100) := by
  have h := pk_rem (a := w) (d := 100) hw (by decide) (by decide)
  rw [pk_div hw (by decide) (by decide)] at h
  rw [← h]
  show (-nI (w / 100)) * nI 100 - (-nI w) = nI w - nI (w / 100) * nI 100
  rw [Int32.neg_mul, Int32.sub_neg, Int32.add_comm, ← Int32.sub_eq_add_neg]
end
section
/-! numbers: small Int32 as naturals -/
theorem cn_b8 {n : Nat} (h : n < 128) : (nI n).toInt8.toInt32 = nI n := by
  apply Int32.toInt_inj.mp
  rw [Int8.toInt_toInt32, Int32.toInt_toInt8, nI_toInt (by omega)]
  exact Int.bmod_eq_of_le (by omega) (by omega)
theorem cn_b16 {n : Nat} (h : n < 32768) : (nI n).toInt16.toInt32 = nI n := by
  apply Int32.toInt_inj.mp
  rw [Int16.toInt_toInt32, Int32.toInt_toInt16, nI_toInt (by omega)]
  exact Int.bmod_eq_of_le (by omega) (by omega)
theorem cn_vb {n : Nat} (h : n < 128) : vp_nar .byte (nI n) = nI n := by rw [vp_nar_byte, cn_b8 h]
theorem cn_vs {n : Nat} (h : n < 32768) : vp_nar .short (nI n) = nI n := by rw [vp_nar_short, cn_b16 h]
theorem cn_vb1 : vp_nar .byte (-1) = -1 := by rw [vp_nar_byte]; decide
theorem cn_vs1 : vp_nar .short (-1) = -1 := by rw [vp_nar_short]; decide
theorem cn_vbb {n : Nat} (h : n < 128) : vp_nar .byte (nI n).toInt8.toInt32 = nI n := by rw [cn_b8 h, cn_vb h]
theorem cn_vss {n : Nat} (h : n < 32768) : vp_nar .short (nI n).toInt16.toInt32 = nI n := by rw [cn_b16 h, cn_vs h]
theorem cn_b81 : (-1 : Int32).toInt8.toInt32 = -1 := by decide
theorem cn_vbx {x : Int32} (h : x = -1 ∨ ∃ n, n < 128 ∧ x = nI n) : vp_nar .byte x = x := by
  rcases h with rfl | ⟨n, hn, rfl⟩
  · exact cn_vb1
  · exact cn_vb hn
theorem cn_vsx {x : Int32} (h : x = -1 ∨ ∃ n, n < 32768 ∧ x = nI n) : vp_nar .short x = x := by
  rcases h with rfl | ⟨n, hn, rfl⟩
  · exact cn_vs1
  · exact cn_vs hn
theorem cn_8 (g : Nat) : (8 : Int32) * nI g = nI (8 * g) := pk_mul 8 g
theorem cn_4 (g : Nat) : (4 : Int32) * nI g = nI (4 * g) := pk_mul 4 g
theorem cn_64 (g : Nat) : (64 : Int32) * nI g = nI (64 * g) := pk_mul 64 g
theorem cn_shr3 {a : Nat} (h : a < 2 ^ 31) : nI a >>> ((3 : Int32) &&& 31) = nI (a / 8) := pk_shrN h _ 3 (by decide)
theorem cn_pg (g : Nat) {a : Nat} (h : a < 2 ^ 31) : (8 * nI g) + (nI a >>> ((3 : Int32) &&& 31)) = nI (8 * g + a / 8) := by
  rw [cn_shr3 h, cn_8, nI_add]
theorem cn_div8 {a : Nat} (h : a < 2 ^ 31) : nI a / 8 = nI (a / 8) := pk_div (d := 8) h (by decide) (by decide)
theorem cn_rem8 {a : Nat} (h : a < 2 ^ 31) : nI a - nI a / 8 * 8 = nI (a % 8) := pk_rem (d := 8) h (by decide) (by decide)
theorem cn_rem3 {a : Nat} (h : a < 2 ^ 31) : nI a - nI a / 3 * 3 = nI (a % 3) := pk_rem (d := 3) h (by decide) (by decide)
theorem cn_a7 {a : Nat} (h : a < 2 ^ 32) : nI a &&& 7 = nI (a % 8) := pk_andN h 3 (by decide)
theorem cn_a63 {a : Nat} (h : a < 2 ^ 32) : nI a &&& 63 = nI (a % 64) := pk_andN h 6 (by decide)
theorem cn_x63 (x : Int32) : ∃ j, j < 64 ∧ x &&& 63 = nI j := pk_andE x 6 (by decide)
theorem cn_x3 (x : Int32) : ∃ j, j < 4 ∧ x &&& 3 = nI j := pk_andE x 2 (by decide)
theorem cn_x15 (x : Int32) : ∃ j, j < 16 ∧ x &&& 15 = nI j := pk_andE x 4 (by decide)
theorem cn_x511 (x : Int32) : ∃ j, j < 512 ∧ x &&& 511 = nI j := pk_andE x 9 (by decide)
theorem cn_x255 (x : Int32) : ∃ j, j < 256 ∧ x &&& 255 = nI j := pk_andE x 8 (by decide)
theorem cn_or (a b : Nat) : nI a ||| nI b = nI (a ||| b) := by
  apply Int32.toBitVec_inj.1
  show BitVec.ofNat 32 a ||| BitVec.ofNat 32 b = BitVec.ofNat 32 (a ||| b)
  rw [BitVec.ofNat_or]
theorem cn_and (a b : Nat) : nI a &&& nI b = nI (a &&& b) := by
  apply Int32.toBitVec_inj.1
  show BitVec.ofNat 32 a &&& BitVec.ofNat 32 b = BitVec.ofNat 32 (a &&& b)
  rw [BitVec.ofNat_and]
/-- a PSW with a new address is a PSW -/
theorem cn_psw {p : Nat} (hp : p < 512) (x : Int32) : ∃ j, j < 512 ∧ ((nI p &&& (-64)) ||| (x &&& 63)) = nI j := by
  obtain ⟨a, ha, e⟩ := cn_x63 x
  have e2 : (-64 : Int32) = nI 4294967232 := by decide
  rw [e, e2, cn_and, cn_or]
  refine ⟨_, ?_, rfl⟩
  exact Nat.or_lt_two_pow (n := 9) (Nat.lt_of_le_of_lt Nat.and_le_left hp) (Nat.lt_trans ha (by decide))
theorem cn_neq1 {n : Nat} (h : n < 2 ^ 31) : ¬ nI n = -1 := by
  intro e
  have := nI_pos h
  rw [e] at this
  exact this (by decide)
theorem cn_inj {a b : Nat} (h : nI a = nI b) (ha : a < 2 ^ 31) (hb : b < 2 ^ 31) : a = b := (nI_eq ha hb).mp h
/-- the entry of a table that an address is -/
theorem cn_ent {a t : Nat} (ha : a < 64) (ht : t < 64) : (nI a - nI t) &&& 63 = nI ((a + 64 - t) % 64) := by
  rw [pk_and _ 6 (by decide), Int32.toBitVec_sub, BitVec.toNat_sub, pk_tn (by omega), pk_tn (by omega)]
  exact congrArg nI (by omega)
theorem cn_m1neg : (-1 : Int32) < 0 := by decide
theorem cn_01 : ¬ (0 : Int32) ≤ -1 := by decide
/-- 0 ≤ and < 0 -/
theorem cn_ge0 {n : Nat} (h : n < 2 ^ 31) : (0 : Int32) ≤ nI n := nI_pos' h
theorem cn_in {n N : Nat} (h : n < N) (hN : N < 2 ^ 31 := by decide) : vp_in (nI n) N := vp_in_nI h hN
theorem cn_ltI {x : Int32} {n : Nat} (h0 : ¬ x < 0) (h : x < nI n) (hn : n < 2 ^ 31) : ∃ j, j < n ∧ x = nI j := by
  obtain ⟨j, hj, rfl⟩ := nI_of h0
  exact ⟨j, (nI_ltI hj hn).mp h, rfl⟩
theorem cn_leI {x : Int32} {n : Nat} (h0 : ¬ x < 0) (h : x ≤ nI n) (hn : n < 2 ^ 31) : ∃ j, j ≤ n ∧ x = nI j := by
  obtain ⟨j, hj, rfl⟩ := nI_of h0
  exact ⟨j, (nI_leI hj hn).mp h, rfl⟩
theorem cn_us {f : Nat → Int32} {k : Nat} {x : Int32} : upd f k x k = x := if_pos rfl
theorem cn_un {f : Nat → Int32} {k j : Nat} {x : Int32} (h : j ≠ k) : upd f k x j = f j := if_neg h
theorem cn_self {f : Nat → Int32} {k : Nat} {x : Int32} (h : f k = x) : upd f k x = f := by
  funext j
  by_cases e : j = k
  · rw [e, cn_us, h]
  · rw [cn_un e]
end
section
/-! the list of frames by use, newest first, as a chain of links -/
def cf_hd (L : List Nat) (n : Int32) : Int32 :=
  match L with
  | [] => n
  | a :: _ => nI a
def cf_ls : Int32 → List Nat → Int32
  | p, [] => p
  | _, a :: l => cf_ls (nI a) l
def cf_ch (bf bh : Nat → Int32) : Int32 → List Nat → Int32 → Prop
  | _, [], _ => True
  | p, a :: l, n => bf a = p ∧ bh a = cf_hd l n ∧ cf_ch bf bh (nI a) l n
theorem cf_hd_app (l1 l2 : List Nat) (n : Int32) : cf_hd (l1 ++ l2) n = cf_hd l1 (cf_hd l2 n) := by
  cases l1 <;> rfl
theorem cf_ls_app : ∀ (l1 : List Nat) (p : Int32) (l2 : List Nat), cf_ls p (l1 ++ l2) = cf_ls (cf_ls p l1) l2 := by
  intro l1
  induction l1 with
  | nil => intro p l2; rfl
  | cons a l ih => intro p l2; exact ih (nI a) l2
theorem cf_ch_app (bf bh : Nat → Int32) : ∀ (l1 : List Nat) (p : Int32) (l2 : List Nat) (n : Int32), cf_ch bf bh p (l1 ++ l2) n ↔ cf_ch bf bh p l1 (cf_hd l2 n) ∧ cf_ch bf bh (cf_ls p l1) l2 n := by
  intro l1
  induction l1 with
  | nil => intro p l2 n; exact ⟨fun h => ⟨trivial, h⟩, fun h => h.2⟩
  | cons a l ih =>
    intro p l2 n
    constructor
    · intro h
      have h3 := (ih (nI a) l2 n).mp h.2.2
      exact ⟨⟨h.1, h.2.1.trans (cf_hd_app l l2 n), h3.1⟩, h3.2⟩
    · intro h
      exact ⟨h.1.1, h.1.2.1.trans (cf_hd_app l l2 n).symm, (ih (nI a) l2 n).mpr ⟨h.1.2.2, h.2⟩⟩
theorem cf_ch_congr {bf bh bf' bh' : Nat → Int32} : ∀ (L : List Nat) (p n : Int32), (∀ a, a ∈ L → bf' a = bf a ∧ bh' a = bh a) → cf_ch bf bh p L n → cf_ch bf' bh' p L n := by
  intro L
  induction L with
  | nil => intro p n _ _; trivial
  | cons a l ih =>
    intro p n h H
    have h1 := h a List.mem_cons_self
    exact ⟨h1.1.trans H.1, h1.2.trans H.2.1, ih (nI a) n (fun b hb => h b (List.mem_cons_of_mem a hb)) H.2.2⟩
theorem cf_last : ∀ L : List Nat, L = [] ∨ ∃ l z, L = l ++ [z] := by
  intro L
  induction L with
  | nil => exact Or.inl rfl
  | cons a l ih =>
    refine Or.inr ?_
    rcases ih with rfl | ⟨l', z, rfl⟩
    · exact ⟨[], a, rfl⟩
    · exact ⟨a :: l', z, rfl⟩
theorem cf_ls_last (p : Int32) (l : List Nat) (z : Nat) : cf_ls p (l ++ [z]) = nI z := by
  rw [cf_ls_app]; rfl
theorem cf_hd_ne (l : List Nat) (z : Nat) (a b : Int32) : cf_hd (l ++ [z]) a = cf_hd (l ++ [z]) b := by
  cases l <;> rfl
def cf_LK (nw od : Int32) (bf bh : Nat → Int32) (L : List Nat) : Prop := nw = cf_hd L (-1) ∧ od = cf_ls (-1) L ∧ cf_ch bf bh (-1) L (-1)
theorem cf_mid {nw od : Int32} {bf bh : Nat → Int32} {l1 l2 : List Nat} {f : Nat} (H : cf_LK nw od bf bh (l1 ++ f :: l2)) : bf f = cf_ls (-1) l1 ∧ bh f = cf_hd l2 (-1) ∧ cf_ch bf bh (-1) l1 (nI f) ∧ cf_ch bf bh (nI f) l2 (-1) := by
  have h := (cf_ch_app bf bh l1 (-1) (f :: l2) (-1)).mp H.2.2
  exact ⟨h.2.1, h.2.2.1, h.1, h.2.2.2⟩
theorem cf_nd {l1 l2 : List Nat} {f : Nat} (hn : (l1 ++ f :: l2).Nodup) : f ∉ l1 ∧ f ∉ l2 ∧ (∀ a, a ∈ l1 → a ∉ l2) ∧ l1.Nodup ∧ l2.Nodup := by
  have h := List.nodup_append.mp hn
  have h2 := List.nodup_cons.mp h.2.1
  refine ⟨fun z => h.2.2 f z f List.mem_cons_self rfl, h2.1, fun a ha hb => h.2.2 a ha a (List.mem_cons_of_mem f hb) rfl, h.1, h2.2⟩
/-- the chain in front of what is taken out -/
theorem cf_outA {bf bh bf' : Nat → Int32} {l : List Nat} {z f : Nat} {n : Int32} (hn : (l ++ [z]).Nodup) (hb : ∀ a, a ∈ l ++ [z] → bf' a = bf a) (H : cf_ch bf bh (-1) (l ++ [z]) (nI f)) : cf_ch bf' (upd bh z n) (-1) (l ++ [z]) n := by
  have h := (cf_ch_app bf bh l (-1) [z] (nI f)).mp H
  have hz : z ∉ l := fun hz => (List.nodup_append.mp hn).2.2 z hz z List.mem_cons_self rfl
  refine (cf_ch_app bf' (upd bh z n) l (-1) [z] n).mpr ⟨?_, ?_, cn_us, trivial⟩
  · refine cf_ch_congr l _ _ (fun a ha => ⟨hb a (List.mem_append_left _ ha), cn_un ?_⟩) h.1
    intro e
    exact hz (e ▸ ha)
  · rw [hb z (List.mem_append_right _ List.mem_cons_self)]
    exact h.2.1
/-- the chain behind what is taken out -/
theorem cf_outB {bf bh bh' : Nat → Int32} {l : List Nat} {w f : Nat} {p : Int32} (hn : (w :: l).Nodup) (hb : ∀ a, a ∈ w :: l → bh' a = bh a) (H : cf_ch bf bh (nI f) (w :: l) (-1)) : cf_ch (upd bf w p) bh' p (w :: l) (-1) := by
  have hw : w ∉ l := (List.nodup_cons.mp hn).1
  refine ⟨cn_us, (hb w List.mem_cons_self).trans H.2.1, ?_⟩
  refine cf_ch_congr l _ _ (fun a ha => ⟨cn_un ?_, hb a (List.mem_cons_of_mem w ha)⟩) H.2.2
  intro e
  exact hw (e ▸ ha)
theorem cf_out00 {bf bh : Nat → Int32} : cf_LK (-1) (-1) bf bh ([] ++ []) := ⟨rfl, rfl, trivial⟩
theorem cf_out01 {nw od : Int32} {bf bh : Nat → Int32} {w f : Nat} {l : List Nat} (hn : ([] ++ f :: w :: l).Nodup) (H : cf_LK nw od bf bh ([] ++ f :: w :: l)) : cf_LK (nI w) od (upd bf w (-1)) bh ([] ++ w :: l) := by
  have m := cf_mid H
  have d := cf_nd hn
  exact ⟨rfl, H.2.1, cf_outB d.2.2.2.2 (fun _ _ => rfl) m.2.2.2⟩
theorem cf_out10 {nw od : Int32} {bf bh : Nat → Int32} {z f : Nat} {l : List Nat} (hn : ((l ++ [z]) ++ f :: []).Nodup) (H : cf_LK nw od bf bh ((l ++ [z]) ++ f :: [])) : cf_LK nw (nI z) bf (upd bh z (-1)) ((l ++ [z]) ++ []) := by
  have m := cf_mid H
  have d := cf_nd hn
  rw [List.append_nil]
  refine ⟨?_, (cf_ls_last _ _ _).symm, cf_outA d.2.2.2.1 (fun _ _ => rfl) m.2.2.1⟩
  rw [H.1, cf_hd_app (l ++ [z]) [f]]
  exact cf_hd_ne _ _ _ _
theorem cf_out11 {nw od : Int32} {bf bh : Nat → Int32} {z f w : Nat} {l k : List Nat} (hn : ((l ++ [z]) ++ f :: w :: k).Nodup) (H : cf_LK nw od bf bh ((l ++ [z]) ++ f :: w :: k)) : cf_LK nw od (upd bf w (nI z)) (upd bh z (nI w)) ((l ++ [z]) ++ w :: k) := by
  have m := cf_mid H
  have d := cf_nd hn
  refine ⟨?_, ?_, (cf_ch_app _ _ _ _ _ _).mpr ⟨cf_outA d.2.2.2.1 ?_ m.2.2.1, ?_⟩⟩
  · rw [H.1, cf_hd_app (l ++ [z]) (f :: w :: k), cf_hd_app (l ++ [z]) (w :: k)]
    exact cf_hd_ne _ _ _ _
  · rw [H.2.1, cf_ls_app (l ++ [z]) (-1) (f :: w :: k), cf_ls_app (l ++ [z]) (-1) (w :: k)]
    rfl
  · intro a ha
    refine cn_un ?_
    intro e
    exact d.2.2.1 a ha (e ▸ List.mem_cons_self)
  · rw [cf_ls_last]
    refine cf_outB d.2.2.2.2 ?_ m.2.2.2
    intro a ha
    refine cn_un ?_
    intro e
    exact d.2.2.1 z (List.mem_append_right _ List.mem_cons_self) (e ▸ ha)
theorem cf_in0 {nw od : Int32} {bf bh : Nat → Int32} {f : Nat} (H : cf_LK nw od bf bh []) : cf_LK (nI f) (nI f) (upd bf f (-1)) (upd bh f nw) [f] :=
  ⟨rfl, rfl, cn_us, cn_us.trans H.1, trivial⟩
theorem cf_in1 {nw od : Int32} {bf bh : Nat → Int32} {f w : Nat} {l : List Nat} (hf : f ∉ w :: l) (hn : (w :: l).Nodup) (H : cf_LK nw od bf bh (w :: l)) : cf_LK (nI f) od (upd (upd bf f (-1)) w (nI f)) (upd bh f nw) (f :: w :: l) := by
  have hw : w ∉ l := (List.nodup_cons.mp hn).1
  have ne : f ≠ w := fun e => hf (e ▸ List.mem_cons_self)
  refine ⟨rfl, H.2.1, (cn_un ne).trans cn_us, cn_us.trans H.1, cn_us, (cn_un (Ne.symm ne)).trans H.2.2.2.1, ?_⟩
  refine cf_ch_congr l _ _ (fun a ha => ⟨?_, ?_⟩) H.2.2.2.2
  · rw [cn_un (show a ≠ w from fun e => hw (e ▸ ha)), cn_un (show a ≠ f from fun e => hf (List.mem_cons_of_mem w (e ▸ ha)))]
  · exact cn_un (fun e => hf (List.mem_cons_of_mem w (e ▸ ha)))
/-! which frame holds which page -/
def cf_HF (hel fro : Nat → Int32) (L : List Nat) : Prop :=
  (∀ f, f < 6 → f ∉ L → hel f = -1) ∧ (∀ f, f ∈ L → f < 6 ∧ ∃ q, q < 24 ∧ hel f = nI q ∧ fro q = nI f) ∧ (∀ q, q < 24 → fro q = -1 ∨ ∃ f, f ∈ L ∧ fro q = nI f ∧ hel f = nI q)
theorem cf_HF_perm {hel fro : Nat → Int32} {L L' : List Nat} (h : ∀ f, f ∈ L' ↔ f ∈ L) (H : cf_HF hel fro L) : cf_HF hel fro L' := by
  refine ⟨fun f h6 hf => H.1 f h6 (fun z => hf ((h f).mpr z)), fun f hf => H.2.1 f ((h f).mp hf), fun q hq => ?_⟩
  rcases H.2.2 q hq with e | ⟨f, hf, e⟩
  · exact Or.inl e
  · exact Or.inr ⟨f, (h f).mpr hf, e⟩
theorem cf_HF_new {hel fro : Nat → Int32} {L : List Nat} {F q : Nat} (h6 : F < 6) (hF : F ∉ L) (hq : q < 24) (hf : fro q = -1) (H : cf_HF hel fro L) : cf_HF (upd hel F (nI q)) (upd fro q (nI F)) (F :: L) := by
  refine ⟨?_, ?_, ?_⟩
  · intro f hf6 hn
    have ne : f ≠ F := fun e => hn (e ▸ List.mem_cons_self)
    rw [cn_un ne]
    exact H.1 f hf6 (fun z => hn (List.mem_cons_of_mem F z))
  · intro f hm
    rcases List.mem_cons.mp hm with rfl | hm
    · exact ⟨h6, q, hq, cn_us, cn_us⟩
    · obtain ⟨hf6, q0, hq0, e1, e2⟩ := H.2.1 f hm
      have ne : f ≠ F := fun e => hF (e ▸ hm)
      have nq : q0 ≠ q := by
        intro e
        rw [e, hf] at e2
        exact cn_neq1 (by omega) e2.symm
      exact ⟨hf6, q0, hq0, (cn_un ne).trans e1, (cn_un nq).trans e2⟩
  · intro q' hq'
    by_cases e : q' = q
    · subst e
      exact Or.inr ⟨F, List.mem_cons_self, cn_us, cn_us⟩
    · rw [cn_un e]
      rcases H.2.2 q' hq' with e1 | ⟨f, hm, e1, e2⟩
      · exact Or.inl e1
      · exact Or.inr ⟨f, List.mem_cons_of_mem F hm, e1, (cn_un (show f ≠ F from fun z => hF (z ▸ hm))).trans e2⟩
theorem cf_HF_drop {hel fro : Nat → Int32} {L L' : List Nat} {F q : Nat} (hF : F ∈ L) (hL : ∀ f, f ∈ L' ↔ f ∈ L ∧ f ≠ F) (hq : q < 24) (he : hel F = nI q) (H : cf_HF hel fro L) : cf_HF (upd hel F (-1)) (upd fro q (-1)) L' := by
  have hfq : fro q = nI F := by
    obtain ⟨_, q1, hq1, e1, e2⟩ := H.2.1 F hF
    have : q1 = q := cn_inj (e1.symm.trans he) (by omega) (by omega)
    exact this ▸ e2
  have hF6 := (H.2.1 F hF).1
  refine ⟨?_, ?_, ?_⟩
  · intro f hf6 hn
    by_cases e : f = F
    · rw [e, cn_us]
    · rw [cn_un e]
      exact H.1 f hf6 (fun z => hn ((hL f).mpr ⟨z, e⟩))
  · intro f hm
    have hm := (hL f).mp hm
    obtain ⟨hf6, q0, hq0, e1, e2⟩ := H.2.1 f hm.1
    have nq : q0 ≠ q := by
      intro e
      rw [e, hfq] at e2
      exact hm.2 (cn_inj e2 (by omega) (by omega)).symm
    exact ⟨hf6, q0, hq0, (cn_un hm.2).trans e1, (cn_un nq).trans e2⟩
  · intro q' hq'
    by_cases e : q' = q
    · rw [e, cn_us]
      exact Or.inl rfl
    · rw [cn_un e]
      rcases H.2.2 q' hq' with e1 | ⟨f, hm, e1, e2⟩
      · exact Or.inl e1
      · have ne : f ≠ F := by
          intro z
          rw [z, he] at e2
          exact e (cn_inj e2 (by omega) (by omega)).symm
        exact Or.inr ⟨f, (hL f).mpr ⟨hm, ne⟩, e1, (cn_un ne).trans e2⟩
theorem cf_upd2 {f : Nat → Int32} {k : Nat} {a b : Int32} : upd (upd f k a) k b = upd f k b := by
  funext j
  by_cases e : j = k
  · rw [e, cn_us, cn_us]
  · rw [cn_un e, cn_un e, cn_un e]
/-! when they were used -/
def cf_AG (us : Nat → Int64) (N : Nat) (L : List Nat) : Prop := (∀ f, f ∈ L → ∃ m, m ≤ N ∧ us f = lN m) ∧ L.Pairwise (fun a b => us b < us a)
theorem cf_AG_sub {us : Nat → Int64} {N : Nat} {L L' : List Nat} (h : List.Sublist L' L) (H : cf_AG us N L) : cf_AG us N L' :=
  ⟨fun f hf => H.1 f (h.subset hf), H.2.sublist h⟩
theorem cf_AG_new {us : Nat → Int64} {N F : Nat} {L : List Nat} (hN : N < 2000000) (hF : F ∉ L) (H : cf_AG us N L) : cf_AG (vp_updL us F (lN (N + 1))) (N + 1) (F :: L) := by
  have ne : ∀ a, a ∈ L → a ≠ F := fun a ha e => hF (e ▸ ha)
  refine ⟨?_, List.pairwise_cons.mpr ⟨?_, ?_⟩⟩
  · intro f hm
    rcases List.mem_cons.mp hm with rfl | hm
    · exact ⟨N + 1, Nat.le_refl _, pk_uLs⟩
    · obtain ⟨m, hm1, e⟩ := H.1 f hm
      exact ⟨m, by omega, (pk_uLn (ne f hm)).trans e⟩
  · intro b hb
    obtain ⟨m, hm1, e⟩ := H.1 b hb
    rw [pk_uLs, pk_uLn (ne b hb), e, lN_lt (by omega) (by omega)]
    omega
  · refine H.2.imp_of_mem ?_
    intro a b ha hb h
    rw [pk_uLn (ne a ha), pk_uLn (ne b hb)]
    exact h
theorem cf_AG_min {us : Nat → Int64} {N z o : Nat} {l : List Nat} (H : cf_AG us N (l ++ [z])) (ho : o ∈ l ++ [z]) (h : us o ≤ us z) : o = z := by
  rcases List.mem_append.mp ho with h1 | h1
  · have := (List.pairwise_append.mp H.2).2.2 o h1 z List.mem_cons_self
    exact absurd h (Int64.not_le.mpr this)
  · exact List.mem_singleton.mp h1
def cf_F (nw od : Int32) (hel fro bf bh : Nat → Int32) (us : Nat → Int64) (N : Nat) : Prop :=
  ∃ L : List Nat, L.Nodup ∧ cf_LK nw od bf bh L ∧ cf_HF hel fro L ∧ cf_AG us N L
end
section
/-! X's frames: takeOut, putInFront, use -/
section
variable {xnew : Int32} {xold : Int32} {turn : Int32} {left : Int32} {xsay : Int32} {xfail : Int32} {xwhr : Int32} {xword : Nat → Int32} {xcon : Nat → Int32} {xop : Nat → Int32} {xreg : Nat → Int32} {xadr : Nat → Int32} {xuse : Nat → Int32} {xsht : Nat → Int32} {xkep : Nat → Int32} {xsta : Nat → Int32} {xtab : Nat → Int32} {xpsw : Nat → Int32} {xpen : Nat → Int32} {xrgs : Nat → Int32} {pag : Nat → Int32} {stp : Nat → Int32} {int : Nat → Int32} {xsha : Nat → Int32} {hel : Nat → Int32} {xfro : Nat → Int32} {xbef : Nat → Int32} {xbeh : Nat → Int32} {xsai : Nat → Int64}
theorem cf_xoutB0 {f : Nat} {post : SX → Prop} (hf : f < 6) (hh : xbeh f = -1) (h : post (xnew, xbef f, turn, left, xsay, xfail, xwhr, xword, xcon, xop, xreg, xadr, xuse, xsht, xkep, xsta, xtab, xpsw, xpen, xrgs, pag, stp, int, xsha, hel, xfro, xbef, xbeh, xsai)) : wX_takeOut_39 post (nI f) xnew xold turn left xsay xfail xwhr xword xcon xop xreg xadr xuse xsht xkep xsta xtab xpsw xpen xrgs pag stp int xsha hel xfro xbef xbeh xsai := by
  have cl : (nI f).toNatClampNeg = f := nI_clamp (by omega)
  unfold wX_takeOut_39
  rw [cl, hh]
  exact ⟨cn_in hf, br_f cn_01 ⟨cn_in hf, nm_e h⟩⟩
theorem cf_xoutB1 {f w : Nat} {post : SX → Prop} (hf : f < 6) (hw : w < 6) (hh : xbeh f = nI w) (hp : vp_nar .byte (xbef f) = xbef f) (h : post (xnew, xold, turn, left, xsay, xfail, xwhr, xword, xcon, xop, xreg, xadr, xuse, xsht, xkep, xsta, xtab, xpsw, xpen, xrgs, pag, stp, int, xsha, hel, xfro, upd xbef w (xbef f), xbeh, xsai)) : wX_takeOut_39 post (nI f) xnew xold turn left xsay xfail xwhr xword xcon xop xreg xadr xuse xsht xkep xsta xtab xpsw xpen xrgs pag stp int xsha hel xfro xbef xbeh xsai := by
  have cl : (nI f).toNatClampNeg = f := nI_clamp (by omega)
  have cw : (nI w).toNatClampNeg = w := nI_clamp (by omega)
  unfold wX_takeOut_39
  rw [cl, hh, cw, hp]
  exact ⟨cn_in hf, br_t (cn_ge0 (by omega)) ⟨cn_in hf, cn_in hf, cn_in hw, nm_e h⟩⟩
theorem cf_xout0 {f : Nat} {post : SX → Prop} (hf : f < 6) (hb : xbef f = -1) (h : wX_takeOut_39 post (nI f) (xbeh f) xold turn left xsay xfail xwhr xword xcon xop xreg xadr xuse xsht xkep xsta xtab xpsw xpen xrgs pag stp int xsha hel xfro xbef xbeh xsai) : wpX_takeOut post (xnew, xold, turn, left, xsay, xfail, xwhr, xword, xcon, xop, xreg, xadr, xuse, xsht, xkep, xsta, xtab, xpsw, xpen, xrgs, pag, stp, int, xsha, hel, xfro, xbef, xbeh, xsai) (nI f) := by
  have cl : (nI f).toNatClampNeg = f := nI_clamp (by omega)
  unfold wpX_takeOut
  dsimp only
  rw [cl, hb]
  exact ⟨cn_in hf, br_f cn_01 ⟨cn_in hf, nm_e h⟩⟩
theorem cf_xout1 {f z : Nat} {post : SX → Prop} (hf : f < 6) (hz : z < 6) (hb : xbef f = nI z) (hp : vp_nar .byte (xbeh f) = xbeh f) (h : wX_takeOut_39 post (nI f) xnew xold turn left xsay xfail xwhr xword xcon xop xreg xadr xuse xsht xkep xsta xtab xpsw xpen xrgs pag stp int xsha hel xfro xbef (upd xbeh z (xbeh f)) xsai) : wpX_takeOut post (xnew, xold, turn, left, xsay, xfail, xwhr, xword, xcon, xop, xreg, xadr, xuse, xsht, xkep, xsta, xtab, xpsw, xpen, xrgs, pag, stp, int, xsha, hel, xfro, xbef, xbeh, xsai) (nI f) := by
  have cl : (nI f).toNatClampNeg = f := nI_clamp (by omega)
  have cz : (nI z).toNatClampNeg = z := nI_clamp (by omega)
  unfold wpX_takeOut
  dsimp only
  rw [cl, hb, cz, hp]
  exact ⟨cn_in hf, br_t (cn_ge0 (by omega)) ⟨cn_in hf, cn_in hf, cn_in hz, nm_e h⟩⟩
theorem cf_xout {l1 l2 : List Nat} {f : Nat} (hn : (l1 ++ f :: l2).Nodup) (h6 : ∀ a, a ∈ l1 ++ f :: l2 → a < 6) (H : cf_LK xnew xold xbef xbeh (l1 ++ f :: l2)) :
    ∃ (xnew' : Int32) (xold' : Int32) (xbef' : Nat → Int32) (xbeh' : Nat → Int32), cf_LK xnew' xold' xbef' xbeh' (l1 ++ l2) ∧ ∀ ⦃turn left xsay xfail xwhr : Int32⦄ ⦃xword xcon xop xreg xadr xuse xsht xkep xsta xtab xpsw xpen xrgs pag stp int xsha hel xfro : Nat → Int32⦄ ⦃xsai : Nat → Int64⦄ (post : SX → Prop), post (xnew', xold', turn, left, xsay, xfail, xwhr, xword, xcon, xop, xreg, xadr, xuse, xsht, xkep, xsta, xtab, xpsw, xpen, xrgs, pag, stp, int, xsha, hel, xfro, xbef', xbeh', xsai) → wpX_takeOut post (xnew, xold, turn, left, xsay, xfail, xwhr, xword, xcon, xop, xreg, xadr, xuse, xsht, xkep, xsta, xtab, xpsw, xpen, xrgs, pag, stp, int, xsha, hel, xfro, xbef, xbeh, xsai) (nI f) := by
  obtain ⟨hb, hh, _, _⟩ := cf_mid H
  have hf : f < 6 := h6 f (List.mem_append_right _ List.mem_cons_self)
  have dn := cf_nd hn
  rcases cf_last l1 with rfl | ⟨l, z, rfl⟩
  · have hb : xbef f = -1 := hb
    cases l2 with
    | nil =>
      have hh : xbeh f = -1 := hh
      refine ⟨-1, -1, xbef, xbeh, cf_out00, fun turn left xsay xfail xwhr xword xcon xop xreg xadr xuse xsht xkep xsta xtab xpsw xpen xrgs pag stp int xsha hel xfro xsai post h => cf_xout0 hf hb (cf_xoutB0 hf hh ?_)⟩
      rw [hb, hh]
      exact h
    | cons w l =>
      have hh : xbeh f = nI w := hh
      have hw : w < 6 := h6 w (List.mem_append_right _ (List.mem_cons_of_mem f List.mem_cons_self))
      refine ⟨nI w, xold, upd xbef w (-1), xbeh, cf_out01 hn H, fun turn left xsay xfail xwhr xword xcon xop xreg xadr xuse xsht xkep xsta xtab xpsw xpen xrgs pag stp int xsha hel xfro xsai post h => cf_xout0 hf hb (cf_xoutB1 hf hw hh (by rw [hb]; exact cn_vb1) ?_)⟩
      rw [hb, hh]
      exact h
  · have hb : xbef f = nI z := hb.trans (cf_ls_last _ _ _)
    have hz : z < 6 := h6 z (List.mem_append_left _ (List.mem_append_right _ List.mem_cons_self))
    have nz : f ≠ z := fun e => dn.1 (e ▸ List.mem_append_right _ List.mem_cons_self)
    cases l2 with
    | nil =>
      have hh : xbeh f = -1 := hh
      refine ⟨xnew, nI z, xbef, upd xbeh z (-1), cf_out10 hn H, fun turn left xsay xfail xwhr xword xcon xop xreg xadr xuse xsht xkep xsta xtab xpsw xpen xrgs pag stp int xsha hel xfro xsai post h => cf_xout1 hf hz hb (by rw [hh]; exact cn_vb1) (cf_xoutB0 hf ((cn_un nz).trans hh) ?_)⟩
      rw [hb, hh]
      exact h
    | cons w l' =>
      have hh : xbeh f = nI w := hh
      have hw : w < 6 := h6 w (List.mem_append_right _ (List.mem_cons_of_mem f List.mem_cons_self))
      refine ⟨xnew, xold, upd xbef w (nI z), upd xbeh z (nI w), cf_out11 hn H, fun turn left xsay xfail xwhr xword xcon xop xreg xadr xuse xsht xkep xsta xtab xpsw xpen xrgs pag stp int xsha hel xfro xsai post h => cf_xout1 hf hz hb (by rw [hh]; exact cn_vb (by omega)) (cf_xoutB1 hf hw ((cn_un nz).trans hh) (by rw [hb]; exact cn_vb (by omega)) ?_)⟩
      rw [hb, hh]
      exact h
theorem cf_xin0 {f : Nat} {post : SX → Prop} (hf : f < 6) (hn : xnew = -1) (h : post (nI f, nI f, turn, left, xsay, xfail, xwhr, xword, xcon, xop, xreg, xadr, xuse, xsht, xkep, xsta, xtab, xpsw, xpen, xrgs, pag, stp, int, xsha, hel, xfro, upd xbef f (-1), upd xbeh f (-1), xsai)) : wpX_putInFront post (xnew, xold, turn, left, xsay, xfail, xwhr, xword, xcon, xop, xreg, xadr, xuse, xsht, xkep, xsta, xtab, xpsw, xpen, xrgs, pag, stp, int, xsha, hel, xfro, xbef, xbeh, xsai) (nI f) := by
  have cl : (nI f).toNatClampNeg = f := nI_clamp (by omega)
  subst hn
  unfold wpX_putInFront
  dsimp only
  rw [cl, cn_b81, cn_vb1]
  exact ⟨cn_in hf, nm_e ⟨cn_in hf, nm_e (br_f cn_01 h)⟩⟩
theorem cf_xin1 {f w : Nat} {post : SX → Prop} (hf : f < 6) (hw : w < 6) (hn : xnew = nI w) (h : post (nI f, xold, turn, left, xsay, xfail, xwhr, xword, xcon, xop, xreg, xadr, xuse, xsht, xkep, xsta, xtab, xpsw, xpen, xrgs, pag, stp, int, xsha, hel, xfro, upd (upd xbef f (-1)) w (nI f), upd xbeh f (nI w), xsai)) : wpX_putInFront post (xnew, xold, turn, left, xsay, xfail, xwhr, xword, xcon, xop, xreg, xadr, xuse, xsht, xkep, xsta, xtab, xpsw, xpen, xrgs, pag, stp, int, xsha, hel, xfro, xbef, xbeh, xsai) (nI f) := by
  have cl : (nI f).toNatClampNeg = f := nI_clamp (by omega)
  have cw : (nI w).toNatClampNeg = w := nI_clamp (by omega)
  subst hn
  unfold wpX_putInFront
  dsimp only
  rw [cl, cw, cn_vbb (n := w) (by omega), cn_vbb (n := f) (by omega), cn_vb1]
  exact ⟨cn_in hf, nm_e ⟨cn_in hf, nm_e (br_t (cn_ge0 (by omega)) ⟨cn_in hw, nm_e h⟩)⟩⟩
theorem cf_xin {L : List Nat} {f : Nat} (hf : f < 6) (hn : L.Nodup) (hm : f ∉ L) (h6 : ∀ a, a ∈ L → a < 6) (H : cf_LK xnew xold xbef xbeh L) :
    ∃ (xnew' : Int32) (xold' : Int32) (xbef' : Nat → Int32) (xbeh' : Nat → Int32), cf_LK xnew' xold' xbef' xbeh' (f :: L) ∧ ∀ ⦃turn left xsay xfail xwhr : Int32⦄ ⦃xword xcon xop xreg xadr xuse xsht xkep xsta xtab xpsw xpen xrgs pag stp int xsha hel xfro : Nat → Int32⦄ ⦃xsai : Nat → Int64⦄ (post : SX → Prop), post (xnew', xold', turn, left, xsay, xfail, xwhr, xword, xcon, xop, xreg, xadr, xuse, xsht, xkep, xsta, xtab, xpsw, xpen, xrgs, pag, stp, int, xsha, hel, xfro, xbef', xbeh', xsai) → wpX_putInFront post (xnew, xold, turn, left, xsay, xfail, xwhr, xword, xcon, xop, xreg, xadr, xuse, xsht, xkep, xsta, xtab, xpsw, xpen, xrgs, pag, stp, int, xsha, hel, xfro, xbef, xbeh, xsai) (nI f) := by
  cases L with
  | nil =>
    have e : xnew = -1 := H.1
    refine ⟨nI f, nI f, upd xbef f (-1), upd xbeh f (-1), ?_, fun turn left xsay xfail xwhr xword xcon xop xreg xadr xuse xsht xkep xsta xtab xpsw xpen xrgs pag stp int xsha hel xfro xsai post h => cf_xin0 hf e h⟩
    have := cf_in0 (f := f) H
    rw [e] at this
    exact this
  | cons w l =>
    have e : xnew = nI w := H.1
    refine ⟨nI f, xold, upd (upd xbef f (-1)) w (nI f), upd xbeh f (nI w), ?_, fun turn left xsay xfail xwhr xword xcon xop xreg xadr xuse xsht xkep xsta xtab xpsw xpen xrgs pag stp int xsha hel xfro xsai post h => cf_xin1 hf (h6 w List.mem_cons_self) e h⟩
    have := cf_in1 hm hn H
    rw [e] at this
    exact this
theorem cf_x113 {F q : Nat} {x2 n1 o1 : Int32} {b1 h1 : Nat → Int32} {post : Int32 → SX → Prop} (hF : F < 6) (hq : q < 24)
    (hpf : ∀ post' : SX → Prop, post' (n1, o1, turn, left, xsay, xfail, xwhr, xword, xcon, xop, xreg, xadr, xuse, xsht, xkep, xsta, xtab, xpsw, xpen, xrgs, pag, stp, int, xsha, upd hel F (nI q), upd xfro q (nI F), b1, h1, xsai) → wpX_putInFront post' (xnew, xold, turn, left, xsay, xfail, xwhr, xword, xcon, xop, xreg, xadr, xuse, xsht, xkep, xsta, xtab, xpsw, xpen, xrgs, pag, stp, int, xsha, upd hel F (nI q), upd xfro q (nI F), xbef, xbeh, xsai) (nI F))
    (h : post x2 (n1, o1, turn, left, xsay, xfail, xwhr, xword, xcon, xop, xreg, xadr, xuse, xsht, xkep, xsta, xtab, xpsw, xpen, xrgs, pag, stp, int, xsha, upd hel F (nI q), upd xfro q (nI F), b1, h1, xsai)) : wX_use_113 post x2 (nI q) (nI F) xnew xold turn left xsay xfail xwhr xword xcon xop xreg xadr xuse xsht xkep xsta xtab xpsw xpen xrgs pag stp int xsha hel xfro xbef xbeh xsai := by
  have cF : (nI F).toNatClampNeg = F := nI_clamp (by omega)
  have cq : (nI q).toNatClampNeg = q := nI_clamp (by omega)
  unfold wX_use_113
  rw [cF, cq, cn_vbb (n := q) (by omega), cn_vbb (n := F) (by omega)]
  exact ⟨cn_in hF, nm_e ⟨cn_in hq, nm_e (hpf _ h)⟩⟩
theorem cf_x81f {z q0 : Nat} {x2 x3 n1 o1 : Int32} {b1 h1 : Nat → Int32} {post : Int32 → SX → Prop} (hz : z < 6) (hq : q0 < 24) (ho : xold = nI z) (hh : hel z = nI q0)
    (hto : ∀ post' : SX → Prop, post' (n1, o1, turn, left, xsay, xfail, xwhr, xword, xcon, xop, xreg, xadr, xuse, xsht, xkep, xsta, xtab, xpsw, xpen, xrgs, pag, stp, int, xsha, hel, xfro, b1, h1, xsai) → wpX_takeOut post' (xnew, xold, turn, left, xsay, xfail, xwhr, xword, xcon, xop, xreg, xadr, xuse, xsht, xkep, xsta, xtab, xpsw, xpen, xrgs, pag, stp, int, xsha, hel, xfro, xbef, xbeh, xsai) (nI z))
    (h : wX_use_113 post x2 x3 (nI z) n1 o1 turn left xsay xfail xwhr xword xcon xop xreg xadr xuse xsht xkep xsta xtab xpsw xpen xrgs pag stp int xsha hel (upd xfro q0 (-1)) b1 h1 xsai) : wX_use_81 post x2 x3 6 xnew xold turn left xsay xfail xwhr xword xcon xop xreg xadr xuse xsht xkep xsta xtab xpsw xpen xrgs pag stp int xsha hel xfro xbef xbeh xsai := by
  have cz : (nI z).toNatClampNeg = z := nI_clamp (by omega)
  have cq : (nI q0).toNatClampNeg = q0 := nI_clamp (by omega)
  subst ho
  refine br_t rfl (hto _ (And.intro (cn_in hz) (And.intro ?_ ?_)))
  · rw [cz, hh]
    exact cn_in hq
  · intro y ey
    rw [cz, hh, cq, cn_vb1] at ey
    subst ey
    exact h
theorem cf_x58 {F : Nat} {x2 x3 : Int32} {post : Int32 → SX → Prop} (hF : F ≤ 6) (hl : ∀ j, j < F → ¬ hel j < 0) (hf : F < 6 → hel F < 0) (h : wX_use_81 post x2 x3 (nI F) xnew xold turn left xsay xfail xwhr xword xcon xop xreg xadr xuse xsht xkep xsta xtab xpsw xpen xrgs pag stp int xsha hel xfro xbef xbeh xsai) :
    ∀ d i, i + d = F → wX_use_58 post x2 x3 xnew xold turn left xsay xfail xwhr xword xcon xop xreg xadr xuse xsht xkep xsta xtab xpsw xpen xrgs pag stp int xsha hel xfro xbef xbeh xsai (d + 1) (nI i) := by
  intro d
  induction d with
  | zero =>
    intro i hi
    have hi : i = F := hi
    subst hi
    by_cases e : i < 6
    · have cl : (nI i).toNatClampNeg = i := nI_clamp (by omega)
      exact br_f (nI_ge (b := 6) e (by decide)) ⟨cn_in e, br_t (by rw [cl]; exact hf e) h⟩
    · exact br_t (nI_le (a := 6) (by omega) (by omega)) h
  | succ d ih =>
    intro i hi
    have e : i < 6 := by omega
    have cl : (nI i).toNatClampNeg = i := nI_clamp (by omega)
    exact br_f (nI_ge (b := 6) e (by decide)) ⟨cn_in e, br_f (by rw [cl]; exact hl i (by omega)) (nm_r (nI_1 i) (ih (i + 1) (by omega)))⟩
theorem cf_xmiss {F g a : Nat} {post : Int32 → SX → Prop} (hg : g < 3) (ha : a < 64) (hfo : xfro (8 * g + a / 8) = -1) (hF : F ≤ 6) (hl : ∀ j, j < F → ¬ hel j < 0) (hf : F < 6 → hel F < 0)
    (h : wX_use_81 post (nI a) (nI (8 * g + a / 8)) (nI F) xnew xold turn left xsay xfail xwhr xword xcon xop xreg xadr xuse xsht xkep xsta xtab xpsw xpen xrgs (upd pag g (pag g + 1)) stp int xsha hel xfro xbef xbeh xsai) : wpX_use post (xnew, xold, turn, left, xsay, xfail, xwhr, xword, xcon, xop, xreg, xadr, xuse, xsht, xkep, xsta, xtab, xpsw, xpen, xrgs, pag, stp, int, xsha, hel, xfro, xbef, xbeh, xsai) (nI g) (nI a) := by
  have cg : (nI g).toNatClampNeg = g := nI_clamp (by omega)
  have cq : (nI (8 * g + a / 8)).toNatClampNeg = 8 * g + a / 8 := nI_clamp (by omega)
  unfold wpX_use
  dsimp only
  refine nm_r (cn_pg g (by omega)) ⟨cn_in (by omega), nm_r (e' := -1) (by rw [cq]; exact hfo) (br_t cn_m1neg ⟨cn_in hg, cn_in hg, nm_r (e' := upd pag g (pag g + 1)) (by rw [cg]) ⟨F + 1, ?_⟩⟩)⟩
  exact cf_x58 hF hl hf h F 0 (by omega)
theorem cf_xhit0 {g a f : Nat} {post : Int32 → SX → Prop} (hg : g < 3) (ha : a < 64) (hf : f < 6) (hfo : xfro (8 * g + a / 8) = nI f) (hn : xnew = nI f) (h : post (nI a) (xnew, xold, turn, left, xsay, xfail, xwhr, xword, xcon, xop, xreg, xadr, xuse, xsht, xkep, xsta, xtab, xpsw, xpen, xrgs, pag, stp, int, xsha, hel, xfro, xbef, xbeh, xsai)) : wpX_use post (xnew, xold, turn, left, xsay, xfail, xwhr, xword, xcon, xop, xreg, xadr, xuse, xsht, xkep, xsta, xtab, xpsw, xpen, xrgs, pag, stp, int, xsha, hel, xfro, xbef, xbeh, xsai) (nI g) (nI a) := by
  have cq : (nI (8 * g + a / 8)).toNatClampNeg = 8 * g + a / 8 := nI_clamp (by omega)
  unfold wpX_use
  dsimp only
  exact nm_r (cn_pg g (by omega)) ⟨cn_in (by omega), nm_r (e' := nI f) (by rw [cq]; exact hfo) (br_f (nI_pos (by omega)) (br_t hn.symm h))⟩
theorem cf_xhit1 {g a f : Nat} {n1 o1 n2 o2 : Int32} {b1 h1 b2 h2 : Nat → Int32} {post : Int32 → SX → Prop} (hg : g < 3) (ha : a < 64) (hf : f < 6) (hfo : xfro (8 * g + a / 8) = nI f) (hn : ¬ nI f = xnew)
    (hto : ∀ post' : SX → Prop, post' (n1, o1, turn, left, xsay, xfail, xwhr, xword, xcon, xop, xreg, xadr, xuse, xsht, xkep, xsta, xtab, xpsw, xpen, xrgs, pag, stp, int, xsha, hel, xfro, b1, h1, xsai) → wpX_takeOut post' (xnew, xold, turn, left, xsay, xfail, xwhr, xword, xcon, xop, xreg, xadr, xuse, xsht, xkep, xsta, xtab, xpsw, xpen, xrgs, pag, stp, int, xsha, hel, xfro, xbef, xbeh, xsai) (nI f))
    (hpf : ∀ post' : SX → Prop, post' (n2, o2, turn, left, xsay, xfail, xwhr, xword, xcon, xop, xreg, xadr, xuse, xsht, xkep, xsta, xtab, xpsw, xpen, xrgs, pag, stp, int, xsha, hel, xfro, b2, h2, xsai) → wpX_putInFront post' (n1, o1, turn, left, xsay, xfail, xwhr, xword, xcon, xop, xreg, xadr, xuse, xsht, xkep, xsta, xtab, xpsw, xpen, xrgs, pag, stp, int, xsha, hel, xfro, b1, h1, xsai) (nI f))
    (h : post (nI a) (n2, o2, turn, left, xsay, xfail, xwhr, xword, xcon, xop, xreg, xadr, xuse, xsht, xkep, xsta, xtab, xpsw, xpen, xrgs, pag, stp, int, xsha, hel, xfro, b2, h2, xsai)) : wpX_use post (xnew, xold, turn, left, xsay, xfail, xwhr, xword, xcon, xop, xreg, xadr, xuse, xsht, xkep, xsta, xtab, xpsw, xpen, xrgs, pag, stp, int, xsha, hel, xfro, xbef, xbeh, xsai) (nI g) (nI a) := by
  have cq : (nI (8 * g + a / 8)).toNatClampNeg = 8 * g + a / 8 := nI_clamp (by omega)
  unfold wpX_use
  dsimp only
  exact nm_r (cn_pg g (by omega)) ⟨cn_in (by omega), nm_r (e' := nI f) (by rw [cq]; exact hfo) (br_f (nI_pos (by omega)) (br_f hn (hto _ (hpf _ h))))⟩
end
end
section
/-! Y's use, and the two together -/
def cf_YI (hel : Nat → Int32) (us : Nat → Int64) (q : Int32) (i : Nat) (b fr : Int32) (o : Nat) : Prop :=
  o < 6 ∧ (∀ f, i ≤ f → f < 6 → us o ≤ us f) ∧
  ((b = -1 ∧ ∀ f, i ≤ f → f < 6 → ¬ hel f = q) ∨ ∃ j, j < 6 ∧ b = nI j ∧ hel j = q) ∧
  ((fr = -1 ∧ ∀ f, i ≤ f → f < 6 → 0 ≤ hel f) ∨ ∃ j, i ≤ j ∧ j < 6 ∧ fr = nI j ∧ ¬ 0 ≤ hel j ∧ ∀ f, i ≤ f → f < j → 0 ≤ hel f)
theorem cf_YI6 {hel : Nat → Int32} {us : Nat → Int64} {q : Int32} : cf_YI hel us q 6 (-1) (-1) 0 :=
  ⟨by decide, fun f h1 h2 => absurd h2 (Nat.not_lt.mpr h1), Or.inl ⟨rfl, fun f h1 h2 => absurd h2 (Nat.not_lt.mpr h1)⟩, Or.inl ⟨rfl, fun f h1 h2 => absurd h2 (Nat.not_lt.mpr h1)⟩⟩
theorem cf_YIs {hel : Nat → Int32} {us : Nat → Int64} {q : Int32} {i : Nat} {b fr : Int32} {o : Nat} (hi : i < 6) (H : cf_YI hel us q (i + 1) b fr o) :
    cf_YI hel us q i (if hel i = q then nI i else b) (if 0 ≤ hel i then fr else nI i) (if us o ≤ us i then o else i) := by
  obtain ⟨h0, h1, h2, h3⟩ := H
  have sp : ∀ f, i ≤ f → f = i ∨ i + 1 ≤ f := fun f h => by omega
  refine ⟨?_, ?_, ?_, ?_⟩
  · by_cases e : us o ≤ us i
    · rw [if_pos e]; exact h0
    · rw [if_neg e]; exact hi
  · intro f h h6
    by_cases e : us o ≤ us i
    · rw [if_pos e]
      rcases sp f h with rfl | h
      · exact e
      · exact h1 f h h6
    · rw [if_neg e]
      rcases sp f h with rfl | h
      · exact Int64.le_refl _
      · exact Int64.le_trans (Int64.le_of_lt (Int64.not_le.mp e)) (h1 f h h6)
  · by_cases e : hel i = q
    · rw [if_pos e]
      exact Or.inr ⟨i, hi, rfl, e⟩
    · rw [if_neg e]
      rcases h2 with ⟨hb, h2⟩ | h2
      · refine Or.inl ⟨hb, fun f h h6 => ?_⟩
        rcases sp f h with rfl | h
        · exact e
        · exact h2 f h h6
      · exact Or.inr h2
  · by_cases e : 0 ≤ hel i
    · rw [if_pos e]
      rcases h3 with ⟨hb, h3⟩ | ⟨j, hj, hj6, hb, hn, hm⟩
      · refine Or.inl ⟨hb, fun f h h6 => ?_⟩
        rcases sp f h with rfl | h
        · exact e
        · exact h3 f h h6
      · refine Or.inr ⟨j, by omega, hj6, hb, hn, fun f h h6 => ?_⟩
        rcases sp f h with rfl | h
        · exact e
        · exact hm f h h6
    · rw [if_neg e]
      exact Or.inr ⟨i, Nat.le_refl _, hi, rfl, e, fun f h h6 => absurd h6 (Nat.not_lt.mpr h)⟩
section
variable {xnew : Int32} {xold : Int32} {turn : Int32} {left : Int32} {xsay : Int32} {xfail : Int32} {xwhr : Int32} {xword : Nat → Int32} {xcon : Nat → Int32} {xop : Nat → Int32} {xreg : Nat → Int32} {xadr : Nat → Int32} {xuse : Nat → Int32} {xsht : Nat → Int32} {xkep : Nat → Int32} {xsta : Nat → Int32} {xtab : Nat → Int32} {xpsw : Nat → Int32} {xpen : Nat → Int32} {xrgs : Nat → Int32} {pag : Nat → Int32} {stp : Nat → Int32} {int : Nat → Int32} {xsha : Nat → Int32} {hel : Nat → Int32} {xfro : Nat → Int32} {xbef : Nat → Int32} {xbeh : Nat → Int32} {xsai : Nat → Int64}
variable {ynow : Int64} {yword : Nat → Int32} {yrgs : Nat → Int32} {ypsw : Nat → Int32} {ytab : Nat → Int32} {ypen : Nat → Int32} {ysta : Nat → Int32} {ykep : Nat → Int32} {yusd : Nat → Int64} {ytal : Nat → Int64}
theorem cf_ystep {f o n : Nat} {x1 x3 b fr : Int32} {post : SY → Prop} (hf : f < 6) (ho : o < 6)
    (h : wY_use_22 post x1 x3 ynow turn left yword yrgs ypsw ytab ypen ysta ykep pag stp int hel yusd ytal n (if hel f = x3 then nI f else b) (if 0 ≤ hel f then fr else nI f) (nI (if yusd o ≤ yusd f then o else f)) (nI f + (-1))) :
    wY_use_22 post x1 x3 ynow turn left yword yrgs ypsw ytab ypen ysta ykep pag stp int hel yusd ytal (n + 1) b fr (nI o) (nI f) := by
  have cf : (nI f).toNatClampNeg = f := nI_clamp (by omega)
  have co : (nI o).toNatClampNeg = o := nI_clamp (by omega)
  have k56 : ∀ b' fr' : Int32, wY_use_22 post x1 x3 ynow turn left yword yrgs ypsw ytab ypen ysta ykep pag stp int hel yusd ytal n b' fr' (nI (if yusd o ≤ yusd f then o else f)) (nI f + (-1)) → wY_use_56 post (wY_use_22 post x1 x3 ynow turn left yword yrgs ypsw ytab ypen ysta ykep pag stp int hel yusd ytal n) x1 x3 b' fr' (nI o) (nI f) ynow turn left yword yrgs ypsw ytab ypen ysta ykep pag stp int hel yusd ytal := by
    intro b' fr' h
    unfold wY_use_56
    rw [cf, co]
    refine ⟨cn_in hf, cn_in ho, ?_⟩
    by_cases e : yusd o ≤ yusd f
    · rw [if_pos e] at h
      exact br_t e (nm_e h)
    · rw [if_neg e] at h
      exact br_f e (nm_e h)
  have k42 : ∀ b' : Int32, wY_use_22 post x1 x3 ynow turn left yword yrgs ypsw ytab ypen ysta ykep pag stp int hel yusd ytal n b' (if 0 ≤ hel f then fr else nI f) (nI (if yusd o ≤ yusd f then o else f)) (nI f + (-1)) → wY_use_42 post (wY_use_22 post x1 x3 ynow turn left yword yrgs ypsw ytab ypen ysta ykep pag stp int hel yusd ytal n) x1 x3 b' fr (nI o) (nI f) ynow turn left yword yrgs ypsw ytab ypen ysta ykep pag stp int hel yusd ytal := by
    intro b' h
    unfold wY_use_42
    rw [cf]
    refine ⟨cn_in hf, ?_⟩
    by_cases e : 0 ≤ hel f
    · rw [if_pos e] at h
      exact br_t e (k56 _ _ h)
    · rw [if_neg e] at h
      exact br_f e (k56 _ _ h)
  refine br_f (nI_pos (by omega)) ⟨cn_in hf, ?_⟩
  rw [cf]
  by_cases e : hel f = x3
  · rw [if_pos e] at h
    exact br_t e (k42 _ h)
  · rw [if_neg e] at h
    exact br_f e (k42 _ h)
theorem cf_yloop (x1 q : Int32) : ∀ i, i ≤ 6 → ∀ (b fr : Int32) (o : Nat), cf_YI hel yusd q i b fr o →
    ∃ (b' fr' : Int32) (o' : Nat), cf_YI hel yusd q 0 b' fr' o' ∧ ∀ ⦃ynow : Int64⦄ ⦃turn left : Int32⦄ ⦃yword yrgs ypsw ytab ypen ysta ykep pag stp int : Nat → Int32⦄ ⦃ytal : Nat → Int64⦄ (post : SY → Prop), (∀ n, wY_use_22 post x1 q ynow turn left yword yrgs ypsw ytab ypen ysta ykep pag stp int hel yusd ytal (n + 1) b' fr' (nI o') (-1)) → ∀ n, wY_use_22 post x1 q ynow turn left yword yrgs ypsw ytab ypen ysta ykep pag stp int hel yusd ytal (n + i + 1) b fr (nI o) (nI i + (-1)) := by
  intro i
  induction i with
  | zero =>
    intro _ b fr o H
    refine ⟨b, fr, o, H, fun ynow turn left yword yrgs ypsw ytab ypen ysta ykep pag stp int ytal post h n => ?_⟩
    have e : nI 0 + (-1) = -1 := by decide
    rw [e]
    exact h n
  | succ i ih =>
    intro hi b fr o H
    obtain ⟨b', fr', o', H', hW⟩ := ih (by omega) _ _ _ (cf_YIs (by omega) H)
    refine ⟨b', fr', o', H', fun ynow turn left yword yrgs ypsw ytab ypen ysta ykep pag stp int ytal post h n => ?_⟩
    rw [pk_m1]
    exact cf_ystep (by omega) H.1 (hW post h n)
theorem cf_yend0 {j N n : Nat} {x1 q fr o : Int32} {post : SY → Prop} (hj : j < 6) (h : post (lN (N + 1), turn, left, yword, yrgs, ypsw, ytab, ypen, ysta, ykep, pag, stp, int, hel, vp_updL yusd j (lN (N + 1)), ytal)) :
    wY_use_22 post x1 q (lN N) turn left yword yrgs ypsw ytab ypen ysta ykep pag stp int hel yusd ytal (n + 1) (nI j) fr o (-1) := by
  have cj : (nI j).toNatClampNeg = j := nI_clamp (by omega)
  refine br_t cn_m1neg (nm_r (lN_1 N) (br_t (cn_ge0 (by omega)) ⟨cn_in hj, ?_⟩))
  rw [cj]
  exact nm_e h
theorem cf_y111 {F g N : Nat} {q : Int32} {post : SY → Prop} (hF : F < 6) (hg : g < 3) (h : post (lN (N + 1), turn, left, yword, yrgs, ypsw, ytab, ypen, ysta, ykep, upd pag g (pag g + 1), stp, int, upd hel F q, vp_updL yusd F (lN (N + 1)), ytal)) :
    wY_use_111 post (nI g) q (nI F) (lN (N + 1)) turn left yword yrgs ypsw ytab ypen ysta ykep pag stp int hel yusd ytal := by
  have cF : (nI F).toNatClampNeg = F := nI_clamp (by omega)
  have cg : (nI g).toNatClampNeg = g := nI_clamp (by omega)
  unfold wY_use_111
  rw [cF, cg]
  exact ⟨cn_in hF, nm_e ⟨cn_in hg, cn_in hg, nm_e ⟨cn_in hF, nm_e h⟩⟩⟩
theorem cf_yend1 {F g N n : Nat} {q o : Int32} {post : SY → Prop} (hF : F < 6) (hg : g < 3) (h : post (lN (N + 1), turn, left, yword, yrgs, ypsw, ytab, ypen, ysta, ykep, upd pag g (pag g + 1), stp, int, upd hel F q, vp_updL yusd F (lN (N + 1)), ytal)) :
    wY_use_22 post (nI g) q (lN N) turn left yword yrgs ypsw ytab ypen ysta ykep pag stp int hel yusd ytal (n + 1) (-1) (nI F) o (-1) :=
  br_t cn_m1neg (nm_r (lN_1 N) (br_f cn_01 (br_f (nI_pos (by omega)) (cf_y111 hF hg h))))
theorem cf_yend2 {F g N n : Nat} {q : Int32} {post : SY → Prop} (hF : F < 6) (hg : g < 3) (h : post (lN (N + 1), turn, left, yword, yrgs, ypsw, ytab, ypen, ysta, ykep, upd pag g (pag g + 1), stp, int, upd hel F q, vp_updL yusd F (lN (N + 1)), ytal)) :
    wY_use_22 post (nI g) q (lN N) turn left yword yrgs ypsw ytab ypen ysta ykep pag stp int hel yusd ytal (n + 1) (-1) (-1) (nI F) (-1) :=
  br_t cn_m1neg (nm_r (lN_1 N) (br_f cn_01 (br_t cn_m1neg (cf_y111 hF hg h))))
theorem cf_yuse {g a n : Nat} {post : SY → Prop} (ha : a < 64) (h : wY_use_22 post (nI g) (nI (8 * g + a / 8)) ynow turn left yword yrgs ypsw ytab ypen ysta ykep pag stp int hel yusd ytal n (-1) (-1) (nI 0) (nI 6 + (-1))) : wpY_use post (ynow, turn, left, yword, yrgs, ypsw, ytab, ypen, ysta, ykep, pag, stp, int, hel, yusd, ytal) (nI g) (nI a) := by
  unfold wpY_use
  dsimp only
  exact ⟨by decide, nm_r (by rw [cn_div8 (by omega), cn_8, nI_add]) ⟨n, h⟩⟩
theorem cf_use {g a N : Nat} (hg : g < 3) (ha : a < 64) (hN : N < 2000000) (H : cf_F xnew xold hel xfro xbef xbeh yusd N) :
    ∃ (xnew' : Int32) (xold' : Int32) (hel' : Nat → Int32) (xfro' : Nat → Int32) (xbef' : Nat → Int32) (xbeh' : Nat → Int32) (pag' : Nat → Int32) (yusd' : Nat → Int64), cf_F xnew' xold' hel' xfro' xbef' xbeh' yusd' (N + 1) ∧
    (∀ ⦃turn left xsay xfail xwhr : Int32⦄ ⦃xword xcon xop xreg xadr xuse xsht xkep xsta xtab xpsw xpen xrgs stp int xsha : Nat → Int32⦄ ⦃xsai : Nat → Int64⦄ (post : Int32 → SX → Prop), post (nI a) (xnew', xold', turn, left, xsay, xfail, xwhr, xword, xcon, xop, xreg, xadr, xuse, xsht, xkep, xsta, xtab, xpsw, xpen, xrgs, pag', stp, int, xsha, hel', xfro', xbef', xbeh', xsai) → wpX_use post (xnew, xold, turn, left, xsay, xfail, xwhr, xword, xcon, xop, xreg, xadr, xuse, xsht, xkep, xsta, xtab, xpsw, xpen, xrgs, pag, stp, int, xsha, hel, xfro, xbef, xbeh, xsai) (nI g) (nI a)) ∧
    (∀ ⦃turn left : Int32⦄ ⦃yword yrgs ypsw ytab ypen ysta ykep stp int : Nat → Int32⦄ ⦃ytal : Nat → Int64⦄ (post : SY → Prop), post (lN (N + 1), turn, left, yword, yrgs, ypsw, ytab, ypen, ysta, ykep, pag', stp, int, hel', yusd', ytal) → wpY_use post (lN N, turn, left, yword, yrgs, ypsw, ytab, ypen, ysta, ykep, pag, stp, int, hel, yusd, ytal) (nI g) (nI a)) := by
  obtain ⟨L, hn, hK, hH, hA⟩ := H
  have hq : 8 * g + a / 8 < 24 := by omega
  have h6 : ∀ f, f ∈ L → f < 6 := fun f hf => (hH.2.1 f hf).1
  have hge : ∀ f, f ∈ L → 0 ≤ hel f := by
    intro f hf
    obtain ⟨_, q, hq, e, _⟩ := hH.2.1 f hf
    rw [e]
    exact cn_ge0 (by omega)
  have hlt : ∀ f, f < 6 → f ∉ L → hel f = -1 := hH.1
  have hpage : ∀ f, f < 6 → hel f = nI (8 * g + a / 8) → f ∈ L ∧ xfro (8 * g + a / 8) = nI f := by
    intro f hf e
    by_cases m : f ∈ L
    · obtain ⟨_, q, hq1, e1, e2⟩ := hH.2.1 f m
      have : q = 8 * g + a / 8 := cn_inj (e1.symm.trans e) (by omega) (by omega)
      exact ⟨m, this ▸ e2⟩
    · exact absurd (e.symm.trans (hlt f hf m)) (cn_neq1 (by omega))
  obtain ⟨b, fr, o, ⟨ho, hmin, hb, hfr⟩, hY⟩ := cf_yloop (nI g) (nI (8 * g + a / 8)) 6 (Nat.le_refl 6) (-1) (-1) 0 (cf_YI6 (hel := hel) (us := yusd))
  rcases hH.2.2 _ hq with e | ⟨f, hf, e1, e2⟩
  · have hb1 : b = -1 := by
      rcases hb with ⟨hb, _⟩ | ⟨j, hj, _, ej⟩
      · exact hb
      · exact absurd ((hpage j hj ej).2.symm.trans e) (cn_neq1 (by omega))
    subst hb1
    by_cases full : ∃ F, F < 6 ∧ F ∉ L
    · obtain ⟨F, ⟨hF6, hFL⟩, hleast⟩ := pk_least _ full
      have hin : ∀ j, j < F → j ∈ L := by
        intro j hj
        by_cases m : j ∈ L
        · exact m
        · exact absurd ⟨by omega, m⟩ (hleast j hj)
      have hfr1 : fr = nI F := by
        rcases hfr with ⟨_, h⟩ | ⟨j, _, hj, ej, hnj, hbel⟩
        · have := h F (Nat.zero_le _) hF6
          rw [hlt F hF6 hFL] at this
          exact absurd this cn_01
        · have hjF : j = F := by
            rcases Nat.lt_trichotomy j F with h | h | h
            · exact absurd (hge j (hin j h)) hnj
            · exact h
            · have := hbel F (Nat.zero_le _) h
              rw [hlt F hF6 hFL] at this
              exact absurd this cn_01
          rw [ej, hjF]
      subst hfr1
      obtain ⟨n1, o1, b1, h1, hK1, hpf⟩ := cf_xin hF6 hn hFL h6 hK
      refine ⟨n1, o1, upd hel F (nI (8 * g + a / 8)), upd xfro (8 * g + a / 8) (nI F), b1, h1, upd pag g (pag g + 1), vp_updL yusd F (lN (N + 1)), ⟨F :: L, List.nodup_cons.mpr ⟨hFL, hn⟩, hK1, cf_HF_new hF6 hFL hq e hH, cf_AG_new hN hFL hA⟩, ?_, ?_⟩
      · intro turn left xsay xfail xwhr xword xcon xop xreg xadr xuse xsht xkep xsta xtab xpsw xpen xrgs stp int xsha xsai post h
        refine cf_xmiss (F := F) hg ha e (by omega) (fun j hj => Int32.not_lt.mpr (hge j (hin j hj))) (fun _ => by rw [hlt F hF6 hFL]; exact cn_m1neg) ?_
        exact br_f (fun z => absurd (cn_inj (b := 6) z (by omega) (by decide)) (by omega)) (cf_x113 hF6 hq (fun p k => hpf p k) h)
      · intro turn left yword yrgs ypsw ytab ypen ysta ykep stp int ytal post h
        exact cf_yuse ha (hY post (fun n => cf_yend1 hF6 hg h) 0)
    · have hall : ∀ f, f < 6 → f ∈ L := by
        intro f hf
        by_cases m : f ∈ L
        · exact m
        · exact absurd ⟨f, hf, m⟩ full
      have hfr1 : fr = -1 := by
        rcases hfr with ⟨h, _⟩ | ⟨j, _, hj, ej, hnj, _⟩
        · exact h
        · exact absurd (hge j (hall j hj)) hnj
      subst hfr1
      rcases cf_last L with hL0 | ⟨l, z, hL⟩
      · have := hall 0 (by decide)
        rw [hL0] at this
        cases this
      · subst hL
        have hzL : z ∈ l ++ [z] := List.mem_append_right _ List.mem_cons_self
        have hz6 := h6 z hzL
        have hoz : o = z := cf_AG_min hA (hall o ho) (hmin z (Nat.zero_le _) hz6)
        subst hoz
        obtain ⟨_, q0, hq0, eq0, _⟩ := hH.2.1 o hzL
        have hold : xold = nI o := hK.2.1.trans (cf_ls_last _ _ _)
        have hol : o ∉ l := (cf_nd (l2 := []) hn).1
        have hln : l.Nodup := (cf_nd (l2 := []) hn).2.2.2.1
        obtain ⟨n1, o1, b1, h1, hK1, hto⟩ := cf_xout (l2 := []) hn h6 hK
        rw [List.append_nil] at hK1
        obtain ⟨n2, o2, b2, h2, hK2, hpf⟩ := cf_xin hz6 hln hol (fun f hf => h6 f (List.mem_append_left _ hf)) hK1
        refine ⟨n2, o2, upd hel o (nI (8 * g + a / 8)), upd (upd xfro q0 (-1)) (8 * g + a / 8) (nI o), b2, h2, upd pag g (pag g + 1), vp_updL yusd o (lN (N + 1)), ⟨o :: l, List.nodup_cons.mpr ⟨hol, hln⟩, hK2, ?_, cf_AG_new hN hol (cf_AG_sub (List.sublist_append_left _ _) hA)⟩, ?_, ?_⟩
        · have hd := cf_HF_drop (L' := l) hzL (fun f => ⟨fun h => ⟨List.mem_append_left _ h, fun z => hol (z ▸ h)⟩, fun h => (List.mem_append.mp h.1).resolve_right (fun z => h.2 (List.mem_singleton.mp z))⟩) hq0 eq0 hH
          have hnw := cf_HF_new hz6 hol hq (by
            by_cases c : 8 * g + a / 8 = q0
            · rw [c, cn_us]
            · rw [cn_un c]; exact e) hd
          rw [cf_upd2] at hnw
          exact hnw
        · intro turn left xsay xfail xwhr xword xcon xop xreg xadr xuse xsht xkep xsta xtab xpsw xpen xrgs stp int xsha xsai post h
          refine cf_xmiss (F := 6) hg ha e (by omega) (fun j hj => Int32.not_lt.mpr (hge j (hall j hj))) (fun z => absurd z (by omega)) ?_
          exact cf_x81f hz6 hq0 hold eq0 (fun p k => hto p k) (cf_x113 hz6 hq (fun p k => hpf p k) h)
        · intro turn left yword yrgs ypsw ytab ypen ysta ykep stp int ytal post h
          exact cf_yuse ha (hY post (fun n => cf_yend2 hz6 hg h) 0)
  · have hf6 := h6 f hf
    have hb1 : b = nI f := by
      rcases hb with ⟨_, h⟩ | ⟨j, hj, ej, ej2⟩
      · exact absurd e2 (h f (Nat.zero_le _) hf6)
      · rw [ej]
        exact (hpage j hj ej2).2.symm.trans e1
    subst hb1
    obtain ⟨l1, l2, hL⟩ := List.append_of_mem hf
    subst hL
    have dn := cf_nd hn
    cases l1 with
    | nil =>
      refine ⟨xnew, xold, hel, xfro, xbef, xbeh, pag, vp_updL yusd f (lN (N + 1)), ⟨f :: l2, hn, hK, hH, cf_AG_new hN dn.2.1 (cf_AG_sub (List.sublist_cons_self _ _) hA)⟩, ?_, ?_⟩
      · intro turn left xsay xfail xwhr xword xcon xop xreg xadr xuse xsht xkep xsta xtab xpsw xpen xrgs stp int xsha xsai post h
        exact cf_xhit0 hg ha hf6 e1 hK.1 h
      · intro turn left yword yrgs ypsw ytab ypen ysta ykep stp int ytal post h
        exact cf_yuse ha (hY post (fun n => cf_yend0 hf6 h) 0)
    | cons c l1 =>
      have hnc : ¬ nI f = xnew := by
        intro z
        rw [hK.1] at z
        have : f = c := cn_inj (b := c) z (by omega) (by have := h6 c List.mem_cons_self; omega)
        exact dn.1 (this ▸ List.mem_cons_self)
      have hmem : ∀ x, x ∈ (c :: l1) ++ l2 → x ∈ (c :: l1) ++ f :: l2 := by
        intro x hx
        rcases List.mem_append.mp hx with h | h
        · exact List.mem_append_left _ h
        · exact List.mem_append_right _ (List.mem_cons_of_mem f h)
      have hfm : f ∉ (c :: l1) ++ l2 := by
        intro hx
        rcases List.mem_append.mp hx with h | h
        · exact dn.1 h
        · exact dn.2.1 h
      have hsub : List.Sublist ((c :: l1) ++ l2) ((c :: l1) ++ f :: l2) := List.Sublist.append_left (List.sublist_cons_self _ _) _
      have hnd : ((c :: l1) ++ l2).Nodup := hn.sublist hsub
      obtain ⟨n1, o1, b1, h1, hK1, hto⟩ := cf_xout hn h6 hK
      obtain ⟨n2, o2, b2, h2, hK2, hpf⟩ := cf_xin hf6 hnd hfm (fun x hx => h6 x (hmem x hx)) hK1
      refine ⟨n2, o2, hel, xfro, b2, h2, pag, vp_updL yusd f (lN (N + 1)), ⟨f :: ((c :: l1) ++ l2), List.nodup_cons.mpr ⟨hfm, hnd⟩, hK2, cf_HF_perm ?_ hH, cf_AG_new hN hfm (cf_AG_sub hsub hA)⟩, ?_, ?_⟩
      · intro x
        constructor
        · intro h
          rcases List.mem_cons.mp h with rfl | h
          · exact hf
          · exact hmem x h
        · intro h
          rcases List.mem_append.mp h with h | h
          · exact List.mem_cons_of_mem _ (List.mem_append_left _ h)
          · rcases List.mem_cons.mp h with rfl | h
            · exact List.mem_cons_self
            · exact List.mem_cons_of_mem _ (List.mem_append_right _ h)
      · intro turn left xsay xfail xwhr xword xcon xop xreg xadr xuse xsht xkep xsta xtab xpsw xpen xrgs stp int xsha xsai post h
        exact cf_xhit1 hg ha hf6 e1 hnc (fun p k => hto p k) (fun p k => hpf p k) h
      · intro turn left yword yrgs ypsw ytab ypen ysta ykep stp int ytal post h
        exact cf_yuse ha (hY post (fun n => cf_yend0 hf6 h) 0)
end
end
section
/-! sheets: counting, copying -/
def cm_cn (st : Nat → Int32) (s : Nat) : Nat → Nat
  | 0 => 0
  | n + 1 => cm_cn st s n + (if st n = nI s then 1 else 0)
theorem cm_cnS (st : Nat → Int32) (s n : Nat) : cm_cn st s (n + 1) = cm_cn st s n + (if st n = nI s then 1 else 0) := rfl
theorem cm_le (st : Nat → Int32) (s : Nat) : ∀ n, cm_cn st s n ≤ n := by
  intro n
  induction n with
  | zero => exact Nat.le_refl _
  | succ n ih =>
    rw [cm_cnS]
    split <;> omega
theorem cm_mono (st : Nat → Int32) (s : Nat) : ∀ d n, cm_cn st s n ≤ cm_cn st s (n + d) := by
  intro d
  induction d with
  | zero => intro n; exact Nat.le_refl _
  | succ d ih =>
    intro n
    have := ih n
    have e : n + (d + 1) = (n + d) + 1 := rfl
    rw [e, cm_cnS]
    omega
theorem cm_pos {st : Nat → Int32} {s q n : Nat} (hq : q < n) (h : st q = nI s) : 1 ≤ cm_cn st s n := by
  have h1 := cm_mono st s (n - (q + 1)) (q + 1)
  have e : q + 1 + (n - (q + 1)) = n := by omega
  rw [e, cm_cnS, if_pos h] at h1
  omega
theorem cm_two {st : Nat → Int32} {s q q' n : Nat} (hq : q < q') (hq' : q' < n) (h : st q = nI s) (h' : st q' = nI s) : 2 ≤ cm_cn st s n := by
  have h1 := cm_mono st s (n - (q' + 1)) (q' + 1)
  have e : q' + 1 + (n - (q' + 1)) = n := by omega
  rw [e, cm_cnS, if_pos h'] at h1
  have := cm_pos hq h
  omega
theorem cm_one {st : Nat → Int32} {s q q' n : Nat} (hq : q < n) (hq' : q' < n) (h : st q = nI s) (h' : st q' = nI s) (h1 : cm_cn st s n ≤ 1) : q' = q := by
  rcases Nat.lt_trichotomy q q' with c | c | c
  · have := cm_two c hq' h h'
    omega
  · exact c.symm
  · have := cm_two c hq h' h
    omega
theorem cm_upd {st : Nat → Int32} {q s0 s1 s : Nat} (h0 : st q = nI s0) (b0 : s0 < 2 ^ 31) (b1 : s1 < 2 ^ 31) (b : s < 2 ^ 31) :
    ∀ n, cm_cn (upd st q (nI s1)) s n + (if q < n ∧ s = s0 then 1 else 0) = cm_cn st s n + (if q < n ∧ s = s1 then 1 else 0) := by
  intro n
  induction n with
  | zero =>
    rw [if_neg (fun h => absurd h.1 (Nat.not_lt_zero _)), if_neg (fun h => absurd h.1 (Nat.not_lt_zero _))]
    rfl
  | succ n ih =>
    rw [cm_cnS, cm_cnS]
    by_cases e : n = q
    · subst e
      rw [if_neg (fun h => absurd h.1 (Nat.lt_irrefl _)), if_neg (fun h => absurd h.1 (Nat.lt_irrefl _))] at ih
      rw [cn_us, h0]
      by_cases c0 : s = s0
      · by_cases c1 : s = s1
        · rw [if_pos (by rw [← c1]), if_pos ⟨Nat.lt_succ_self _, c0⟩, if_pos (by rw [← c0]), if_pos ⟨Nat.lt_succ_self _, c1⟩]; omega
        · rw [if_neg (fun h => c1 (cn_inj h b1 b).symm), if_pos ⟨Nat.lt_succ_self _, c0⟩, if_pos (by rw [← c0]), if_neg (fun h => c1 h.2)]; omega
      · by_cases c1 : s = s1
        · rw [if_pos (by rw [← c1]), if_neg (fun h => c0 h.2), if_neg (fun h => c0 (cn_inj h b0 b).symm), if_pos ⟨Nat.lt_succ_self _, c1⟩]; omega
        · rw [if_neg (fun h => c1 (cn_inj h b1 b).symm), if_neg (fun h => c0 h.2), if_neg (fun h => c0 (cn_inj h b0 b).symm), if_neg (fun h => c1 h.2)]; omega
    · rw [cn_un e]
      have hq : (q < n + 1) = (q < n) := propext ⟨fun h => by omega, fun h => by omega⟩
      simp only [hq]
      omega
def cm_sm (c : Nat → Nat) : Nat → Nat
  | 0 => 0
  | n + 1 => cm_sm c n + c n
theorem cm_smS (c : Nat → Nat) (n : Nat) : cm_sm c (n + 1) = cm_sm c n + c n := rfl
theorem cm_sm1 {c : Nat → Nat} {x : Int32} {s0 : Nat} (hx : x = nI s0) (b0 : s0 < 2 ^ 31) : ∀ m, m ≤ 2 ^ 31 → cm_sm (fun s => c s + (if x = nI s then 1 else 0)) m = cm_sm c m + (if s0 < m then 1 else 0) := by
  intro m
  induction m with
  | zero => intro _; rfl
  | succ m ih =>
    intro hm
    have ih := ih (by omega)
    rw [cm_smS, cm_smS, ih, hx]
    by_cases e : s0 = m
    · rw [if_pos (congrArg nI e), if_neg (by omega), if_pos (by omega)]
      omega
    · rw [if_neg (fun z => e (cn_inj z b0 (by omega)))]
      by_cases l : s0 < m
      · rw [if_pos l, if_pos (by omega)]; omega
      · rw [if_neg l, if_neg (by omega)]; omega
theorem cm_tot {st : Nat → Int32} : ∀ n, (∀ q, q < n → ∃ s, s < 40 ∧ st q = nI s) → cm_sm (fun s => cm_cn st s n) 40 = n := by
  intro n
  induction n with
  | zero => intro _; rfl
  | succ n ih =>
    intro h
    obtain ⟨s0, hs, e⟩ := h n (Nat.lt_succ_self n)
    have h1 := cm_sm1 (c := fun s => cm_cn st s n) e (by omega) 40 (by decide)
    rw [ih (fun q hq => h q (by omega)), if_pos hs] at h1
    exact h1
theorem cm_all {c : Nat → Nat} : ∀ m, (∀ s, s < m → 1 ≤ c s) → m ≤ cm_sm c m := by
  intro m
  induction m with
  | zero => intro _; exact Nat.le_refl _
  | succ m ih =>
    intro h
    have := ih (fun s hs => h s (by omega))
    have := h m (Nat.lt_succ_self m)
    rw [cm_smS]
    omega
theorem cm_pig {c : Nat → Nat} {s0 : Nat} (h2 : 2 ≤ c s0) : ∀ m, (∀ s, s < m → 1 ≤ c s) → s0 < m → m + 1 ≤ cm_sm c m := by
  intro m
  induction m with
  | zero => intro _ h; omega
  | succ m ih =>
    intro h hs
    rw [cm_smS]
    by_cases e : s0 = m
    · have := cm_all m (fun s hs => h s (by omega))
      rw [← e] at this ⊢
      omega
    · have := ih (fun s hs => h s (by omega)) (by omega)
      have := h m (Nat.lt_succ_self m)
      omega
theorem cm_free {st : Nat → Int32} {s0 : Nat} (hr : ∀ q, q < 40 → ∃ s, s < 40 ∧ st q = nI s) (hs : s0 < 40) (h2 : 2 ≤ cm_cn st s0 40) : ∃ s, (s < 40 ∧ cm_cn st s 40 = 0) ∧ ∀ j, j < s → ¬ (j < 40 ∧ cm_cn st j 40 = 0) := by
  refine pk_least (fun s => s < 40 ∧ cm_cn st s 40 = 0) ?_
  by_cases h : ∃ s, s < 40 ∧ cm_cn st s 40 = 0
  · exact h
  · have hp := cm_pig (c := fun s => cm_cn st s 40) h2 40 (fun s hs => by
      rcases Nat.eq_zero_or_pos (cm_cn st s 40) with z | z
      · exact absurd ⟨s, hs, z⟩ h
      · exact z) hs
    rw [cm_tot 40 hr] at hp
    omega
/-- k cells from s on copied to d on -/
def cm_cp (f : Nat → Int32) (d s k : Nat) : Nat → Int32 := fun j => if d ≤ j ∧ j < d + k then f (s + (j - d)) else f j
theorem cm_cp0 (f : Nat → Int32) (d s : Nat) : cm_cp f d s 0 = f := by
  funext j
  exact if_neg (by omega)
theorem cm_cpS {f : Nat → Int32} {d s k : Nat} (h : ¬ (d ≤ s + k ∧ s + k < d + k)) : upd (cm_cp f d s k) (d + k) (cm_cp f d s k (s + k)) = cm_cp f d s (k + 1) := by
  funext j
  have e0 : cm_cp f d s k (s + k) = f (s + k) := if_neg h
  rw [e0]
  by_cases e : j = d + k
  · rw [e, cn_us]
    have e1 : cm_cp f d s (k + 1) (d + k) = f (s + (d + k - d)) := if_pos ⟨by omega, by omega⟩
    rw [e1]
    exact congrArg f (by omega)
  · rw [cn_un e]
    unfold cm_cp
    by_cases c : d ≤ j ∧ j < d + k
    · rw [if_pos c, if_pos ⟨c.1, by omega⟩]
    · rw [if_neg c, if_neg (by omega)]
theorem cm_cpI {f : Nat → Int32} {d s k j : Nat} (h : j < k) : cm_cp f d s k (d + j) = f (s + j) := by
  have e1 : cm_cp f d s k (d + j) = f (s + (d + j - d)) := if_pos ⟨by omega, by omega⟩
  rw [e1]
  exact congrArg f (by omega)
theorem cm_cpO {f : Nat → Int32} {d s k j : Nat} (h : ¬ (d ≤ j ∧ j < d + k)) : cm_cp f d s k j = f j := if_neg h
/-- k cells from d on set -/
def cm_st (f : Nat → Int32) (d : Nat) (v : Int32) (k : Nat) : Nat → Int32 := fun j => if d ≤ j ∧ j < d + k then v else f j
theorem cm_st0 (f : Nat → Int32) (d : Nat) (v : Int32) : cm_st f d v 0 = f := by
  funext j
  exact if_neg (by omega)
theorem cm_stS {f : Nat → Int32} {d k : Nat} {v : Int32} : upd (cm_st f d v k) (d + k) v = cm_st f d v (k + 1) := by
  funext j
  by_cases e : j = d + k
  · rw [e, cn_us]
    exact (if_pos ⟨by omega, by omega⟩).symm
  · rw [cn_un e]
    unfold cm_st
    by_cases c : d ≤ j ∧ j < d + k
    · rw [if_pos c, if_pos ⟨c.1, by omega⟩]
    · rw [if_neg c, if_neg (by omega)]
theorem cm_stI {f : Nat → Int32} {d k j : Nat} {v : Int32} (h : d ≤ j ∧ j < d + k) : cm_st f d v k j = v := if_pos h
theorem cm_stO {f : Nat → Int32} {d k j : Nat} {v : Int32} (h : ¬ (d ≤ j ∧ j < d + k)) : cm_st f d v k j = f j := if_neg h
/-! the relation of the storages -/
def cm_D (w o r a c : Int32) : Prop := o = -1 ∨ (o = w &&& 15 ∧ r = (w >>> ((4 : Int32) &&& 31)) &&& 3 ∧ a = (w >>> ((6 : Int32) &&& 31)) &&& 63 ∧ c = w >>> ((12 : Int32) &&& 31))
def cm_P (us st : Nat → Int32) : Prop := (∀ q, q < 40 → ∃ s, s < 40 ∧ st q = nI s) ∧ (∀ s, s < 40 → us s = nI (cm_cn st s 40))
def cm_W (wd st yw : Nat → Int32) : Prop := ∀ q, q < 40 → ∀ s, s < 40 → st q = nI s → ∀ o, o < 8 → wd (8 * s + o) = yw (8 * q + o)
def cm_DD (wd ct op rg ad : Nat → Int32) : Prop := ∀ x, x < 320 → cm_D (wd x) (op x) (rg x) (ad x) (ct x)
def cm_M (wd ct op rg ad us st yw : Nat → Int32) : Prop := cm_P us st ∧ cm_W wd st yw ∧ cm_DD wd ct op rg ad
def cm_sv (e : Int32) : Int32 := if e &&& 1 = 0 then 16 else ((e >>> ((2 : Int32) &&& 31)) &&& 7) + (4 * (e &&& 2))
def cm_S (sha tab yw : Nat → Int32) : Prop := ∀ g, g < 3 → ∀ t, t < 64 → tab g = nI t → ∀ p, p < 8 → sha (8 * g + p) = -1 ∨ sha (8 * g + p) = cm_sv (yw (64 * g + (t + p) % 64))
/-- a page moves to another sheet -/
theorem cm_Pmove {us st : Nat → Int32} {q s0 s1 : Nat} {us' : Nat → Int32} (hq : q < 40) (b0 : s0 < 40) (b1 : s1 < 40) (h0 : st q = nI s0) (H : cm_P us st)
    (hu : ∀ s, s < 40 → us' s = nI (cm_cn st s 40 + (if s = s1 then 1 else 0) - (if s = s0 then 1 else 0))) : cm_P us' (upd st q (nI s1)) := by
  refine ⟨?_, ?_⟩
  · intro q' hq'
    by_cases e : q' = q
    · rw [e, cn_us]
      exact ⟨s1, b1, rfl⟩
    · rw [cn_un e]
      exact H.1 q' hq'
  · intro s hs
    have h := cm_upd (s := s) (s1 := s1) h0 (by omega) (by omega) (by omega) 40
    rw [hu s hs]
    refine congrArg nI ?_
    by_cases c0 : s = s0
    · by_cases c1 : s = s1
      · rw [if_pos ⟨hq, c0⟩, if_pos ⟨hq, c1⟩] at h
        rw [if_pos c0, if_pos c1]; omega
      · rw [if_pos ⟨hq, c0⟩, if_neg (fun z => c1 z.2)] at h
        rw [if_pos c0, if_neg c1]; omega
    · by_cases c1 : s = s1
      · rw [if_neg (fun z => c0 z.2), if_pos ⟨hq, c1⟩] at h
        rw [if_neg c0, if_pos c1]; omega
      · rw [if_neg (fun z => c0 z.2), if_neg (fun z => c1 z.2)] at h
        rw [if_neg c0, if_neg c1]; omega
end
section
/-! separate and write -/
section
variable {xnew : Int32} {xold : Int32} {turn : Int32} {left : Int32} {xsay : Int32} {xfail : Int32} {xwhr : Int32} {xword : Nat → Int32} {xcon : Nat → Int32} {xop : Nat → Int32} {xreg : Nat → Int32} {xadr : Nat → Int32} {xuse : Nat → Int32} {xsht : Nat → Int32} {xkep : Nat → Int32} {xsta : Nat → Int32} {xtab : Nat → Int32} {xpsw : Nat → Int32} {xpen : Nat → Int32} {xrgs : Nat → Int32} {pag : Nat → Int32} {stp : Nat → Int32} {int : Nat → Int32} {xsha : Nat → Int32} {hel : Nat → Int32} {xfro : Nat → Int32} {xbef : Nat → Int32} {xbeh : Nat → Int32} {xsai : Nat → Int64}
variable {yword : Nat → Int32}
theorem cm_x27 {q old s : Nat} {post : SX → Prop} (hq : q < 40) (ho : old < 40) (hs : s < 40) (hne : old ≠ s) (c : Nat) (hc : c < 100) (hu : xuse old = nI (c + 1))
    (h : post (xnew, xold, turn, left, xsay, xfail, xwhr, cm_cp xword (8 * s) (8 * old) 8, xcon, cm_st xop (8 * s) (-1) 8, xreg, xadr, upd (upd xuse old (nI c)) s (nI 1), upd xsht q (nI s), xkep, xsta, xtab, xpsw, xpen, xrgs, pag, stp, int, xsha, hel, xfro, xbef, xbeh, xsai)) :
    ∀ d k, k + d = 8 → wX_separate_27 post (nI q) (nI old) (nI s) xnew xold turn left xsay xfail xwhr (d + 1) (nI k) (cm_cp xword (8 * s) (8 * old) k) xcon (cm_st xop (8 * s) (-1) k) xreg xadr xuse xsht xkep xsta xtab xpsw xpen xrgs pag stp int xsha hel xfro xbef xbeh xsai := by
  have cq : (nI q).toNatClampNeg = q := nI_clamp (by omega)
  have co : (nI old).toNatClampNeg = old := nI_clamp (by omega)
  have cs : (nI s).toNatClampNeg = s := nI_clamp (by omega)
  intro d
  induction d with
  | zero =>
    intro k hk
    have hk : k = 8 := hk
    subst hk
    refine br_t (nI_le (a := 8) (b := 8) (by omega) (by omega)) ⟨cn_in ho, cn_in ho, ?_⟩
    rw [co, cs, cq, hu, pk_vb (nI (c + 1) - 1), show nI (c + 1) - 1 = nI c from nI_pred c, cn_b8 (n := c) (by omega), show vp_nar .byte 1 = nI 1 from cn_vb (n := 1) (by omega), cn_vbb (n := s) (by omega)]
    exact nm_e ⟨cn_in hs, nm_e ⟨cn_in hq, nm_e h⟩⟩
  | succ d ih =>
    intro k hk
    have i1 : (8 * nI old) + nI k = nI (8 * old + k) := by rw [cn_8, nI_add]
    have i2 : (8 * nI s) + nI k = nI (8 * s + k) := by rw [cn_8, nI_add]
    have c1 : (nI (8 * old + k)).toNatClampNeg = 8 * old + k := nI_clamp (by omega)
    have c2 : (nI (8 * s + k)).toNatClampNeg = 8 * s + k := nI_clamp (by omega)
    refine br_f (nI_ge (a := k) (b := 8) (by omega) (by omega)) ?_
    have c3 := cm_cpS (f := xword) (d := 8 * s) (s := 8 * old) (k := k) (by omega)
    rw [i1, i2, c1, c2, cn_vb1, c3, cm_stS]
    exact ⟨cn_in (by omega), cn_in (by omega), nm_e ⟨cn_in (by omega), nm_e (nm_r (nI_1 k) (ih (k + 1) (by omega)))⟩⟩
theorem cm_x9 {q old s : Nat} {post : SX → Prop} (hs : s < 40) (hl : ∀ j, j < s → ¬ xuse j ≤ 0) (hu : xuse s ≤ 0) (h : ∃ n27 : Nat, wX_separate_27 post (nI q) (nI old) (nI s) xnew xold turn left xsay xfail xwhr n27 0 xword xcon xop xreg xadr xuse xsht xkep xsta xtab xpsw xpen xrgs pag stp int xsha hel xfro xbef xbeh xsai) :
    ∀ d i, i + d = s → wX_separate_9 post (nI q) (nI old) xnew xold turn left xsay xfail xwhr xword xcon xop xreg xadr xuse xsht xkep xsta xtab xpsw xpen xrgs pag stp int xsha hel xfro xbef xbeh xsai (d + 1) (nI i) := by
  intro d
  induction d with
  | zero =>
    intro i hi
    have hi : i = s := hi
    subst hi
    have cl : (nI i).toNatClampNeg = i := nI_clamp (by omega)
    exact ⟨cn_in hs, br_t (by rw [cl]; exact hu) h⟩
  | succ d ih =>
    intro i hi
    have cl : (nI i).toNatClampNeg = i := nI_clamp (by omega)
    exact ⟨cn_in (by omega), br_f (by rw [cl]; exact hl i (by omega)) (nm_r (nI_1 i) (ih (i + 1) (by omega)))⟩
theorem cm_sep {q s0 : Nat} (hq : q < 40) (hs0 : s0 < 40) (h0 : xsht q = nI s0) (h2 : 2 ≤ cm_cn xsht s0 40) (H : cm_M xword xcon xop xreg xadr xuse xsht yword) :
    ∃ (s : Nat) (xword' : Nat → Int32) (xop' : Nat → Int32) (xuse' : Nat → Int32) (xsht' : Nat → Int32), s < 40 ∧ xsht' q = nI s ∧ cm_cn xsht' s 40 ≤ 1 ∧ cm_M xword' xcon xop' xreg xadr xuse' xsht' yword ∧
    ∀ ⦃xnew xold turn left xsay xfail xwhr : Int32⦄ ⦃xkep xsta xtab xpsw xpen xrgs pag stp int xsha hel xfro xbef xbeh : Nat → Int32⦄ ⦃xsai : Nat → Int64⦄ (post : SX → Prop), post (xnew, xold, turn, left, xsay, xfail, xwhr, xword', xcon, xop', xreg, xadr, xuse', xsht', xkep, xsta, xtab, xpsw, xpen, xrgs, pag, stp, int, xsha, hel, xfro, xbef, xbeh, xsai) → wpX_separate post (xnew, xold, turn, left, xsay, xfail, xwhr, xword, xcon, xop, xreg, xadr, xuse, xsht, xkep, xsta, xtab, xpsw, xpen, xrgs, pag, stp, int, xsha, hel, xfro, xbef, xbeh, xsai) (nI q) := by
  obtain ⟨hP, hW, hD⟩ := H
  obtain ⟨s, ⟨hs, hz⟩, hlow⟩ := cm_free hP.1 hs0 h2
  have hne : s0 ≠ s := by
    intro e
    rw [e, hz] at h2
    omega
  have hle := cm_le xsht s0 40
  have hnos : ∀ q', q' < 40 → ¬ xsht q' = nI s := by
    intro q' hq' e
    have := cm_pos hq' e
    omega
  obtain ⟨c, hc⟩ : ∃ c, cm_cn xsht s0 40 = c + 1 := ⟨cm_cn xsht s0 40 - 1, by omega⟩
  have hP' : cm_P (upd (upd xuse s0 (nI c)) s (nI 1)) (upd xsht q (nI s)) := by
    refine cm_Pmove hq hs0 hs h0 hP ?_
    intro s' hs'
    by_cases e1 : s' = s
    · rw [e1, cn_us, if_pos rfl, if_neg (Ne.symm hne), hz]
    · rw [cn_un e1, if_neg e1]
      by_cases e0 : s' = s0
      · rw [e0, cn_us, if_pos rfl, hc]
        exact congrArg nI (by omega)
      · rw [cn_un e0, if_neg e0, hP.2 s' hs']
        exact congrArg nI (by omega)
  refine ⟨s, cm_cp xword (8 * s) (8 * s0) 8, cm_st xop (8 * s) (-1) 8, upd (upd xuse s0 (nI c)) s (nI 1), upd xsht q (nI s), hs, cn_us, ?_, ⟨hP', ?_, ?_⟩, ?_⟩
  · have h := cm_upd (s := s) (s1 := s) h0 (by omega) (by omega) (by omega) 40
    rw [if_neg (fun z => hne z.2.symm), if_pos ⟨hq, rfl⟩, hz] at h
    omega
  · intro q' hq' s' hs' e o ho
    by_cases c : q' = q
    · subst c
      rw [cn_us] at e
      have := cn_inj e (by omega) (by omega)
      subst this
      rw [cm_cpI ho]
      exact hW q' hq s0 hs0 h0 o ho
    · rw [cn_un c] at e
      have ns : s' ≠ s := fun z => hnos q' hq' (z ▸ e)
      rw [cm_cpO (by omega)]
      exact hW q' hq' s' hs' e o ho
  · intro x hx
    by_cases c : 8 * s ≤ x ∧ x < 8 * s + 8
    · exact Or.inl (cm_stI c)
    · rw [cm_cpO c, cm_stO c]
      exact hD x hx
  · intro xnew xold turn left xsay xfail xwhr xkep xsta xtab xpsw xpen xrgs pag stp int xsha hel xfro xbef xbeh xsai post h
    have cq : (nI q).toNatClampNeg = q := nI_clamp (by omega)
    unfold wpX_separate
    dsimp only
    refine ⟨cn_in hq, nm_r (e' := nI s0) (by rw [cq]; exact h0) ⟨s + 1, cm_x9 hs ?_ ?_ ⟨9, ?_⟩ s 0 (by omega)⟩⟩
    · intro j hj
      rw [hP.2 j (by omega)]
      have h1 := cm_le xsht j 40
      have h2 : ¬ cm_cn xsht j 40 = 0 := fun z => hlow j hj ⟨by omega, z⟩
      exact nI_nle (by omega) (by omega)
    · rw [hP.2 s hs, hz]
      decide
    · have := cm_x27 hq hs0 hs hne c (by omega) ((hP.2 s0 hs0).trans (congrArg nI hc)) h 8 0 rfl
      rw [cm_cp0, cm_st0] at this
      exact this
theorem cm_at {g a s : Nat} {post : Int32 → Prop} (hg : g < 5) (ha : a < 64) (hs : s < 40) (e : xsht (8 * g + a / 8) = nI s) (h : post (nI (8 * s + a % 8))) : wpX_at post (xnew, xold, turn, left, xsay, xfail, xwhr, xword, xcon, xop, xreg, xadr, xuse, xsht, xkep, xsta, xtab, xpsw, xpen, xrgs, pag, stp, int, xsha, hel, xfro, xbef, xbeh, xsai) (nI g) (nI a) := by
  have cq : (nI (8 * g + a / 8)).toNatClampNeg = 8 * g + a / 8 := nI_clamp (by omega)
  unfold wpX_at
  dsimp only
  rw [cn_pg g (by omega), cq, e, cn_8, cn_a7 (by omega), nI_add]
  exact ⟨cn_in (by omega), h⟩
theorem cm_x45 {g a s e : Nat} {w : Int32} {post : SX → Prop} (hg : g < 3) (ha : a < 64) (hs : s < 40) (he : e < 64) (hsh : xsht (8 * g + a / 8) = nI s)
    (h8 : 8 ≤ e → post (xnew, xold, turn, left, xsay, xfail, xwhr, upd xword (8 * s + a % 8) w, xcon, upd xop (8 * s + a % 8) (-1), xreg, xadr, xuse, xsht, xkep, xsta, xtab, xpsw, xpen, xrgs, pag, stp, int, xsha, hel, xfro, xbef, xbeh, xsai))
    (h7 : e < 8 → post (xnew, xold, turn, left, xsay, xfail, xwhr, upd xword (8 * s + a % 8) w, xcon, upd xop (8 * s + a % 8) (-1), xreg, xadr, xuse, xsht, xkep, xsta, xtab, xpsw, xpen, xrgs, pag, stp, int, upd xsha (8 * g + e) (-1), hel, xfro, xbef, xbeh, xsai)) : wX_write_45 post (nI g) (nI a) w (nI e) xnew xold turn left xsay xfail xwhr xword xcon xop xreg xadr xuse xsht xkep xsta xtab xpsw xpen xrgs pag stp int xsha hel xfro xbef xbeh xsai := by
  have cx : (nI (8 * s + a % 8)).toNatClampNeg = 8 * s + a % 8 := nI_clamp (by omega)
  have ce : (nI (8 * g + e)).toNatClampNeg = 8 * g + e := nI_clamp (by omega)
  unfold wX_write_45
  refine cm_at (by omega) ha hs hsh ?_
  rw [cx, cn_vb1, cn_8, nI_add, ce]
  refine ⟨cn_in (by omega), nm_e ⟨cn_in (by omega), nm_e ?_⟩⟩
  exact pk_le 8 e h8 (fun z => ⟨cn_in (by omega), nm_e (h7 z)⟩)
theorem cm_write {g a t : Nat} (w : Int32) (hg : g < 3) (ha : a < 64) (ht : t < 64) (et : xtab g = nI t) (H : cm_M xword xcon xop xreg xadr xuse xsht yword) (S : cm_S xsha xtab yword) :
    ∃ (xword' : Nat → Int32) (xop' : Nat → Int32) (xuse' : Nat → Int32) (xsht' : Nat → Int32) (xsha' : Nat → Int32), cm_M xword' xcon xop' xreg xadr xuse' xsht' (upd yword (64 * g + a) w) ∧ cm_S xsha' xtab (upd yword (64 * g + a) w) ∧
    ∀ ⦃xnew xold turn left xsay xfail xwhr : Int32⦄ ⦃xkep xsta xpsw xpen xrgs pag stp int hel xfro xbef xbeh : Nat → Int32⦄ ⦃xsai : Nat → Int64⦄ (post : SX → Prop), post (xnew, xold, turn, left, xsay, xfail, xwhr, xword', xcon, xop', xreg, xadr, xuse', xsht', xkep, xsta, xtab, xpsw, xpen, xrgs, pag, stp, int, xsha', hel, xfro, xbef, xbeh, xsai) → wpX_write post (xnew, xold, turn, left, xsay, xfail, xwhr, xword, xcon, xop, xreg, xadr, xuse, xsht, xkep, xsta, xtab, xpsw, xpen, xrgs, pag, stp, int, xsha, hel, xfro, xbef, xbeh, xsai) (nI g) (nI a) w := by
  obtain ⟨s0, hs0, e0⟩ := H.1.1 (8 * g + a / 8) (by omega)
  have cg : (nI g).toNatClampNeg = g := nI_clamp (by omega)
  have cq : (nI (8 * g + a / 8)).toNatClampNeg = 8 * g + a / 8 := nI_clamp (by omega)
  have c0 : (nI s0).toNatClampNeg = s0 := nI_clamp (by omega)
  have hcn := cm_le xsht s0 40
  obtain ⟨e, he, hee⟩ : ∃ e, e < 64 ∧ e = (a + 64 - t) % 64 := ⟨_, Nat.mod_lt _ (by decide), rfl⟩
  -- the page has a sheet of its own
  have main : ∃ (s : Nat) (xword' : Nat → Int32) (xop' : Nat → Int32) (xuse' : Nat → Int32) (xsht' : Nat → Int32), s < 40 ∧ xsht' (8 * g + a / 8) = nI s ∧ cm_cn xsht' s 40 ≤ 1 ∧ cm_M xword' xcon xop' xreg xadr xuse' xsht' yword ∧
      ∀ ⦃xnew xold turn left xsay xfail xwhr : Int32⦄ ⦃xkep xsta xpsw xpen xrgs pag stp int hel xfro xbef xbeh : Nat → Int32⦄ ⦃xsai : Nat → Int64⦄ (post : SX → Prop), wX_write_45 post (nI g) (nI a) w (nI e) xnew xold turn left xsay xfail xwhr xword' xcon xop' xreg xadr xuse' xsht' xkep xsta xtab xpsw xpen xrgs pag stp int xsha hel xfro xbef xbeh xsai → wpX_write post (xnew, xold, turn, left, xsay, xfail, xwhr, xword, xcon, xop, xreg, xadr, xuse, xsht, xkep, xsta, xtab, xpsw, xpen, xrgs, pag, stp, int, xsha, hel, xfro, xbef, xbeh, xsai) (nI g) (nI a) w := by
    by_cases c : cm_cn xsht s0 40 ≤ 1
    · refine ⟨s0, xword, xop, xuse, xsht, hs0, e0, c, H, fun xnew xold turn left xsay xfail xwhr xkep xsta xpsw xpen xrgs pag stp int hel xfro xbef xbeh xsai post h => ?_⟩
      unfold wpX_write
      dsimp only
      refine nm_r (cn_pg g (by omega)) ⟨cn_in hg, nm_r (e' := nI e) (by rw [cg, et, cn_ent ha ht, hee]) ⟨cn_in (by omega), ?_⟩⟩
      rw [cq, e0, c0, H.1.2 s0 hs0]
      exact ⟨cn_in hs0, pk_le (cm_cn xsht s0 40) 1 (fun _ => h) (fun z => absurd c (by omega))⟩
    · obtain ⟨s, w1, o1, u1, t1, hs, es, hc, hM, hX⟩ := cm_sep (q := 8 * g + a / 8) (by omega) hs0 e0 (by omega) H
      refine ⟨s, w1, o1, u1, t1, hs, es, hc, hM, fun xnew xold turn left xsay xfail xwhr xkep xsta xpsw xpen xrgs pag stp int hel xfro xbef xbeh xsai post h => ?_⟩
      unfold wpX_write
      dsimp only
      refine nm_r (cn_pg g (by omega)) ⟨cn_in hg, nm_r (e' := nI e) (by rw [cg, et, cn_ent ha ht, hee]) ⟨cn_in (by omega), ?_⟩⟩
      rw [cq, e0, c0, H.1.2 s0 hs0]
      exact ⟨cn_in hs0, pk_le (cm_cn xsht s0 40) 1 (fun z => absurd z c) (fun _ => hX _ h)⟩
  obtain ⟨s, w1, o1, u1, t1, hs, es, hc, ⟨hP, hW, hD⟩, hX⟩ := main
  have hM : cm_M (upd w1 (8 * s + a % 8) w) xcon (upd o1 (8 * s + a % 8) (-1)) xreg xadr u1 t1 (upd yword (64 * g + a) w) := by
    refine ⟨hP, ?_, ?_⟩
    · intro q hq s' hs' e' o ho
      by_cases c : 8 * s' + o = 8 * s + a % 8
      · have ss : s' = s := by omega
        subst ss
        have qq := cm_one (q := 8 * g + a / 8) (q' := q) (by omega) hq es e' hc
        have ii : 8 * q + o = 64 * g + a := by omega
        rw [c, ii, cn_us, cn_us]
      · have nn : 8 * q + o ≠ 64 * g + a := by
          intro z
          have qq : q = 8 * g + a / 8 := by omega
          rw [qq] at e'
          have := cn_inj (es.symm.trans e') (by omega) (by omega)
          omega
        rw [cn_un c, cn_un nn]
        exact hW q hq s' hs' e' o ho
    · intro x hx
      by_cases c : x = 8 * s + a % 8
      · subst c
        exact Or.inl cn_us
      · rw [cn_un c, cn_un c]
        exact hD x hx
  by_cases h8 : 8 ≤ e
  · refine ⟨upd w1 (8 * s + a % 8) w, upd o1 (8 * s + a % 8) (-1), u1, t1, xsha, hM, ?_, fun xnew xold turn left xsay xfail xwhr xkep xsta xpsw xpen xrgs pag stp int hel xfro xbef xbeh xsai post h => hX post (cm_x45 hg ha hs he es (fun _ => h) (fun z => absurd h8 (by omega)))⟩
    intro g' hg' t' ht' et' p hp
    rw [cn_un]
    · exact S g' hg' t' ht' et' p hp
    · intro z
      have gg : g' = g := by omega
      subst gg
      have tt : t' = t := cn_inj (et'.symm.trans et) (by omega) (by omega)
      omega
  · refine ⟨upd w1 (8 * s + a % 8) w, upd o1 (8 * s + a % 8) (-1), u1, t1, upd xsha (8 * g + e) (-1), hM, ?_, fun xnew xold turn left xsay xfail xwhr xkep xsta xpsw xpen xrgs pag stp int hel xfro xbef xbeh xsai post h => hX post (cm_x45 hg ha hs he es (fun z => absurd z h8) (fun _ => h))⟩
    intro g' hg' t' ht' et' p hp
    by_cases c : 8 * g' + p = 8 * g + e
    · rw [c, cn_us]
      exact Or.inl rfl
    · rw [cn_un c, cn_un]
      · exact S g' hg' t' ht' et' p hp
      · intro z
        have gg : g' = g := by omega
        subst gg
        have tt : t' = t := cn_inj (et'.symm.trans et) (by omega) (by omega)
        omega
end
end
section
/-! vacate and clearFrames -/
def cv_h (hel : Nat → Int32) (g : Nat) : Nat → Nat → Int32
  | 0 => hel
  | k + 1 => fun j => if j < 6 ∧ cv_h hel g k j = nI (8 * g + k) then -1 else cv_h hel g k j
theorem cv_A {hel : Nat → Int32} {g k : Nat} (h : ∀ j, j < 6 → ¬ cv_h hel g k j = nI (8 * g + k)) : cv_h hel g (k + 1) = cv_h hel g k :=
  funext fun j => if_neg (fun z => h j z.1 z.2)
theorem cv_B {hel : Nat → Int32} {g k f : Nat} (hf : f < 6) (e : cv_h hel g k f = nI (8 * g + k)) (u : ∀ j, j < 6 → cv_h hel g k j = nI (8 * g + k) → j = f) : upd (cv_h hel g k) f (-1) = cv_h hel g (k + 1) := by
  funext j
  by_cases c : j = f
  · rw [c, cn_us]
    exact (if_pos ⟨hf, e⟩).symm
  · rw [cn_un c]
    exact (if_neg (fun z => c (u j z.1 z.2))).symm
theorem cv_big {hel : Nat → Int32} {g j : Nat} (hj : ¬ j < 6) : ∀ k, cv_h hel g k j = hel j := by
  intro k
  induction k with
  | zero => rfl
  | succ k ih =>
    have e : cv_h hel g (k + 1) j = cv_h hel g k j := if_neg (fun z => hj z.1)
    rw [e, ih]
theorem cv_neg {hel : Nat → Int32} {g j : Nat} (hg : g < 3) (hj : hel j = -1) : ∀ k, k ≤ 8 → cv_h hel g k j = -1 := by
  intro k
  induction k with
  | zero => intro _; exact hj
  | succ k ih =>
    intro hk
    have ih := ih (by omega)
    have e : cv_h hel g (k + 1) j = cv_h hel g k j := if_neg (fun z => cn_neq1 (n := 8 * g + k) (by omega) (z.2.symm.trans ih))
    rw [e, ih]
theorem cv_val {hel : Nat → Int32} {g j q : Nat} (hg : g < 3) (h6 : j < 6) (hq : q < 24) (hj : hel j = nI q) : ∀ k, k ≤ 8 → cv_h hel g k j = if 8 * g ≤ q ∧ q < 8 * g + k then -1 else nI q := by
  intro k
  induction k with
  | zero =>
    intro _
    rw [if_neg (by omega)]
    exact hj
  | succ k ih =>
    intro hk
    have ih := ih (by omega)
    by_cases c : 8 * g ≤ q ∧ q < 8 * g + k
    · rw [if_pos c] at ih
      have e : cv_h hel g (k + 1) j = cv_h hel g k j := if_neg (fun z => cn_neq1 (n := 8 * g + k) (by omega) (z.2.symm.trans ih))
      rw [e, ih, if_pos (by omega)]
    · rw [if_neg c] at ih
      by_cases c2 : q = 8 * g + k
      · have e : cv_h hel g (k + 1) j = -1 := if_pos ⟨h6, ih.trans (congrArg nI c2)⟩
        rw [e, if_pos (by omega)]
      · have e : cv_h hel g (k + 1) j = cv_h hel g k j := if_neg (fun z => c2 (cn_inj (ih.symm.trans z.2) (by omega) (by omega)))
        rw [e, ih, if_neg (by omega)]
def cy_h (hel : Nat → Int32) (g i : Nat) : Nat → Int32 := fun j => if j < i ∧ 0 ≤ hel j ∧ hel j / 8 = nI g then -1 else hel j
theorem cy_0 {hel : Nat → Int32} {g : Nat} : cy_h hel g 0 = hel := funext fun j => if_neg (fun z => absurd z.1 (Nat.not_lt_zero _))
theorem cy_i {hel : Nat → Int32} {g i : Nat} : cy_h hel g i i = hel i := if_neg (fun z => absurd z.1 (Nat.lt_irrefl _))
theorem cy_A {hel : Nat → Int32} {g i : Nat} (h : ¬ (0 ≤ hel i ∧ hel i / 8 = nI g)) : cy_h hel g (i + 1) = cy_h hel g i := by
  funext j
  unfold cy_h
  by_cases c : j < i ∧ 0 ≤ hel j ∧ hel j / 8 = nI g
  · rw [if_pos c, if_pos ⟨by omega, c.2⟩]
  · rw [if_neg c, if_neg]
    intro z
    by_cases e : j = i
    · exact h (e ▸ z.2)
    · exact c ⟨by omega, z.2⟩
theorem cy_B {hel : Nat → Int32} {g i : Nat} (h : 0 ≤ hel i ∧ hel i / 8 = nI g) : upd (cy_h hel g i) i (-1) = cy_h hel g (i + 1) := by
  funext j
  by_cases e : j = i
  · rw [e, cn_us]
    exact (if_pos ⟨Nat.lt_succ_self _, h⟩).symm
  · rw [cn_un e]
    unfold cy_h
    by_cases c : j < i ∧ 0 ≤ hel j ∧ hel j / 8 = nI g
    · rw [if_pos c, if_pos ⟨by omega, c.2⟩]
    · rw [if_neg c, if_neg]
      intro z
      exact c ⟨by omega, z.2⟩
theorem cy_cv {hel fro : Nat → Int32} {g : Nat} {L : List Nat} (hg : g < 3) (H : cf_HF hel fro L) : cy_h hel g 6 = cv_h hel g 8 := by
  funext j
  by_cases h6 : j < 6
  · by_cases m : j ∈ L
    · obtain ⟨_, q, hq, e, _⟩ := H.2.1 j m
      rw [cv_val hg h6 hq e 8 (Nat.le_refl _)]
      unfold cy_h
      rw [e, cn_div8 (by omega)]
      by_cases c : 8 * g ≤ q ∧ q < 8 * g + 8
      · rw [if_pos c, if_pos ⟨h6, cn_ge0 (by omega), congrArg nI (by omega)⟩]
      · rw [if_neg c, if_neg]
        intro z
        have := cn_inj z.2.2 (by omega) (by omega)
        omega
    · have e := H.1 j h6 m
      rw [cv_neg hg e 8 (Nat.le_refl _)]
      unfold cy_h
      rw [e, if_neg (fun z => cn_01 z.2.1)]
  · rw [cv_big h6]
    exact if_neg (fun z => h6 z.1)
section
variable {xnew : Int32} {xold : Int32} {turn : Int32} {left : Int32} {xsay : Int32} {xfail : Int32} {xwhr : Int32} {xword : Nat → Int32} {xcon : Nat → Int32} {xop : Nat → Int32} {xreg : Nat → Int32} {xadr : Nat → Int32} {xuse : Nat → Int32} {xsht : Nat → Int32} {xkep : Nat → Int32} {xsta : Nat → Int32} {xtab : Nat → Int32} {xpsw : Nat → Int32} {xpen : Nat → Int32} {xrgs : Nat → Int32} {pag : Nat → Int32} {stp : Nat → Int32} {int : Nat → Int32} {xsha : Nat → Int32} {hel : Nat → Int32} {xfro : Nat → Int32} {xbef : Nat → Int32} {xbeh : Nat → Int32} {xsai : Nat → Int64}
variable {ynow : Int64} {yword : Nat → Int32} {yrgs : Nat → Int32} {ypsw : Nat → Int32} {ytab : Nat → Int32} {ypen : Nat → Int32} {ysta : Nat → Int32} {ykep : Nat → Int32} {yusd : Nat → Int64} {ytal : Nat → Int64}
theorem cv_x60 {g : Nat} {post : SX → Prop} (hg : g < 3) (h : post (xnew, xold, turn, left, xsay, xfail, xwhr, xword, xcon, xop, xreg, xadr, xuse, xsht, xkep, xsta, xtab, xpsw, xpen, xrgs, pag, stp, int, cm_st xsha (8 * g) (-1) 8, hel, xfro, xbef, xbeh, xsai)) :
    ∀ d k, k + d = 8 → wX_vacate_60 post (nI g) xnew xold turn left xsay xfail xwhr (d + 1) (nI (8 * g + k)) xword xcon xop xreg xadr xuse xsht xkep xsta xtab xpsw xpen xrgs pag stp int (cm_st xsha (8 * g) (-1) k) hel xfro xbef xbeh xsai := by
  have e8 : (8 * nI g) + 8 = nI (8 * g + 8) := by rw [cn_8]; exact nI_add _ 8
  intro d
  induction d with
  | zero =>
    intro k hk
    have hk : k = 8 := hk
    subst hk
    exact br_t (by rw [e8]; exact Int32.le_refl _) h
  | succ d ih =>
    intro k hk
    have ck : (nI (8 * g + k)).toNatClampNeg = 8 * g + k := nI_clamp (by omega)
    refine br_f (by rw [e8]; exact nI_ge (by omega) (by omega)) ⟨cn_in (by omega), ?_⟩
    exact nm_r (e' := cm_st xsha (8 * g) (-1) (k + 1)) (by rw [ck, cn_vb1, cm_stS]) (nm_r (nI_1 _) (ih (k + 1) (by omega)))
theorem cv_x5 {g N : Nat} (hg : g < 3) (hel0 : Nat → Int32) : ∀ d k, k + d = 8 → ∀ (xnew : Int32) (xold : Int32) (xfro : Nat → Int32) (xbef : Nat → Int32) (xbeh : Nat → Int32), cf_F xnew xold (cv_h hel0 g k) xfro xbef xbeh yusd N →
    ∃ (xnew' : Int32) (xold' : Int32) (xfro' : Nat → Int32) (xbef' : Nat → Int32) (xbeh' : Nat → Int32), cf_F xnew' xold' (cv_h hel0 g 8) xfro' xbef' xbeh' yusd N ∧
    ∀ ⦃turn left xsay xfail xwhr : Int32⦄ ⦃xword xcon xop xreg xadr xuse xsht xkep xsta xtab xpsw xpen xrgs pag stp int xsha : Nat → Int32⦄ ⦃xsai : Nat → Int64⦄ (post : SX → Prop), (∃ n60 : Nat, wX_vacate_60 post (nI g) xnew' xold' turn left xsay xfail xwhr n60 (nI (8 * g)) xword xcon xop xreg xadr xuse xsht xkep xsta xtab xpsw xpen xrgs pag stp int xsha (cv_h hel0 g 8) xfro' xbef' xbeh' xsai) → wX_vacate_5 post (nI g) (d + 1) (nI (8 * g + k)) xnew xold turn left xsay xfail xwhr xword xcon xop xreg xadr xuse xsht xkep xsta xtab xpsw xpen xrgs pag stp int xsha (cv_h hel0 g k) xfro xbef xbeh xsai := by
  have e8 : (8 * nI g) + 8 = nI (8 * g + 8) := by rw [cn_8]; exact nI_add _ 8
  intro d
  induction d with
  | zero =>
    intro k hk xnew xold xfro xbef xbeh H
    have hk : k = 8 := hk
    subst hk
    exact ⟨xnew, xold, xfro, xbef, xbeh, H, fun turn left xsay xfail xwhr xword xcon xop xreg xadr xuse xsht xkep xsta xtab xpsw xpen xrgs pag stp int xsha xsai post h => br_t (by rw [e8]; exact Int32.le_refl _) (nm_r (cn_8 g) h)⟩
  | succ d ih =>
    intro k hk xnew xold xfro xbef xbeh H
    obtain ⟨L, hn, hK, hH, hA⟩ := H
    have hq : 8 * g + k < 24 := by omega
    have ck : (nI (8 * g + k)).toNatClampNeg = 8 * g + k := nI_clamp (by omega)
    have nle : ¬ (8 * nI g) + 8 ≤ nI (8 * g + k) := by rw [e8]; exact nI_ge (by omega) (by omega)
    have hpage : ∀ f, f < 6 → cv_h hel0 g k f = nI (8 * g + k) → f ∈ L ∧ xfro (8 * g + k) = nI f := by
      intro f hf e
      by_cases m : f ∈ L
      · obtain ⟨_, q, hq1, e1, e2⟩ := hH.2.1 f m
        have : q = 8 * g + k := cn_inj (e1.symm.trans e) (by omega) (by omega)
        exact ⟨m, this ▸ e2⟩
      · exact absurd (e.symm.trans (hH.1 f hf m)) (cn_neq1 (by omega))
    rcases hH.2.2 _ hq with e | ⟨f, hf, e1, e2⟩
    · have hc : cv_h hel0 g (k + 1) = cv_h hel0 g k := cv_A (fun j hj z => cn_neq1 (by omega) ((hpage j hj z).2.symm.trans e))
      have H' : cf_F xnew xold (cv_h hel0 g (k + 1)) xfro xbef xbeh yusd N := by
        rw [hc]
        exact ⟨L, hn, hK, hH, hA⟩
      obtain ⟨n1, o1, f1, b1, h1, hF, hX⟩ := ih (k + 1) (by omega) xnew xold xfro xbef xbeh H'
      refine ⟨n1, o1, f1, b1, h1, hF, fun turn left xsay xfail xwhr xword xcon xop xreg xadr xuse xsht xkep xsta xtab xpsw xpen xrgs pag stp int xsha xsai post h => ?_⟩
      have hX := hX post h
      rw [hc] at hX
      exact br_f nle ⟨cn_in hq, nm_r (e' := -1) (by rw [ck]; exact e) (br_f cn_01 (nm_r (nI_1 _) hX))⟩
    · have hf6 := (hH.2.1 f hf).1
      have cf : (nI f).toNatClampNeg = f := nI_clamp (by omega)
      have h6 : ∀ a, a ∈ L → a < 6 := fun a ha => (hH.2.1 a ha).1
      obtain ⟨l1, l2, hL⟩ := List.append_of_mem hf
      subst hL
      have dn := cf_nd hn
      have hsub : List.Sublist (l1 ++ l2) (l1 ++ f :: l2) := List.Sublist.append_left (List.sublist_cons_self _ _) _
      have hc : upd (cv_h hel0 g k) f (-1) = cv_h hel0 g (k + 1) := cv_B hf6 e2 (fun j hj z => cn_inj ((hpage j hj z).2.symm.trans e1) (by omega) (by omega))
      obtain ⟨n2, o2, b2, h2, hK2, hto⟩ := cf_xout hn h6 hK
      have H' : cf_F n2 o2 (cv_h hel0 g (k + 1)) (upd xfro (8 * g + k) (-1)) b2 h2 yusd N := by
        refine ⟨l1 ++ l2, hn.sublist hsub, hK2, ?_, cf_AG_sub hsub hA⟩
        rw [← hc]
        refine cf_HF_drop hf ?_ hq e2 hH
        intro x
        constructor
        · intro hx
          rcases List.mem_append.mp hx with h | h
          · exact ⟨List.mem_append_left _ h, fun z => dn.1 (z ▸ h)⟩
          · exact ⟨List.mem_append_right _ (List.mem_cons_of_mem f h), fun z => dn.2.1 (z ▸ h)⟩
        · intro hx
          rcases List.mem_append.mp hx.1 with h | h
          · exact List.mem_append_left _ h
          · rcases List.mem_cons.mp h with h | h
            · exact absurd h hx.2
            · exact List.mem_append_right _ h
      obtain ⟨n1, o1, f1, b1, h1, hF, hX⟩ := ih (k + 1) (by omega) _ _ _ _ _ H'
      refine ⟨n1, o1, f1, b1, h1, hF, fun turn left xsay xfail xwhr xword xcon xop xreg xadr xuse xsht xkep xsta xtab xpsw xpen xrgs pag stp int xsha xsai post h => ?_⟩
      have hX := hX post h
      refine br_f nle ⟨cn_in hq, nm_r (e' := nI f) (by rw [ck]; exact e1) (br_t (cn_ge0 (by omega)) (hto _ (And.intro (cn_in hf6) ?_)))⟩
      refine nm_r (e' := cv_h hel0 g (k + 1)) (by rw [cf, cn_vb1]; exact hc) (And.intro (cn_in hq) ?_)
      exact nm_r (e' := upd xfro (8 * g + k) (-1)) (by rw [ck, cn_vb1]) (nm_r (nI_1 _) hX)
theorem cv_vacate {g N : Nat} (hg : g < 3) (H : cf_F xnew xold hel xfro xbef xbeh yusd N) :
    ∃ (xnew' : Int32) (xold' : Int32) (xfro' : Nat → Int32) (xbef' : Nat → Int32) (xbeh' : Nat → Int32), cf_F xnew' xold' (cv_h hel g 8) xfro' xbef' xbeh' yusd N ∧
    ∀ ⦃turn left xsay xfail xwhr : Int32⦄ ⦃xword xcon xop xreg xadr xuse xsht xkep xsta xtab xpsw xpen xrgs pag stp int xsha : Nat → Int32⦄ ⦃xsai : Nat → Int64⦄ (post : SX → Prop), post (xnew', xold', turn, left, xsay, xfail, xwhr, xword, xcon, xop, xreg, xadr, xuse, xsht, xkep, xsta, xtab, xpsw, xpen, xrgs, pag, stp, int, cm_st xsha (8 * g) (-1) 8, cv_h hel g 8, xfro', xbef', xbeh', xsai) → wpX_vacate post (xnew, xold, turn, left, xsay, xfail, xwhr, xword, xcon, xop, xreg, xadr, xuse, xsht, xkep, xsta, xtab, xpsw, xpen, xrgs, pag, stp, int, xsha, hel, xfro, xbef, xbeh, xsai) (nI g) := by
  obtain ⟨n1, o1, f1, b1, h1, hF, hX⟩ := cv_x5 hg hel 8 0 rfl xnew xold xfro xbef xbeh H
  refine ⟨n1, o1, f1, b1, h1, hF, fun turn left xsay xfail xwhr xword xcon xop xreg xadr xuse xsht xkep xsta xtab xpsw xpen xrgs pag stp int xsha xsai post h => ?_⟩
  unfold wpX_vacate
  dsimp only
  refine nm_r (cn_8 g) ⟨9, hX post ⟨9, ?_⟩⟩
  have h9 := cv_x60 hg h 8 0 rfl
  rw [cm_st0] at h9
  exact h9
theorem cv_y2 {g : Nat} {post : SY → Prop} (h : post (ynow, turn, left, yword, yrgs, ypsw, ytab, ypen, ysta, ykep, pag, stp, int, cy_h hel g 6, yusd, ytal)) : ∀ d i, i + d = 6 → wY_clearFrames_2 post (nI g) ynow turn left (d + 1) (nI i) yword yrgs ypsw ytab ypen ysta ykep pag stp int (cy_h hel g i) yusd ytal := by
  intro d
  induction d with
  | zero =>
    intro i hi
    have hi : i = 6 := hi
    subst hi
    exact br_t (nI_le (a := 6) (b := 6) (by omega) (by omega)) h
  | succ d ih =>
    intro i hi
    have ci : (nI i).toNatClampNeg = i := nI_clamp (by omega)
    have h6 : i < 6 := by omega
    have hW := ih (i + 1) (by omega)
    refine br_f (nI_ge (a := i) (b := 6) h6 (by omega)) ⟨cn_in h6, ?_⟩
    rw [ci, cy_i]
    by_cases c : hel i < 0
    · rw [cy_A (fun z => Int32.not_lt.mpr z.1 c)] at hW
      exact br_t c (nm_r (nI_1 i) hW)
    · refine br_f c ⟨cn_in h6, by decide, ?_⟩
      by_cases c2 : hel i / 8 = nI g
      · rw [← cy_B ⟨Int32.not_lt.mp c, c2⟩] at hW
        exact br_t c2 ⟨cn_in h6, nm_e (nm_r (nI_1 i) hW)⟩
      · rw [cy_A (fun z => c2 z.2)] at hW
        exact br_f c2 (nm_r (nI_1 i) hW)
theorem cv_clear {g N : Nat} {post : SY → Prop} (hg : g < 3) (H : cf_F xnew xold hel xfro xbef xbeh yusd N) (h : post (ynow, turn, left, yword, yrgs, ypsw, ytab, ypen, ysta, ykep, pag, stp, int, cv_h hel g 8, yusd, ytal)) : wpY_clearFrames post (ynow, turn, left, yword, yrgs, ypsw, ytab, ypen, ysta, ykep, pag, stp, int, hel, yusd, ytal) (nI g) := by
  obtain ⟨L, _, _, hH, _⟩ := H
  rw [← cy_cv hg hH] at h
  unfold wpY_clearFrames
  dsimp only
  have h9 := cv_y2 h 6 0 rfl
  rw [cy_0] at h9
  exact ⟨7, h9⟩
end
end
section
/-! share and become -/
theorem cm_Pshare {us st : Nat → Int32} {q s0 s1 c0 c1 : Nat} (hq : q < 40) (b0 : s0 < 40) (b1 : s1 < 40) (h0 : st q = nI s0) (H : cm_P us st) (e0 : cm_cn st s0 40 = c0 + 1)
    (e1 : upd us s0 (nI c0) s1 = nI c1) (l1 : c1 < 100) : cm_P (upd (upd us s0 (nI c0)) s1 (nI (c1 + 1))) (upd st q (nI s1)) := by
  refine cm_Pmove hq b0 b1 h0 H ?_
  intro s hs
  have hle := cm_le st s 40
  by_cases x1 : s = s1
  · rw [x1, cn_us, if_pos rfl]
    by_cases x0 : s1 = s0
    · rw [x0, cn_us] at e1
      have hle := cm_le st s0 40
      have := cn_inj e1 (by omega) (by omega)
      rw [if_pos x0, x0, e0]
      exact congrArg nI (by omega)
    · rw [cn_un x0, H.2 s1 b1] at e1
      have hle := cm_le st s1 40
      have := cn_inj e1 (by omega) (by omega)
      rw [if_neg x0]
      exact congrArg nI (by omega)
  · rw [cn_un x1, if_neg x1]
    by_cases x0 : s = s0
    · rw [x0, cn_us, if_pos rfl, e0]
      exact congrArg nI (by omega)
    · rw [cn_un x0, if_neg x0, H.2 s hs]
      exact congrArg nI (by omega)
theorem cm_Wshare {wd st yw : Nat → Int32} {fr to : Nat} (hf : fr < 5) (ht : to < 5) (W : cm_W wd st yw) : cm_W wd (cm_cp st (8 * to) (8 * fr) 8) (cm_cp yw (64 * to) (64 * fr) 64) := by
  intro q hq s hs e o ho
  by_cases c : 8 * to ≤ q ∧ q < 8 * to + 8
  · obtain ⟨p, hp⟩ : ∃ p, q = 8 * to + p := ⟨q - 8 * to, by omega⟩
    subst hp
    rw [cm_cpI (by omega)] at e
    have i1 : 8 * (8 * to + p) + o = 64 * to + (8 * p + o) := by omega
    have i2 : 8 * (8 * fr + p) + o = 64 * fr + (8 * p + o) := by omega
    rw [i1, cm_cpI (by omega), ← i2]
    exact W (8 * fr + p) (by omega) s hs e o ho
  · rw [cm_cpO c] at e
    rw [cm_cpO (by omega)]
    exact W q hq s hs e o ho
section
variable {xnew : Int32} {xold : Int32} {turn : Int32} {left : Int32} {xsay : Int32} {xfail : Int32} {xwhr : Int32} {xword : Nat → Int32} {xcon : Nat → Int32} {xop : Nat → Int32} {xreg : Nat → Int32} {xadr : Nat → Int32} {xuse : Nat → Int32} {xsht : Nat → Int32} {xkep : Nat → Int32} {xsta : Nat → Int32} {xtab : Nat → Int32} {xpsw : Nat → Int32} {xpen : Nat → Int32} {xrgs : Nat → Int32} {pag : Nat → Int32} {stp : Nat → Int32} {int : Nat → Int32} {xsha : Nat → Int32} {hel : Nat → Int32} {xfro : Nat → Int32} {xbef : Nat → Int32} {xbeh : Nat → Int32} {xsai : Nat → Int64}
variable {ynow : Int64} {yword : Nat → Int32} {yrgs : Nat → Int32} {ypsw : Nat → Int32} {ytab : Nat → Int32} {ypen : Nat → Int32} {ysta : Nat → Int32} {ykep : Nat → Int32} {yusd : Nat → Int64} {ytal : Nat → Int64}
theorem cs_x2 {fr to : Nat} (hf : fr < 5) (ht : to < 5) (hne : fr ≠ to) : ∀ d k, k + d = 8 → ∀ xuse : Nat → Int32, cm_P xuse (cm_cp xsht (8 * to) (8 * fr) k) →
    ∃ xuse' : Nat → Int32, cm_P xuse' (cm_cp xsht (8 * to) (8 * fr) 8) ∧
    ∀ ⦃xnew xold turn left xsay xfail xwhr : Int32⦄ ⦃xword xcon xop xreg xadr xkep xsta xtab xpsw xpen xrgs pag stp int xsha hel xfro xbef xbeh : Nat → Int32⦄ ⦃xsai : Nat → Int64⦄ (post : SX → Prop), post (xnew, xold, turn, left, xsay, xfail, xwhr, xword, xcon, xop, xreg, xadr, xuse', cm_cp xsht (8 * to) (8 * fr) 8, xkep, xsta, xtab, xpsw, xpen, xrgs, pag, stp, int, xsha, hel, xfro, xbef, xbeh, xsai) → wX_share_2 post (nI fr) (nI to) xnew xold turn left xsay xfail xwhr (d + 1) (nI k) xword xcon xop xreg xadr xuse (cm_cp xsht (8 * to) (8 * fr) k) xkep xsta xtab xpsw xpen xrgs pag stp int xsha hel xfro xbef xbeh xsai := by
  intro d
  induction d with
  | zero =>
    intro k hk xuse H
    have hk : k = 8 := hk
    subst hk
    exact ⟨xuse, H, fun xnew xold turn left xsay xfail xwhr xword xcon xop xreg xadr xkep xsta xtab xpsw xpen xrgs pag stp int xsha hel xfro xbef xbeh xsai post h => br_t (nI_le (a := 8) (b := 8) (by omega) (by omega)) h⟩
  | succ d ih =>
    intro k hk xuse H
    obtain ⟨s0, b0, h0⟩ := H.1 (8 * to + k) (by omega)
    obtain ⟨s1, b1, h1⟩ := H.1 (8 * fr + k) (by omega)
    have hp := cm_pos (n := 40) (by omega) h0
    have hle := cm_le (cm_cp xsht (8 * to) (8 * fr) k) s0 40
    have hle1 := cm_le (cm_cp xsht (8 * to) (8 * fr) k) s1 40
    obtain ⟨c0, e0⟩ : ∃ c0, cm_cn (cm_cp xsht (8 * to) (8 * fr) k) s0 40 = c0 + 1 := ⟨_, (Nat.sub_add_cancel hp).symm⟩
    obtain ⟨c1, e1, l1⟩ : ∃ c1, upd xuse s0 (nI c0) s1 = nI c1 ∧ c1 < 100 := by
      by_cases x : s1 = s0
      · exact ⟨c0, by rw [x, cn_us], by omega⟩
      · exact ⟨_, by rw [cn_un x, H.2 s1 b1], by omega⟩
    have hS := cm_cpS (f := xsht) (d := 8 * to) (s := 8 * fr) (k := k) (by omega)
    rw [h1] at hS
    have H' := cm_Pshare (by omega) b0 b1 h0 H e0 e1 l1
    rw [hS] at H'
    obtain ⟨u1, hP, hX⟩ := ih (k + 1) (by omega) _ H'
    refine ⟨u1, hP, fun xnew xold turn left xsay xfail xwhr xword xcon xop xreg xadr xkep xsta xtab xpsw xpen xrgs pag stp int xsha hel xfro xbef xbeh xsai post h => ?_⟩
    have hX := hX post h
    have i1 : (8 * nI fr) + nI k = nI (8 * fr + k) := by rw [cn_8, nI_add]
    have i2 : (8 * nI to) + nI k = nI (8 * to + k) := by rw [cn_8, nI_add]
    have d1 : (nI (8 * fr + k)).toNatClampNeg = 8 * fr + k := nI_clamp (by omega)
    have d2 : (nI (8 * to + k)).toNatClampNeg = 8 * to + k := nI_clamp (by omega)
    have d3 : (nI s0).toNatClampNeg = s0 := nI_clamp (by omega)
    have d4 : (nI s1).toNatClampNeg = s1 := nI_clamp (by omega)
    have u0 : xuse s0 = nI (c0 + 1) := (H.2 s0 b0).trans (congrArg nI e0)
    have v0 : vp_nar .byte ((xuse s0 - 1).toInt8.toInt32) = nI c0 := by rw [u0, nI_pred, cn_vbb (by omega)]
    have v1 : vp_nar .byte ((upd xuse s0 (nI c0) s1 + 1).toInt8.toInt32) = nI (c1 + 1) := by rw [e1, nI_1, cn_vbb (by omega)]
    have v2 : vp_nar .byte (nI s1) = nI s1 := cn_vb (by omega)
    have z8 : cm_cp xsht (8 * to) (8 * fr) (k + 1) (8 * to + k) = nI s1 := by rw [← hS, cn_us]
    refine br_f (nI_ge (a := k) (b := 8) (by omega) (by omega)) ?_
    rw [i1, i2, d1, d2, h0, d3, h1, v0, v2]
    refine ⟨cn_in (by omega), cn_in b0, cn_in b0, nm_e ⟨cn_in (by omega), cn_in (by omega), nm_r hS ⟨cn_in (by omega), ?_⟩⟩⟩
    rw [z8, d4]
    refine ⟨cn_in b1, cn_in b1, nm_r (e' := upd (upd xuse s0 (nI c0)) s1 (nI (c1 + 1))) (by rw [v1]) (nm_r (nI_1 k) hX)⟩
theorem cs_share {fr to : Nat} (hf : fr < 5) (ht : to < 5) (hne : fr ≠ to) (H : cm_M xword xcon xop xreg xadr xuse xsht yword) :
    ∃ xuse' : Nat → Int32, cm_M xword xcon xop xreg xadr xuse' (cm_cp xsht (8 * to) (8 * fr) 8) (cm_cp yword (64 * to) (64 * fr) 64) ∧
    ∀ ⦃xnew xold turn left xsay xfail xwhr : Int32⦄ ⦃xkep xsta xtab xpsw xpen xrgs pag stp int xsha hel xfro xbef xbeh : Nat → Int32⦄ ⦃xsai : Nat → Int64⦄ (post : SX → Prop), post (xnew, xold, turn, left, xsay, xfail, xwhr, xword, xcon, xop, xreg, xadr, xuse', cm_cp xsht (8 * to) (8 * fr) 8, xkep, xsta, xtab, xpsw, xpen, xrgs, pag, stp, int, xsha, hel, xfro, xbef, xbeh, xsai) → wpX_share post (xnew, xold, turn, left, xsay, xfail, xwhr, xword, xcon, xop, xreg, xadr, xuse, xsht, xkep, xsta, xtab, xpsw, xpen, xrgs, pag, stp, int, xsha, hel, xfro, xbef, xbeh, xsai) (nI fr) (nI to) := by
  have H0 : cm_P xuse (cm_cp xsht (8 * to) (8 * fr) 0) := by rw [cm_cp0]; exact H.1
  obtain ⟨u1, hP, hX⟩ := cs_x2 hf ht hne 8 0 rfl xuse H0
  refine ⟨u1, ⟨hP, cm_Wshare hf ht H.2.1, H.2.2⟩, fun xnew xold turn left xsay xfail xwhr xkep xsta xtab xpsw xpen xrgs pag stp int xsha hel xfro xbef xbeh xsai post h => ?_⟩
  have hX := hX post h
  rw [cm_cp0] at hX
  exact ⟨9, hX⟩
theorem cs_y38 {fr to : Nat} {post : SY → Prop} (hf : fr < 5) (ht : to < 5) (hne : fr ≠ to)
    (h : post (ynow, turn, left, yword, cm_cp yrgs (4 * to) (4 * fr) 4, upd ypsw to (ypsw fr), upd ytab to (ytab fr), upd ypen to (ypen fr), upd ysta to (ysta fr), ykep, pag, stp, int, hel, yusd, ytal)) :
    ∀ d k, k + d = 4 → wY_become_38 post (nI fr) (nI to) ynow turn left (d + 1) (nI k) yword (cm_cp yrgs (4 * to) (4 * fr) k) ypsw ytab ypen ysta ykep pag stp int hel yusd ytal := by
  have c1 : (nI fr).toNatClampNeg = fr := nI_clamp (by omega)
  have c2 : (nI to).toNatClampNeg = to := nI_clamp (by omega)
  intro d
  induction d with
  | zero =>
    intro k hk
    have hk : k = 4 := hk
    subst hk
    refine br_t (nI_le (a := 4) (b := 4) (by omega) (by omega)) ?_
    rw [c1, c2]
    exact ⟨cn_in hf, cn_in ht, nm_e ⟨cn_in hf, cn_in ht, nm_e ⟨cn_in hf, cn_in ht, nm_e ⟨cn_in hf, cn_in ht, nm_e h⟩⟩⟩⟩
  | succ d ih =>
    intro k hk
    have i1 : (4 * nI fr) + nI k = nI (4 * fr + k) := by rw [cn_4, nI_add]
    have i2 : (4 * nI to) + nI k = nI (4 * to + k) := by rw [cn_4, nI_add]
    have d1 : (nI (4 * fr + k)).toNatClampNeg = 4 * fr + k := nI_clamp (by omega)
    have d2 : (nI (4 * to + k)).toNatClampNeg = 4 * to + k := nI_clamp (by omega)
    have hS := cm_cpS (f := yrgs) (d := 4 * to) (s := 4 * fr) (k := k) (by omega)
    refine br_f (nI_ge (a := k) (b := 4) (by omega) (by omega)) ?_
    rw [i1, i2, d1, d2]
    exact ⟨cn_in (by omega), cn_in (by omega), nm_r hS (nm_r (nI_1 k) (ih (k + 1) (by omega)))⟩
theorem cs_y2 {fr to : Nat} {post : SY → Prop} (hf : fr < 5) (ht : to < 5) (hne : fr ≠ to)
    (h : post (ynow, turn, left, cm_cp yword (64 * to) (64 * fr) 64, cm_cp yrgs (4 * to) (4 * fr) 4, upd ypsw to (ypsw fr), upd ytab to (ytab fr), upd ypen to (ypen fr), upd ysta to (ysta fr), ykep, pag, stp, int, hel, yusd, ytal)) :
    ∀ d k, k + d = 64 → wY_become_2 post (nI fr) (nI to) ynow turn left (d + 1) (nI k) (cm_cp yword (64 * to) (64 * fr) k) yrgs ypsw ytab ypen ysta ykep pag stp int hel yusd ytal := by
  intro d
  induction d with
  | zero =>
    intro k hk
    have hk : k = 64 := hk
    subst hk
    have h9 := cs_y38 hf ht hne h 4 0 rfl
    rw [cm_cp0] at h9
    exact br_t (nI_le (a := 64) (b := 64) (by omega) (by omega)) ⟨5, h9⟩
  | succ d ih =>
    intro k hk
    have i1 : (64 * nI fr) + nI k = nI (64 * fr + k) := by rw [cn_64, nI_add]
    have i2 : (64 * nI to) + nI k = nI (64 * to + k) := by rw [cn_64, nI_add]
    have d1 : (nI (64 * fr + k)).toNatClampNeg = 64 * fr + k := nI_clamp (by omega)
    have d2 : (nI (64 * to + k)).toNatClampNeg = 64 * to + k := nI_clamp (by omega)
    have hS := cm_cpS (f := yword) (d := 64 * to) (s := 64 * fr) (k := k) (by omega)
    refine br_f (nI_ge (a := k) (b := 64) (by omega) (by omega)) ?_
    rw [i1, i2, d1, d2]
    exact ⟨cn_in (by omega), cn_in (by omega), nm_r hS (nm_r (nI_1 k) (ih (k + 1) (by omega)))⟩
theorem cs_become {fr to : Nat} {post : SY → Prop} (hf : fr < 5) (ht : to < 5) (hne : fr ≠ to)
    (h : post (ynow, turn, left, cm_cp yword (64 * to) (64 * fr) 64, cm_cp yrgs (4 * to) (4 * fr) 4, upd ypsw to (ypsw fr), upd ytab to (ytab fr), upd ypen to (ypen fr), upd ysta to (ysta fr), ykep, pag, stp, int, hel, yusd, ytal)) :
    wpY_become post (ynow, turn, left, yword, yrgs, ypsw, ytab, ypen, ysta, ykep, pag, stp, int, hel, yusd, ytal) (nI fr) (nI to) := by
  have h9 := cs_y2 hf ht hne h 64 0 rfl
  rw [cm_cp0] at h9
  exact ⟨65, h9⟩
end
end
section
/-! guests, tales, and the relation -/
def cg_rg (ysta ytab ypsw ypen : Nat → Int32) : Prop := ∀ i, i < 5 → (∃ s, s < 3 ∧ ysta i = nI s) ∧ (∃ t, t < 64 ∧ ytab i = nI t) ∧ (∃ p, p < 512 ∧ ypsw i = nI p) ∧ (ypen i = -1 ∨ ∃ c, c < 256 ∧ ypen i = nI c)
def cg_eq (xsta xtab xpsw xpen ysta ytab ypsw ypen : Nat → Int32) : Prop := ∀ g, g < 3 → xsta g = ysta g ∧ xtab g = ytab g ∧ xpsw g = ypsw g ∧ xpen g = ypen g
def cg_rs (xrgs yrgs : Nat → Int32) : Prop := ∀ j, j < 12 → xrgs j = yrgs j
def cg_kp (xkep ykep ysta ytab ypsw ypen yrgs : Nat → Int32) : Prop := ∀ s, s < 2 → (ykep s = 0 ∧ xkep (8 * s) = -1) ∨
  (ykep s = 1 ∧ xkep (8 * s) = ysta (3 + s) ∧ xkep (8 * s + 1) = ytab (3 + s) ∧ xkep (8 * s + 2) = ypsw (3 + s) ∧ xkep (8 * s + 3) = ypen (3 + s) ∧ ∀ r, r < 4 → xkep (8 * s + 4 + r) = yrgs (4 * (3 + s) + r))
def cg_G (xsta xtab xpsw xpen xrgs xkep ysta ytab ypsw ypen yrgs ykep : Nat → Int32) : Prop :=
  cg_rg ysta ytab ypsw ypen ∧ cg_eq xsta xtab xpsw xpen ysta ytab ypsw ypen ∧ cg_rs xrgs yrgs ∧ cg_kp xkep ykep ysta ytab ypsw ypen yrgs
def cs_T (M : Nat) (xsai ytal : Nat → Int64) : Prop := ∀ k, k < 8 → ytal k = if k < M then xsai ((M - 1 - k) % 8) else -1
section
variable {xsta xtab xpsw xpen xrgs xkep ysta ytab ypsw ypen yrgs ykep : Nat → Int32}
/-- what is known of a guest -/
theorem cg_get {g : Nat} (hg : g < 3) (G : cg_G xsta xtab xpsw xpen xrgs xkep ysta ytab ypsw ypen yrgs ykep) :
    ∃ (s t p : Nat) (c : Int32), s < 3 ∧ t < 64 ∧ p < 512 ∧ (c = -1 ∨ ∃ c', c' < 256 ∧ c = nI c') ∧ xsta g = nI s ∧ ysta g = nI s ∧ xtab g = nI t ∧ ytab g = nI t ∧ xpsw g = nI p ∧ ypsw g = nI p ∧ xpen g = c ∧ ypen g = c := by
  obtain ⟨⟨s, hs, es⟩, ⟨t, ht, et⟩, ⟨p, hp, ep⟩, hc⟩ := G.1 g (by omega)
  obtain ⟨a1, a2, a3, a4⟩ := G.2.1 g hg
  exact ⟨s, t, p, ypen g, hs, ht, hp, hc, a1.trans es, es, a2.trans et, et, a3.trans ep, ep, a4, rfl⟩
theorem cg_at {g s t p : Nat} {c : Int32} (hg : g < 3) (hs : s < 3) (ht : t < 64) (hp : p < 512) (hc : c = -1 ∨ ∃ c', c' < 256 ∧ c = nI c') (G : cg_G xsta xtab xpsw xpen xrgs xkep ysta ytab ypsw ypen yrgs ykep) :
    cg_G (upd xsta g (nI s)) (upd xtab g (nI t)) (upd xpsw g (nI p)) (upd xpen g c) xrgs xkep (upd ysta g (nI s)) (upd ytab g (nI t)) (upd ypsw g (nI p)) (upd ypen g c) yrgs ykep := by
  refine ⟨?_, ?_, G.2.2.1, ?_⟩
  · intro i hi
    by_cases e : i = g
    · rw [e, cn_us, cn_us, cn_us, cn_us]
      exact ⟨⟨s, hs, rfl⟩, ⟨t, ht, rfl⟩, ⟨p, hp, rfl⟩, hc⟩
    · rw [cn_un e, cn_un e, cn_un e, cn_un e]
      exact G.1 i hi
  · intro i hi
    by_cases e : i = g
    · rw [e, cn_us, cn_us, cn_us, cn_us, cn_us, cn_us, cn_us, cn_us]
      exact ⟨rfl, rfl, rfl, rfl⟩
    · rw [cn_un e, cn_un e, cn_un e, cn_un e, cn_un e, cn_un e, cn_un e, cn_un e]
      exact G.2.1 i hi
  · intro s' hs'
    have e : 3 + s' ≠ g := by omega
    rw [cn_un e, cn_un e, cn_un e, cn_un e]
    exact G.2.2.2 s' hs'
theorem cg_psw {g p : Nat} (hg : g < 3) (hp : p < 512) (G : cg_G xsta xtab xpsw xpen xrgs xkep ysta ytab ypsw ypen yrgs ykep) :
    cg_G xsta xtab (upd xpsw g (nI p)) xpen xrgs xkep ysta ytab (upd ypsw g (nI p)) ypen yrgs ykep := by
  obtain ⟨s, t, p', c, hs, ht, _, hc, e1, e2, e3, e4, _, _, e7, e8⟩ := cg_get hg G
  have h := cg_at hg hs ht hp hc G
  rw [cn_self e1, cn_self e2, cn_self e3, cn_self e4, cn_self e7, cn_self e8] at h
  exact h
theorem cg_sta {g s : Nat} (hg : g < 3) (hs : s < 3) (G : cg_G xsta xtab xpsw xpen xrgs xkep ysta ytab ypsw ypen yrgs ykep) :
    cg_G (upd xsta g (nI s)) xtab xpsw xpen xrgs xkep (upd ysta g (nI s)) ytab ypsw ypen yrgs ykep := by
  obtain ⟨s', t, p, c, _, ht, hp, hc, _, _, e3, e4, e5, e6, e7, e8⟩ := cg_get hg G
  have h := cg_at hg hs ht hp hc G
  rw [cn_self e3, cn_self e4, cn_self e5, cn_self e6, cn_self e7, cn_self e8] at h
  exact h
theorem cg_tab {g t : Nat} (hg : g < 3) (ht : t < 64) (G : cg_G xsta xtab xpsw xpen xrgs xkep ysta ytab ypsw ypen yrgs ykep) :
    cg_G xsta (upd xtab g (nI t)) xpsw xpen xrgs xkep ysta (upd ytab g (nI t)) ypsw ypen yrgs ykep := by
  obtain ⟨s, t', p, c, hs, _, hp, hc, e1, e2, _, _, e5, e6, e7, e8⟩ := cg_get hg G
  have h := cg_at hg hs ht hp hc G
  rw [cn_self e1, cn_self e2, cn_self e5, cn_self e6, cn_self e7, cn_self e8] at h
  exact h
theorem cg_pen {g : Nat} {c : Int32} (hg : g < 3) (hc : c = -1 ∨ ∃ c', c' < 256 ∧ c = nI c') (G : cg_G xsta xtab xpsw xpen xrgs xkep ysta ytab ypsw ypen yrgs ykep) :
    cg_G xsta xtab xpsw (upd xpen g c) xrgs xkep ysta ytab ypsw (upd ypen g c) yrgs ykep := by
  obtain ⟨s, t, p, c', hs, ht, hp, _, e1, e2, e3, e4, e5, e6, _, _⟩ := cg_get hg G
  have h := cg_at hg hs ht hp hc G
  rw [cn_self e1, cn_self e2, cn_self e3, cn_self e4, cn_self e5, cn_self e6] at h
  exact h
theorem cg_regs {xrgs' yrgs' : Nat → Int32} (h1 : ∀ j, j < 12 → xrgs' j = yrgs' j) (h2 : ∀ j, 12 ≤ j → yrgs' j = yrgs j) (G : cg_G xsta xtab xpsw xpen xrgs xkep ysta ytab ypsw ypen yrgs ykep) :
    cg_G xsta xtab xpsw xpen xrgs' xkep ysta ytab ypsw ypen yrgs' ykep := by
  refine ⟨G.1, G.2.1, h1, ?_⟩
  intro s hs
  rcases G.2.2.2 s hs with h | ⟨a, b, c, d, e, f⟩
  · exact Or.inl h
  · exact Or.inr ⟨a, b, c, d, e, fun r hr => (f r hr).trans (h2 _ (by omega)).symm⟩
theorem cg_reg {j : Nat} (v : Int32) (hj : j < 12) (G : cg_G xsta xtab xpsw xpen xrgs xkep ysta ytab ypsw ypen yrgs ykep) :
    cg_G xsta xtab xpsw xpen (upd xrgs j v) xkep ysta ytab ypsw ypen (upd yrgs j v) ykep := by
  refine cg_regs ?_ ?_ G
  · intro i hi
    by_cases e : i = j
    · rw [e, cn_us, cn_us]
    · rw [cn_un e, cn_un e]
      exact G.2.2.1 i hi
  · intro i hi
    exact cn_un (by omega)
end
theorem cs_tell {M : Nat} {xsai ytal ytal' : Nat → Int64} (v : Int64) (H : cs_T M xsai ytal) (h0 : ytal' 0 = v) (h1 : ∀ k, k < 7 → ytal' (k + 1) = ytal k) : cs_T (M + 1) (vp_updL xsai (M % 8) v) ytal' := by
  intro k hk
  cases k with
  | zero =>
    rw [h0, if_pos (Nat.succ_pos M)]
    have e : (M + 1 - 1 - 0) % 8 = M % 8 := rfl
    rw [e, pk_uLs]
  | succ k =>
    rw [h1 k (by omega), H k (by omega)]
    by_cases c : k < M
    · rw [if_pos c, if_pos (by omega)]
      have e : M + 1 - 1 - (k + 1) = M - 1 - k := by omega
      rw [e, pk_uLn (by omega)]
    · rw [if_neg c, if_neg (by omega)]
def c_R0 (N M : Nat) (tn : Nat) (lf : Nat) (xnew : Int32) (xold : Int32) (hel : Nat → Int32) (xfro : Nat → Int32) (xbef : Nat → Int32) (xbeh : Nat → Int32) (yusd : Nat → Int64) (xword : Nat → Int32) (xcon : Nat → Int32) (xop : Nat → Int32) (xreg : Nat → Int32) (xadr : Nat → Int32) (xuse : Nat → Int32) (xsht : Nat → Int32) (yword : Nat → Int32) (xsha : Nat → Int32) (xsta : Nat → Int32) (xtab : Nat → Int32) (xpsw : Nat → Int32) (xpen : Nat → Int32) (xrgs : Nat → Int32) (xkep : Nat → Int32) (ysta : Nat → Int32) (ytab : Nat → Int32) (ypsw : Nat → Int32) (ypen : Nat → Int32) (yrgs : Nat → Int32) (ykep : Nat → Int32) (xsai : Nat → Int64) (ytal : Nat → Int64) : Prop :=
  (tn < 3 ∧ lf ≤ 4) ∧ cf_F xnew xold hel xfro xbef xbeh yusd N ∧ cm_M xword xcon xop xreg xadr xuse xsht yword ∧ cm_S xsha xtab yword ∧ cg_G xsta xtab xpsw xpen xrgs xkep ysta ytab ypsw ypen yrgs ykep ∧ cs_T M xsai ytal
def c_R (N M : Nat) (u : SX) (v : SY) : Prop :=
  match u, v with
  | (xnew, xold, turn, left, xsay, xfail, xwhr, xword, xcon, xop, xreg, xadr, xuse, xsht, xkep, xsta, xtab, xpsw, xpen, xrgs, pag, stp, int, xsha, hel, xfro, xbef, xbeh, xsai), (ynow, yturn, yleft, yword, yrgs, ypsw, ytab, ypen, ysta, ykep, ypag, ystp, yint, yhel, yusd, ytal) =>
    ∃ tn lf : Nat, turn = nI tn ∧ left = nI lf ∧ yturn = nI tn ∧ yleft = nI lf ∧ xsay = nI M ∧ xfail = 0 ∧ ynow = lN N ∧ ypag = pag ∧ ystp = stp ∧ yint = int ∧ yhel = hel ∧ c_R0 N M tn lf xnew xold hel xfro xbef xbeh yusd xword xcon xop xreg xadr xuse xsht yword xsha xsta xtab xpsw xpen xrgs xkep ysta ytab ypsw ypen yrgs ykep xsai ytal
section
variable {xnew : Int32} {xold : Int32} {turn : Int32} {left : Int32} {xsay : Int32} {xfail : Int32} {xwhr : Int32} {xword : Nat → Int32} {xcon : Nat → Int32} {xop : Nat → Int32} {xreg : Nat → Int32} {xadr : Nat → Int32} {xuse : Nat → Int32} {xsht : Nat → Int32} {xkep : Nat → Int32} {xsta : Nat → Int32} {xtab : Nat → Int32} {xpsw : Nat → Int32} {xpen : Nat → Int32} {xrgs : Nat → Int32} {pag : Nat → Int32} {stp : Nat → Int32} {int : Nat → Int32} {xsha : Nat → Int32} {hel : Nat → Int32} {xfro : Nat → Int32} {xbef : Nat → Int32} {xbeh : Nat → Int32} {xsai : Nat → Int64}
variable {ynow : Int64} {yword : Nat → Int32} {yrgs : Nat → Int32} {ypsw : Nat → Int32} {ytab : Nat → Int32} {ypen : Nat → Int32} {ysta : Nat → Int32} {ykep : Nat → Int32} {yusd : Nat → Int64} {ytal : Nat → Int64}
variable {tn lf N M : Nat}
theorem c_mk (h : c_R0 N M tn lf xnew xold hel xfro xbef xbeh yusd xword xcon xop xreg xadr xuse xsht yword xsha xsta xtab xpsw xpen xrgs xkep ysta ytab ypsw ypen yrgs ykep xsai ytal) : c_R N M (xnew, xold, nI tn, nI lf, nI M, 0, xwhr, xword, xcon, xop, xreg, xadr, xuse, xsht, xkep, xsta, xtab, xpsw, xpen, xrgs, pag, stp, int, xsha, hel, xfro, xbef, xbeh, xsai) (lN N, nI tn, nI lf, yword, yrgs, ypsw, ytab, ypen, ysta, ykep, pag, stp, int, hel, yusd, ytal) := ⟨tn, lf, rfl, rfl, rfl, rfl, rfl, rfl, rfl, rfl, rfl, rfl, rfl, h⟩
end
theorem c_el {N M : Nat} {P : SX → SY → Prop} (h : ∀ (tn lf : Nat) (xwhr : Int32) (pag : Nat → Int32) (stp : Nat → Int32) (int : Nat → Int32) (xnew : Int32) (xold : Int32) (hel : Nat → Int32) (xfro : Nat → Int32) (xbef : Nat → Int32) (xbeh : Nat → Int32) (yusd : Nat → Int64) (xword : Nat → Int32) (xcon : Nat → Int32) (xop : Nat → Int32) (xreg : Nat → Int32) (xadr : Nat → Int32) (xuse : Nat → Int32) (xsht : Nat → Int32) (yword : Nat → Int32) (xsha : Nat → Int32) (xsta : Nat → Int32) (xtab : Nat → Int32) (xpsw : Nat → Int32) (xpen : Nat → Int32) (xrgs : Nat → Int32) (xkep : Nat → Int32) (ysta : Nat → Int32) (ytab : Nat → Int32) (ypsw : Nat → Int32) (ypen : Nat → Int32) (yrgs : Nat → Int32) (ykep : Nat → Int32) (xsai : Nat → Int64) (ytal : Nat → Int64), c_R0 N M tn lf xnew xold hel xfro xbef xbeh yusd xword xcon xop xreg xadr xuse xsht yword xsha xsta xtab xpsw xpen xrgs xkep ysta ytab ypsw ypen yrgs ykep xsai ytal → P (xnew, xold, nI tn, nI lf, nI M, 0, xwhr, xword, xcon, xop, xreg, xadr, xuse, xsht, xkep, xsta, xtab, xpsw, xpen, xrgs, pag, stp, int, xsha, hel, xfro, xbef, xbeh, xsai) (lN N, nI tn, nI lf, yword, yrgs, ypsw, ytab, ypen, ysta, ykep, pag, stp, int, hel, yusd, ytal)) {u : SX} {v : SY} (I : c_R N M u v) : P u v := by
  obtain ⟨xnew, xold, turn, left, xsay, xfail, xwhr, xword, xcon, xop, xreg, xadr, xuse, xsht, xkep, xsta, xtab, xpsw, xpen, xrgs, pag, stp, int, xsha, hel, xfro, xbef, xbeh, xsai⟩ := u
  obtain ⟨ynow, yturn, yleft, yword, yrgs, ypsw, ytab, ypen, ysta, ykep, ypag, ystp, yint, yhel, yusd, ytal⟩ := v
  obtain ⟨tn, lf, e1, e2, e3, e4, e5, e6, e7, e8, e9, e10, e11, H⟩ := I
  subst e1 e2 e3 e4 e5 e6 e7 e8 e9 e10 e11
  exact h tn lf xwhr _ _ _ _ _ _ _ _ _ _ _ _ _ _ _ _ _ _ _ _ _ _ _ _ _ _ _ _ _ _ _ _ _ H
end
section
/-! map and walk -/
theorem cw_and2 (e : Int32) : e &&& 2 = 0 ∨ e &&& 2 = 2 := by
  have h : e &&& 2 = (e &&& 3) &&& 2 := by
    rw [Int32.and_assoc]
    rfl
  obtain ⟨j, hj, ej⟩ := cn_x3 e
  rw [h, ej]
  have hd : ∀ j, j < 4 → nI j &&& 2 = 0 ∨ nI j &&& 2 = 2 := by decide
  exact hd j hj
/-- what an entry leads to -/
def cw_r (e z : Int32) (a : Nat) : Int32 := if e &&& 1 = 0 then -4 else if z = 0 ∨ e &&& 2 = 0 then (8 * ((e >>> ((2 : Int32) &&& 31)) &&& 7)) + nI (a % 8) else -5
theorem cw_x7 (x : Int32) : ∃ j, j < 8 ∧ x &&& 7 = nI j := pk_andE x 3 (by decide)
theorem cw_rr (e z : Int32) (a : Nat) : cw_r e z a = -4 ∨ cw_r e z a = -5 ∨ ∃ b, b < 64 ∧ cw_r e z a = nI b := by
  unfold cw_r
  by_cases c : e &&& 1 = 0
  · rw [if_pos c]
    exact Or.inl rfl
  · rw [if_neg c]
    by_cases d : z = 0 ∨ e &&& 2 = 0
    · rw [if_pos d]
      obtain ⟨m, hm, em⟩ := cw_x7 (e >>> ((2 : Int32) &&& 31))
      rw [em, cn_8, nI_add]
      exact Or.inr (Or.inr ⟨_, by omega, rfl⟩)
    · rw [if_neg d]
      exact Or.inr (Or.inl rfl)
theorem cw_sv (e : Int32) : (e &&& 1 = 0 ∧ cm_sv e = 16) ∨ (¬ e &&& 1 = 0 ∧ ∃ m, m < 8 ∧ (e >>> ((2 : Int32) &&& 31)) &&& 7 = nI m ∧ ((e &&& 2 = 0 ∧ cm_sv e = nI m) ∨ (¬ e &&& 2 = 0 ∧ cm_sv e = nI (m + 8)))) := by
  unfold cm_sv
  by_cases c : e &&& 1 = 0
  · rw [if_pos c]
    exact Or.inl ⟨c, rfl⟩
  · rw [if_neg c]
    obtain ⟨m, hm, em⟩ := cw_x7 (e >>> ((2 : Int32) &&& 31))
    refine Or.inr ⟨c, m, hm, em, ?_⟩
    rw [em]
    rcases cw_and2 e with h | h
    · rw [h]
      exact Or.inl ⟨rfl, nI_add m 0⟩
    · rw [h]
      exact Or.inr ⟨by decide, nI_add m 8⟩
theorem cw_svn (e : Int32) : ∃ n, n < 17 ∧ cm_sv e = nI n := by
  rcases cw_sv e with ⟨_, h⟩ | ⟨_, m, hm, _, ⟨_, h⟩ | ⟨_, h⟩⟩
  · exact ⟨16, by decide, h⟩
  · exact ⟨m, by omega, h⟩
  · exact ⟨m + 8, by omega, h⟩
section
variable {xnew : Int32} {xold : Int32} {turn : Int32} {left : Int32} {xsay : Int32} {xfail : Int32} {xwhr : Int32} {xword : Nat → Int32} {xcon : Nat → Int32} {xop : Nat → Int32} {xreg : Nat → Int32} {xadr : Nat → Int32} {xuse : Nat → Int32} {xsht : Nat → Int32} {xkep : Nat → Int32} {xsta : Nat → Int32} {xtab : Nat → Int32} {xpsw : Nat → Int32} {xpen : Nat → Int32} {xrgs : Nat → Int32} {pag : Nat → Int32} {stp : Nat → Int32} {int : Nat → Int32} {xsha : Nat → Int32} {hel : Nat → Int32} {xfro : Nat → Int32} {xbef : Nat → Int32} {xbeh : Nat → Int32} {xsai : Nat → Int64}
variable {ynow : Int64} {yword : Nat → Int32} {yrgs : Nat → Int32} {ypsw : Nat → Int32} {ytab : Nat → Int32} {ypen : Nat → Int32} {ysta : Nat → Int32} {ykep : Nat → Int32} {yusd : Nat → Int64} {ytal : Nat → Int64}
theorem cw_x95 {q a : Nat} {z e : Int32} {post : Int32 → SX → Prop} (hq : q < 24) (ha : a < 64) (hs : xsha q = cm_sv e) (h : post (cw_r e z a) (xnew, xold, turn, left, xsay, xfail, xwhr, xword, xcon, xop, xreg, xadr, xuse, xsht, xkep, xsta, xtab, xpsw, xpen, xrgs, pag, stp, int, xsha, hel, xfro, xbef, xbeh, xsai)) : wX_map_95 post (nI a) z (nI q) xnew xold turn left xsay xfail xwhr xword xcon xop xreg xadr xuse xsht xkep xsta xtab xpsw xpen xrgs pag stp int xsha hel xfro xbef xbeh xsai := by
  have cq : (nI q).toNatClampNeg = q := nI_clamp (by omega)
  unfold wX_map_95 wX_map_130
  rw [cq, hs, cn_a7 (by omega)]
  refine ⟨cn_in hq, ?_⟩
  unfold cw_r at h
  rcases cw_sv e with ⟨c, hv⟩ | ⟨c, m, hm, em, hv⟩
  · rw [if_pos c] at h
    exact nm_r hv (br_t rfl h)
  · rw [if_neg c, em] at h
    rcases hv with ⟨d, hv⟩ | ⟨d, hv⟩
    · rw [if_pos (Or.inr d)] at h
      have e7 : nI m &&& 7 = nI m := by rw [cn_a7 (by omega), Nat.mod_eq_of_lt hm]
      refine nm_r hv (br_f (fun k => absurd (cn_inj (b := 16) k (by omega) (by decide)) (by omega)) ?_)
      rw [e7]
      exact br_c (fun _ => h) (fun _ => br_t (nI_le (b := 7) (by omega) (by decide)) h)
    · have e7 : nI (m + 8) &&& 7 = nI m := by rw [cn_a7 (by omega)]; exact congrArg nI (by omega)
      refine nm_r hv (br_f (fun k => absurd (cn_inj (b := 16) k (by omega) (by decide)) (by omega)) ?_)
      rw [e7]
      by_cases k : z = 0
      · rw [if_pos (Or.inl k)] at h
        exact br_t k h
      · rw [if_neg (fun o => o.elim k d)] at h
        exact br_f k (br_f (nI_ge (a := 7) (by omega) (by omega)) h)
theorem cw_walk {g a t : Nat} {z p1 : Int32} {post : Int32 → Prop} (hg : g < 3) (ha : a < 64) (ht : t < 64) (et : ytab g = nI t) (e1 : p1 &&& 63 = nI a)
    (h0 : ypsw g &&& 128 = 0 → post (nI a)) (h1 : ¬ ypsw g &&& 128 = 0 → post (cw_r (yword (64 * g + (t + a / 8) % 64)) z a)) : wpY_walk post (ynow, turn, left, yword, yrgs, ypsw, ytab, ypen, ysta, ykep, pag, stp, int, hel, yusd, ytal) (nI g) p1 z := by
  have cg : (nI g).toNatClampNeg = g := nI_clamp (by omega)
  have ix : (64 * nI g) + ((nI t + nI (a / 8)) &&& 63) = nI (64 * g + (t + a / 8) % 64) := by rw [nI_add, cn_a63 (by omega), cn_64, nI_add]
  have ci : (nI (64 * g + (t + a / 8) % 64)).toNatClampNeg = 64 * g + (t + a / 8) % 64 := nI_clamp (by omega)
  unfold wpY_walk
  dsimp only
  refine nm_r e1 ⟨cn_in (by omega), ?_⟩
  rw [cg]
  refine br_c h0 (fun k => ⟨cn_in (by omega), by decide, ?_⟩)
  rw [et, cn_div8 (by omega), ix, ci]
  have h := h1 k
  refine ⟨cn_in (by omega), nm_e ?_⟩
  unfold cw_r at h
  unfold wY_walk_73
  rw [cn_rem8 (by omega)]
  by_cases c : yword (64 * g + (t + a / 8) % 64) &&& 1 = 0
  · rw [if_pos c] at h
    exact br_t c h
  · rw [if_neg c] at h
    refine br_f c ?_
    by_cases k : z = 0
    · rw [if_pos (Or.inl k)] at h
      exact br_t k ⟨by decide, h⟩
    · refine br_f k ?_
      by_cases d : yword (64 * g + (t + a / 8) % 64) &&& 2 = 0
      · rw [if_pos (Or.inr d)] at h
        exact br_t d ⟨by decide, h⟩
      · rw [if_neg (fun o => o.elim k d)] at h
        exact br_f d h
theorem cw_map {g a t : Nat} (z : Int32) (hg : g < 3) (ha : a < 64) (ht : t < 64) (et : xtab g = nI t) (et2 : ytab g = nI t) (ep : xpsw g = ypsw g) (H : cm_M xword xcon xop xreg xadr xuse xsht yword) (S : cm_S xsha xtab yword) :
    ∃ (r : Int32) (xsha' : Nat → Int32), cm_S xsha' xtab yword ∧ (r = -4 ∨ r = -5 ∨ ∃ b, b < 64 ∧ r = nI b) ∧
    (∀ ⦃xnew xold turn left xsay xfail xwhr : Int32⦄ ⦃xcon xop xreg xadr xuse xkep xsta xpen xrgs pag stp int hel xfro xbef xbeh : Nat → Int32⦄ ⦃xsai : Nat → Int64⦄ (post : Int32 → SX → Prop), post r (xnew, xold, turn, left, xsay, xfail, xwhr, xword, xcon, xop, xreg, xadr, xuse, xsht, xkep, xsta, xtab, xpsw, xpen, xrgs, pag, stp, int, xsha', hel, xfro, xbef, xbeh, xsai) → wpX_map post (xnew, xold, turn, left, xsay, xfail, xwhr, xword, xcon, xop, xreg, xadr, xuse, xsht, xkep, xsta, xtab, xpsw, xpen, xrgs, pag, stp, int, xsha, hel, xfro, xbef, xbeh, xsai) (nI g) (nI a) z) ∧
    (∀ ⦃ynow : Int64⦄ ⦃turn left : Int32⦄ ⦃yrgs ypen ysta ykep pag stp int hel : Nat → Int32⦄ ⦃yusd ytal : Nat → Int64⦄ (p1 : Int32), p1 &&& 63 = nI a → ∀ post : Int32 → Prop, post r → wpY_walk post (ynow, turn, left, yword, yrgs, ypsw, ytab, ypen, ysta, ykep, pag, stp, int, hel, yusd, ytal) (nI g) p1 z) := by
  have cg : (nI g).toNatClampNeg = g := nI_clamp (by omega)
  by_cases c : ypsw g &&& 128 = 0
  · refine ⟨nI a, xsha, S, Or.inr (Or.inr ⟨a, ha, rfl⟩), ?_, ?_⟩
    · intro xnew xold turn left xsay xfail xwhr xcon xop xreg xadr xuse xkep xsta xpen xrgs pag stp int hel xfro xbef xbeh xsai post h
      unfold wpX_map
      dsimp only
      rw [cg, ep]
      exact ⟨cn_in hg, br_t c h⟩
    · intro ynow turn left yrgs ypen ysta ykep pag stp int hel yusd ytal p1 e1 post h
      exact cw_walk hg ha ht et2 e1 (fun _ => h) (fun k => absurd c k)
  · have hq : 8 * g + a / 8 < 24 := by omega
    have cq : (nI (8 * g + a / 8)).toNatClampNeg = 8 * g + a / 8 := nI_clamp (by omega)
    have hY : ∀ ⦃ynow : Int64⦄ ⦃turn left : Int32⦄ ⦃yrgs ypen ysta ykep pag stp int hel : Nat → Int32⦄ ⦃yusd ytal : Nat → Int64⦄ (p1 : Int32), p1 &&& 63 = nI a → ∀ post : Int32 → Prop, post (cw_r (yword (64 * g + (t + a / 8) % 64)) z a) → wpY_walk post (ynow, turn, left, yword, yrgs, ypsw, ytab, ypen, ysta, ykep, pag, stp, int, hel, yusd, ytal) (nI g) p1 z := by
      intro ynow turn left yrgs ypen ysta ykep pag stp int hel yusd ytal p1 e1 post h
      exact cw_walk hg ha ht et2 e1 (fun k => absurd k c) (fun _ => h)
    rcases S g hg t ht et (a / 8) (by omega) with hu | hk
    · have ix : (xtab g + (nI a >>> ((3 : Int32) &&& 31))) &&& 63 = nI ((t + a / 8) % 64) := by rw [et, cn_shr3 (by omega), nI_add, cn_a63 (by omega)]
      obtain ⟨n, hn, en⟩ := cw_svn (yword (64 * g + (t + a / 8) % 64))
      obtain ⟨s, hs, es⟩ := H.1.1 (8 * g + ((t + a / 8) % 64) / 8) (by omega)
      have ew : xword (8 * s + (t + a / 8) % 64 % 8) = yword (64 * g + (t + a / 8) % 64) := by
        rw [H.2.1 _ (by omega) s hs es _ (by omega)]
        exact congrArg yword (by omega)
      have cx : (nI (8 * s + (t + a / 8) % 64 % 8)).toNatClampNeg = 8 * s + (t + a / 8) % 64 % 8 := nI_clamp (by omega)
      refine ⟨cw_r (yword (64 * g + (t + a / 8) % 64)) z a, upd xsha (8 * g + a / 8) (nI n), ?_, cw_rr _ _ _, ?_, hY⟩
      · intro g' hg' t' ht' et' p hp
        by_cases k : 8 * g' + p = 8 * g + a / 8
        · have gg : g' = g := by omega
          subst gg
          have tt : t' = t := cn_inj (et'.symm.trans et) (by omega) (by omega)
          have pp : p = a / 8 := by omega
          rw [k, cn_us, tt, pp, en]
          exact Or.inr rfl
        · rw [cn_un k]
          exact S g' hg' t' ht' et' p hp
      · intro xnew xold turn left xsay xfail xwhr xcon xop xreg xadr xuse xkep xsta xpen xrgs pag stp int hel xfro xbef xbeh xsai post h
        have k93 : ∀ z0 : Int32, z0 = cm_sv (yword (64 * g + (t + a / 8) % 64)) → wX_map_93 post (nI a) z (nI (8 * g + a / 8)) z0 (nI (8 * g + a / 8)) xnew xold turn left xsay xfail xwhr xword xcon xop xreg xadr xuse xsht xkep xsta xtab xpsw xpen xrgs pag stp int xsha hel xfro xbef xbeh xsai := by
          intro z0 ez
          unfold wX_map_93
          rw [cq, ez, en, cn_vbb (by omega)]
          exact ⟨cn_in hq, nm_e (cw_x95 hq ha (cn_us.trans en.symm) h)⟩
        unfold wpX_map
        dsimp only
        rw [cg, ep, ix]
        refine ⟨cn_in hg, br_f c (nm_r (cn_pg g (by omega)) ⟨cn_in hq, ?_⟩)⟩
        rw [cq]
        refine br_t hu ⟨cn_in hg, cm_at (by omega) (by omega) hs es (And.intro (cn_in (by omega)) ?_)⟩
        refine nm_r (e' := yword (64 * g + (t + a / 8) % 64)) (by rw [cx]; exact ew) ?_
        refine br_c (fun k => k93 _ ?_) (fun k => k93 _ ?_)
        · exact (if_pos k).symm
        · exact (if_neg k).symm
    · refine ⟨cw_r (yword (64 * g + (t + a / 8) % 64)) z a, xsha, S, cw_rr _ _ _, ?_, hY⟩
      intro xnew xold turn left xsay xfail xwhr xcon xop xreg xadr xuse xkep xsta xpen xrgs pag stp int hel xfro xbef xbeh xsai post h
      unfold wpX_map
      dsimp only
      rw [cg, ep]
      refine ⟨cn_in hg, br_f c (nm_r (cn_pg g (by omega)) ⟨cn_in hq, ?_⟩)⟩
      rw [cq]
      obtain ⟨n, hn, en⟩ := cw_svn (yword (64 * g + (t + a / 8) % 64))
      exact br_f (fun k => cn_neq1 (n := n) (by omega) (en.symm.trans (hk.symm.trans k))) (cw_x95 hq ha hk h)
end
end
section
/-! place, interrupt, on, access -/
section
variable {xnew : Int32} {xold : Int32} {turn : Int32} {left : Int32} {xsay : Int32} {xfail : Int32} {xwhr : Int32} {xword : Nat → Int32} {xcon : Nat → Int32} {xop : Nat → Int32} {xreg : Nat → Int32} {xadr : Nat → Int32} {xuse : Nat → Int32} {xsht : Nat → Int32} {xkep : Nat → Int32} {xsta : Nat → Int32} {xtab : Nat → Int32} {xpsw : Nat → Int32} {xpen : Nat → Int32} {xrgs : Nat → Int32} {pag : Nat → Int32} {stp : Nat → Int32} {int : Nat → Int32} {xsha : Nat → Int32} {hel : Nat → Int32} {xfro : Nat → Int32} {xbef : Nat → Int32} {xbeh : Nat → Int32} {xsai : Nat → Int64}
variable {ynow : Int64} {yword : Nat → Int32} {yrgs : Nat → Int32} {ypsw : Nat → Int32} {ytab : Nat → Int32} {ypen : Nat → Int32} {ysta : Nat → Int32} {ykep : Nat → Int32} {yusd : Nat → Int64} {ytal : Nat → Int64}
variable {tn lf N M : Nat}
theorem cp_get {g a N' : Nat} {hel' pag' : Nat → Int32} {yusd' : Nat → Int64} {post : Int32 → SY → Prop} (hg : g < 3) (ha : a < 64)
    (hu : ∀ post' : SY → Prop, post' (lN N', turn, left, yword, yrgs, ypsw, ytab, ypen, ysta, ykep, pag', stp, int, hel', yusd', ytal) → wpY_use post' (ynow, turn, left, yword, yrgs, ypsw, ytab, ypen, ysta, ykep, pag, stp, int, hel, yusd, ytal) (nI g) (nI a))
    (h : post (yword (64 * g + a)) (lN N', turn, left, yword, yrgs, ypsw, ytab, ypen, ysta, ykep, pag', stp, int, hel', yusd', ytal)) : wpY_get post (ynow, turn, left, yword, yrgs, ypsw, ytab, ypen, ysta, ykep, pag, stp, int, hel, yusd, ytal) (nI g) (nI a) := by
  have ix : (64 * nI g) + nI a = nI (64 * g + a) := by rw [cn_64, nI_add]
  have ci : (nI (64 * g + a)).toNatClampNeg = 64 * g + a := nI_clamp (by omega)
  unfold wpY_get
  dsimp only
  rw [ix, ci]
  exact hu _ (And.intro (cn_in (by omega)) h)
theorem cp_put {g a N' : Nat} {w : Int32} {hel' pag' : Nat → Int32} {yusd' : Nat → Int64} {post : SY → Prop} (hg : g < 3) (ha : a < 64)
    (hu : ∀ post' : SY → Prop, post' (lN N', turn, left, yword, yrgs, ypsw, ytab, ypen, ysta, ykep, pag', stp, int, hel', yusd', ytal) → wpY_use post' (ynow, turn, left, yword, yrgs, ypsw, ytab, ypen, ysta, ykep, pag, stp, int, hel, yusd, ytal) (nI g) (nI a))
    (h : post (lN N', turn, left, upd yword (64 * g + a) w, yrgs, ypsw, ytab, ypen, ysta, ykep, pag', stp, int, hel', yusd', ytal)) : wpY_put post (ynow, turn, left, yword, yrgs, ypsw, ytab, ypen, ysta, ykep, pag, stp, int, hel, yusd, ytal) (nI g) (nI a) w := by
  have ix : (64 * nI g) + nI a = nI (64 * g + a) := by rw [cn_64, nI_add]
  have ci : (nI (64 * g + a)).toNatClampNeg = 64 * g + a := nI_clamp (by omega)
  unfold wpY_put
  dsimp only
  rw [ix, ci]
  exact hu _ (And.intro (cn_in (by omega)) (nm_e h))
theorem cp_place {g a : Nat} (w : Int32) (hg : g < 3) (ha : a < 64) (hN : N < 2000000) (H : c_R0 N M tn lf xnew xold hel xfro xbef xbeh yusd xword xcon xop xreg xadr xuse xsht yword xsha xsta xtab xpsw xpen xrgs xkep ysta ytab ypsw ypen yrgs ykep xsai ytal) :
    ∃ (xnew' : Int32) (xold' : Int32) (hel' : Nat → Int32) (xfro' : Nat → Int32) (xbef' : Nat → Int32) (xbeh' : Nat → Int32) (pag' : Nat → Int32) (yusd' : Nat → Int64) (xword' : Nat → Int32) (xop' : Nat → Int32) (xuse' : Nat → Int32) (xsht' : Nat → Int32) (xsha' : Nat → Int32),
    c_R0 (N + 1) M tn lf xnew' xold' hel' xfro' xbef' xbeh' yusd' xword' xcon xop' xreg xadr xuse' xsht' (upd yword (64 * g + a) w) xsha' xsta xtab xpsw xpen xrgs xkep ysta ytab ypsw ypen yrgs ykep xsai ytal ∧
    (∀ ⦃turn left xsay xfail xwhr : Int32⦄ ⦃xkep xsta xpsw xpen xrgs stp int : Nat → Int32⦄ ⦃xsai : Nat → Int64⦄ (post : SX → Prop), post (xnew', xold', turn, left, xsay, xfail, xwhr, xword', xcon, xop', xreg, xadr, xuse', xsht', xkep, xsta, xtab, xpsw, xpen, xrgs, pag', stp, int, xsha', hel', xfro', xbef', xbeh', xsai) → wpX_place post (xnew, xold, turn, left, xsay, xfail, xwhr, xword, xcon, xop, xreg, xadr, xuse, xsht, xkep, xsta, xtab, xpsw, xpen, xrgs, pag, stp, int, xsha, hel, xfro, xbef, xbeh, xsai) (nI g) (nI a) w) ∧
    (∀ ⦃turn left : Int32⦄ ⦃yrgs ypsw ytab ypen ysta ykep stp int : Nat → Int32⦄ ⦃ytal : Nat → Int64⦄ (post : SY → Prop), post (lN (N + 1), turn, left, upd yword (64 * g + a) w, yrgs, ypsw, ytab, ypen, ysta, ykep, pag', stp, int, hel', yusd', ytal) → wpY_put post (lN N, turn, left, yword, yrgs, ypsw, ytab, ypen, ysta, ykep, pag, stp, int, hel, yusd, ytal) (nI g) (nI a) w) := by
  obtain ⟨hT, hF, hM, hS, hG, hL⟩ := H
  obtain ⟨s, t, p, c, hs, ht, hp, hc, _, _, et, _, _, _, _, _⟩ := cg_get hg hG
  obtain ⟨n1, o1, hel1, f1, b1, h1, pag1, us1, hF1, hXu, hYu⟩ := cf_use (pag := pag) hg ha hN hF
  obtain ⟨w2, o2, u2, t2, s2, hM2, hS2, hXw⟩ := cm_write w hg ha ht et hM hS
  refine ⟨n1, o1, hel1, f1, b1, h1, pag1, us1, w2, o2, u2, t2, s2, ⟨hT, hF1, hM2, hS2, hG, hL⟩, ?_, ?_⟩
  · intro turn left xsay xfail xwhr xkep xsta xpsw xpen xrgs stp int xsai post h
    unfold wpX_place
    dsimp only
    exact hXu _ (hXw _ h)
  · intro turn left yrgs ypsw ytab ypen ysta ykep stp int ytal post h
    exact cp_put hg ha (fun p k => hYu p k) h
theorem cp_int {g i : Nat} (code addr : Int32) (hg : g < 3) (hi : i < 3) (hN : N + 4 < 2000000) (H : c_R0 N M tn lf xnew xold hel xfro xbef xbeh yusd xword xcon xop xreg xadr xuse xsht yword xsha xsta xtab xpsw xpen xrgs xkep ysta ytab ypsw ypen yrgs ykep xsai ytal) :
    ∃ (u' : SX) (v' : SY), c_R (N + 4) M u' v' ∧ (∀ post : SX → Prop, post u' → wpX_interrupt post (xnew, xold, nI tn, nI lf, nI M, 0, xwhr, xword, xcon, xop, xreg, xadr, xuse, xsht, xkep, xsta, xtab, xpsw, xpen, xrgs, pag, stp, int, xsha, hel, xfro, xbef, xbeh, xsai) (nI g) (nI i) code addr) ∧ (∀ post : SY → Prop, post v' → wpY_interrupt post (lN N, nI tn, nI lf, yword, yrgs, ypsw, ytab, ypen, ysta, ykep, pag, stp, int, hel, yusd, ytal) (nI g) (nI i) code addr) := by
  have cg : (nI g).toNatClampNeg = g := nI_clamp (by omega)
  have i0 : (4 : Int32) * nI i = nI (4 * i) := cn_4 i
  have i1 : nI (4 * i) + 1 = nI (4 * i + 1) := nI_1 _
  have i2 : nI (4 * i) + 2 = nI (4 * i + 2) := nI_add _ 2
  have i3 : nI (4 * i) + 3 = nI (4 * i + 3) := nI_add _ 3
  obtain ⟨s, t, p, c, hs, ht, hp, hc, _, _, et, _, ep, ep2, _, _⟩ := cg_get hg H.2.2.2.2.1
  obtain ⟨xnew1, xold1, hel1, xfro1, xbef1, xbeh1, pag1, yusd1, xword1, xop1, xuse1, xsht1, xsha1, H1, hX1, hY1⟩ := cp_place (pag := pag) (a := 4 * i) (nI p) hg (by omega) (by omega) H
  obtain ⟨xnew2, xold2, hel2, xfro2, xbef2, xbeh2, pag2, yusd2, xword2, xop2, xuse2, xsht2, xsha2, H2, hX2, hY2⟩ := cp_place (pag := pag1) (a := 4 * i + 1) code hg (by omega) (by omega) H1
  obtain ⟨xnew3, xold3, hel3, xfro3, xbef3, xbeh3, pag3, yusd3, xword3, xop3, xuse3, xsht3, xsha3, H3, hX3, hY3⟩ := cp_place (pag := pag2) (a := 4 * i + 2) addr hg (by omega) (by omega) H2
  obtain ⟨hT, hF, hM, hS, hG, hL⟩ := H3
  obtain ⟨xnew4, xold4, hel4, xfro4, xbef4, xbeh4, pag4, yusd4, hF4, hX4, hY4⟩ := cf_use (pag := pag3) (a := 4 * i + 3) hg (by omega) (by omega) hF
  obtain ⟨yw, eyw⟩ : ∃ yw, yw = upd (upd (upd yword (64 * g + 4 * i) (nI p)) (64 * g + (4 * i + 1)) code) (64 * g + (4 * i + 2)) addr := ⟨_, rfl⟩
  rw [← eyw] at hM hS
  obtain ⟨s4, hs4, es4⟩ := hM.1.1 (8 * g + (4 * i + 3) / 8) (by omega)
  have ew : xword3 (8 * s4 + (4 * i + 3) % 8) = yw (64 * g + (4 * i + 3)) := by
    rw [hM.2.1 _ (by omega) s4 hs4 es4 _ (by omega)]
    exact congrArg yw (by omega)
  have cx : (nI (8 * s4 + (4 * i + 3) % 8)).toNatClampNeg = 8 * s4 + (4 * i + 3) % 8 := nI_clamp (by omega)
  obtain ⟨p', hp', ep'⟩ := cn_x511 (yw (64 * g + (4 * i + 3)))
  have hG' := cg_sta (s := 1) hg (by omega) (cg_psw hg hp' hG)
  refine ⟨_, _, c_mk (pag := pag4) (stp := stp) (int := upd int g (int g + 1)) (xwhr := xwhr) ⟨hT, hF4, hM, hS, hG', hL⟩, ?_, ?_⟩
  · intro post h
    unfold wpX_interrupt
    dsimp only
    rw [i0, i1, i2, i3, cg, ep]
    refine ⟨cn_in hg, cn_in hg, nm_e ⟨cn_in hg, hX1 _ (hX2 _ (hX3 _ (hX4 _ (cm_at (by omega) (by omega) hs4 es4 (And.intro (cn_in (by omega)) (And.intro (cn_in hg) ?_))))))⟩⟩
    dsimp only
    refine nm_r (e' := upd xpsw g (nI p')) (by rw [cx, ew, ep', cn_vss (by omega)]) (And.intro (cn_in hg) ?_)
    exact nm_r (e' := upd xsta g (nI 1)) (by rw [show vp_nar .byte 1 = nI 1 from cn_vb (n := 1) (by omega)]) h
  · intro post h
    unfold wpY_interrupt
    dsimp only
    rw [i0, i1, i2, i3, cg, ep2]
    refine ⟨cn_in (by omega), hY1 _ (hY2 _ (hY3 _ (cp_get hg (by omega) (fun p k => hY4 p k) (And.intro (cn_in (by omega)) ?_))))⟩
    rw [← eyw]
    exact nm_r (e' := upd ypsw g (nI p')) (by rw [ep']) (And.intro (cn_in (by omega)) (nm_e (And.intro (cn_in hg) (And.intro (cn_in hg) (nm_e h)))))
theorem cp_xon {g p j : Nat} {x : Int32} {post : SX → Prop} (hg : g < 3) (hj : j < 512) (ep : xpsw g = nI p) (ej : ((nI p &&& (-64)) ||| (x &&& 63)) = nI j) (h : post (xnew, xold, turn, left, xsay, xfail, xwhr, xword, xcon, xop, xreg, xadr, xuse, xsht, xkep, xsta, xtab, upd xpsw g (nI j), xpen, xrgs, pag, stp, int, xsha, hel, xfro, xbef, xbeh, xsai)) : wpX_on post (xnew, xold, turn, left, xsay, xfail, xwhr, xword, xcon, xop, xreg, xadr, xuse, xsht, xkep, xsta, xtab, xpsw, xpen, xrgs, pag, stp, int, xsha, hel, xfro, xbef, xbeh, xsai) (nI g) x := by
  have cg : (nI g).toNatClampNeg = g := nI_clamp (by omega)
  unfold wpX_on
  dsimp only
  rw [cg, ep, ej, cn_vss (by omega)]
  exact ⟨cn_in hg, cn_in hg, nm_e h⟩
theorem cp_yon {g p j : Nat} {x : Int32} {post : SY → Prop} (hg : g < 3) (ep : ypsw g = nI p) (ej : ((nI p &&& (-64)) ||| (x &&& 63)) = nI j) (h : post (ynow, turn, left, yword, yrgs, upd ypsw g (nI j), ytab, ypen, ysta, ykep, pag, stp, int, hel, yusd, ytal)) : wpY_next post (ynow, turn, left, yword, yrgs, ypsw, ytab, ypen, ysta, ykep, pag, stp, int, hel, yusd, ytal) (nI g) x := by
  have cg : (nI g).toNatClampNeg = g := nI_clamp (by omega)
  unfold wpY_next
  dsimp only
  rw [cg, ep, ej]
  exact ⟨cn_in (by omega), cn_in (by omega), nm_e h⟩
theorem cp_access {g a : Nat} (z : Int32) (hg : g < 3) (ha : a < 64) (hN : N < 2000000) (H : c_R0 N M tn lf xnew xold hel xfro xbef xbeh yusd xword xcon xop xreg xadr xuse xsht yword xsha xsta xtab xpsw xpen xrgs xkep ysta ytab ypsw ypen yrgs ykep xsai ytal) :
    (∃ (c : Nat) (xsha' : Nat → Int32), (c = 4 ∨ c = 5) ∧ c_R0 N M tn lf xnew xold hel xfro xbef xbeh yusd xword xcon xop xreg xadr xuse xsht yword xsha' xsta xtab xpsw xpen xrgs xkep ysta ytab ypsw ypen yrgs ykep xsai ytal ∧
      (∀ ⦃xnew xold turn left xsay xfail xwhr : Int32⦄ ⦃xcon xop xreg xadr xuse xkep xsta xpen xrgs pag stp int hel xfro xbef xbeh : Nat → Int32⦄ ⦃xsai : Nat → Int64⦄ (post : Int32 → SX → Prop), post (-1) (xnew, xold, turn, left, xsay, nI c, nI a, xword, xcon, xop, xreg, xadr, xuse, xsht, xkep, xsta, xtab, xpsw, xpen, xrgs, pag, stp, int, xsha', hel, xfro, xbef, xbeh, xsai) → wpX_access post (xnew, xold, turn, left, xsay, xfail, xwhr, xword, xcon, xop, xreg, xadr, xuse, xsht, xkep, xsta, xtab, xpsw, xpen, xrgs, pag, stp, int, xsha, hel, xfro, xbef, xbeh, xsai) (nI g) (nI a) z) ∧
      (∀ ⦃ynow : Int64⦄ ⦃turn left : Int32⦄ ⦃yrgs ypen ysta ykep pag stp int hel : Nat → Int32⦄ ⦃yusd ytal : Nat → Int64⦄ (p1 : Int32), p1 &&& 63 = nI a → ∀ post : Int32 → Prop, post (-(nI c)) → wpY_walk post (ynow, turn, left, yword, yrgs, ypsw, ytab, ypen, ysta, ykep, pag, stp, int, hel, yusd, ytal) (nI g) p1 z)) ∨
    (∃ (b : Nat) (xsha' : Nat → Int32) (xnew' : Int32) (xold' : Int32) (hel' : Nat → Int32) (xfro' : Nat → Int32) (xbef' : Nat → Int32) (xbeh' : Nat → Int32) (pag' : Nat → Int32) (yusd' : Nat → Int64), b < 64 ∧
      c_R0 (N + 1) M tn lf xnew' xold' hel' xfro' xbef' xbeh' yusd' xword xcon xop xreg xadr xuse xsht yword xsha' xsta xtab xpsw xpen xrgs xkep ysta ytab ypsw ypen yrgs ykep xsai ytal ∧
      (∀ ⦃turn left xsay xfail xwhr : Int32⦄ ⦃xcon xop xreg xadr xuse xkep xsta xpen xrgs stp int : Nat → Int32⦄ ⦃xsai : Nat → Int64⦄ (post : Int32 → SX → Prop), post (nI b) (xnew', xold', turn, left, xsay, xfail, xwhr, xword, xcon, xop, xreg, xadr, xuse, xsht, xkep, xsta, xtab, xpsw, xpen, xrgs, pag', stp, int, xsha', hel', xfro', xbef', xbeh', xsai) → wpX_access post (xnew, xold, turn, left, xsay, xfail, xwhr, xword, xcon, xop, xreg, xadr, xuse, xsht, xkep, xsta, xtab, xpsw, xpen, xrgs, pag, stp, int, xsha, hel, xfro, xbef, xbeh, xsai) (nI g) (nI a) z) ∧
      (∀ ⦃ynow : Int64⦄ ⦃turn left : Int32⦄ ⦃yrgs ypen ysta ykep pag stp int hel : Nat → Int32⦄ ⦃yusd ytal : Nat → Int64⦄ (p1 : Int32), p1 &&& 63 = nI a → ∀ post : Int32 → Prop, post (nI b) → wpY_walk post (ynow, turn, left, yword, yrgs, ypsw, ytab, ypen, ysta, ykep, pag, stp, int, hel, yusd, ytal) (nI g) p1 z) ∧
      (∀ ⦃turn left : Int32⦄ ⦃yword yrgs ypsw ytab ypen ysta ykep stp int : Nat → Int32⦄ ⦃ytal : Nat → Int64⦄ (post : SY → Prop), post (lN (N + 1), turn, left, yword, yrgs, ypsw, ytab, ypen, ysta, ykep, pag', stp, int, hel', yusd', ytal) → wpY_use post (lN N, turn, left, yword, yrgs, ypsw, ytab, ypen, ysta, ykep, pag, stp, int, hel, yusd, ytal) (nI g) (nI b))) := by
  obtain ⟨hT, hF, hM, hS, hG, hL⟩ := H
  obtain ⟨s, t, p, c, hs, ht, hp, hc, _, _, et, et2, ep, ep2, _, _⟩ := cg_get hg hG
  obtain ⟨r, s1, hS1, hr, hX, hY⟩ := cw_map z hg ha ht et et2 (ep.trans ep2.symm) hM hS
  have bad : ∀ c : Nat, (c = 4 ∨ c = 5) → r = -(nI c) → (∃ (c : Nat) (xsha' : Nat → Int32), (c = 4 ∨ c = 5) ∧ c_R0 N M tn lf xnew xold hel xfro xbef xbeh yusd xword xcon xop xreg xadr xuse xsht yword xsha' xsta xtab xpsw xpen xrgs xkep ysta ytab ypsw ypen yrgs ykep xsai ytal ∧
      (∀ ⦃xnew xold turn left xsay xfail xwhr : Int32⦄ ⦃xcon xop xreg xadr xuse xkep xsta xpen xrgs pag stp int hel xfro xbef xbeh : Nat → Int32⦄ ⦃xsai : Nat → Int64⦄ (post : Int32 → SX → Prop), post (-1) (xnew, xold, turn, left, xsay, nI c, nI a, xword, xcon, xop, xreg, xadr, xuse, xsht, xkep, xsta, xtab, xpsw, xpen, xrgs, pag, stp, int, xsha', hel, xfro, xbef, xbeh, xsai) → wpX_access post (xnew, xold, turn, left, xsay, xfail, xwhr, xword, xcon, xop, xreg, xadr, xuse, xsht, xkep, xsta, xtab, xpsw, xpen, xrgs, pag, stp, int, xsha, hel, xfro, xbef, xbeh, xsai) (nI g) (nI a) z) ∧
      (∀ ⦃ynow : Int64⦄ ⦃turn left : Int32⦄ ⦃yrgs ypen ysta ykep pag stp int hel : Nat → Int32⦄ ⦃yusd ytal : Nat → Int64⦄ (p1 : Int32), p1 &&& 63 = nI a → ∀ post : Int32 → Prop, post (-(nI c)) → wpY_walk post (ynow, turn, left, yword, yrgs, ypsw, ytab, ypen, ysta, ykep, pag, stp, int, hel, yusd, ytal) (nI g) p1 z)) := by
    intro c hc er
    subst er
    refine ⟨c, s1, hc, ⟨hT, hF, hM, hS1, hG, hL⟩, ?_, hY⟩
    intro xnew xold turn left xsay xfail xwhr xcon xop xreg xadr xuse xkep xsta xpen xrgs pag stp int hel xfro xbef xbeh xsai post h
    have n0 : -(nI c) < 0 := by rcases hc with rfl | rfl <;> decide
    have n1 : -(-(nI c)) = nI c := by rcases hc with rfl | rfl <;> decide
    unfold wpX_access
    dsimp only
    exact hX _ (br_t n0 (nm_r n1 h))
  rcases hr with hr | hr | ⟨b, hb, hr⟩
  · exact Or.inl (bad 4 (Or.inl rfl) (hr.trans (by decide)))
  · exact Or.inl (bad 5 (Or.inr rfl) (hr.trans (by decide)))
  · subst hr
    obtain ⟨n1, o1, hel1, f1, b1, h1, pag1, us1, hF1, hXu, hYu⟩ := cf_use (pag := pag) hg hb hN hF
    refine Or.inr ⟨b, s1, n1, o1, hel1, f1, b1, h1, pag1, us1, hb, ⟨hT, hF1, hM, hS1, hG, hL⟩, ?_, hY, hYu⟩
    intro turn left xsay xfail xwhr xcon xop xreg xadr xuse xkep xsta xpen xrgs stp int xsai post h
    unfold wpX_access
    dsimp only
    exact hX _ (br_f (nI_pos (by omega)) (hXu _ h))
end
end
section
/-! the outcome of a step; failures; instructions that access a word -/
def co_Out (N M n : Nat) (WX : (SX → Prop) → Prop) (WY : (SY → Prop) → Prop) : Prop :=
  ∃ (N' M' : Nat) (u' : SX) (v' : SY), N' ≤ N + n ∧ M' ≤ M + 1 ∧ c_R N' M' u' v' ∧ (∀ post : SX → Prop, post u' → WX post) ∧ (∀ post : SY → Prop, post v' → WY post)
theorem co_ex {u : SX} {post : SX → Prop} : post u → (match u with | (xnew, xold, turn, left, xsay, xfail, xwhr, xword, xcon, xop, xreg, xadr, xuse, xsht, xkep, xsta, xtab, xpsw, xpen, xrgs, pag, stp, int, xsha, hel, xfro, xbef, xbeh, xsai) => post (xnew, xold, turn, left, xsay, xfail, xwhr, xword, xcon, xop, xreg, xadr, xuse, xsht, xkep, xsta, xtab, xpsw, xpen, xrgs, pag, stp, int, xsha, hel, xfro, xbef, xbeh, xsai)) := by
  obtain ⟨xnew, xold, turn, left, xsay, xfail, xwhr, xword, xcon, xop, xreg, xadr, xuse, xsht, xkep, xsta, xtab, xpsw, xpen, xrgs, pag, stp, int, xsha, hel, xfro, xbef, xbeh, xsai⟩ := u
  exact fun h => h
theorem co_ey {v : SY} {post : SY → Prop} : post v → (match v with | (ynow, turn, left, yword, yrgs, ypsw, ytab, ypen, ysta, ykep, pag, stp, int, hel, yusd, ytal) => post (ynow, turn, left, yword, yrgs, ypsw, ytab, ypen, ysta, ykep, pag, stp, int, hel, yusd, ytal)) := by
  obtain ⟨ynow, turn, left, yword, yrgs, ypsw, ytab, ypen, ysta, ykep, pag, stp, int, hel, yusd, ytal⟩ := v
  exact fun h => h
theorem co_158 {N M : Nat} {u : SX} {v : SY} {x1 : Int32} (hR : c_R N M u v) : ∀ post : SX → Prop, post u → (match u with | (xnew, xold, turn, left, xsay, xfail, xwhr, xword, xcon, xop, xreg, xadr, xuse, xsht, xkep, xsta, xtab, xpsw, xpen, xrgs, pag, stp, int, xsha, hel, xfro, xbef, xbeh, xsai) => wX_step_158 post x1 xnew xold turn left xsay xfail xwhr xword xcon xop xreg xadr xuse xsht xkep xsta xtab xpsw xpen xrgs pag stp int xsha hel xfro xbef xbeh xsai) := by
  refine c_el (P := fun u v => ∀ post : SX → Prop, post u → (match u with | (xnew, xold, turn, left, xsay, xfail, xwhr, xword, xcon, xop, xreg, xadr, xuse, xsht, xkep, xsta, xtab, xpsw, xpen, xrgs, pag, stp, int, xsha, hel, xfro, xbef, xbeh, xsai) => wX_step_158 post x1 xnew xold turn left xsay xfail xwhr xword xcon xop xreg xadr xuse xsht xkep xsta xtab xpsw xpen xrgs pag stp int xsha hel xfro xbef xbeh xsai)) ?_ hR
  intro tn lf xwhr pag stp int xnew xold hel xfro xbef xbeh yusd xword xcon xop xreg xadr xuse xsht yword xsha xsta xtab xpsw xpen xrgs xkep ysta ytab ypsw ypen yrgs ykep xsai ytal H post h
  exact br_t rfl h
section
variable {xnew : Int32} {xold : Int32} {turn : Int32} {left : Int32} {xsay : Int32} {xfail : Int32} {xwhr : Int32} {xword : Nat → Int32} {xcon : Nat → Int32} {xop : Nat → Int32} {xreg : Nat → Int32} {xadr : Nat → Int32} {xuse : Nat → Int32} {xsht : Nat → Int32} {xkep : Nat → Int32} {xsta : Nat → Int32} {xtab : Nat → Int32} {xpsw : Nat → Int32} {xpen : Nat → Int32} {xrgs : Nat → Int32} {pag : Nat → Int32} {stp : Nat → Int32} {int : Nat → Int32} {xsha : Nat → Int32} {hel : Nat → Int32} {xfro : Nat → Int32} {xbef : Nat → Int32} {xbeh : Nat → Int32} {xsai : Nat → Int64}
variable {ynow : Int64} {yword : Nat → Int32} {yrgs : Nat → Int32} {ypsw : Nat → Int32} {ytab : Nat → Int32} {ypen : Nat → Int32} {ysta : Nat → Int32} {ykep : Nat → Int32} {yusd : Nat → Int64} {ytal : Nat → Int64}
variable {tn lf N M : Nat}
theorem ct_fail {g c : Nat} (wh : Int32) (hg : g < 3) (hc : 0 < c) (hc2 : c < 100) (hN : N + 4 < 2000000) (H : c_R0 N M tn lf xnew xold hel xfro xbef xbeh yusd xword xcon xop xreg xadr xuse xsht yword xsha xsta xtab xpsw xpen xrgs xkep ysta ytab ypsw ypen yrgs ykep xsai ytal) :
    co_Out N M 4 (fun post => wX_step_158 post (nI g) xnew xold (nI tn) (nI lf) (nI M) (nI c) wh xword xcon xop xreg xadr xuse xsht xkep xsta xtab xpsw xpen xrgs pag stp int xsha hel xfro xbef xbeh xsai) (fun post => wpY_program post (lN N, nI tn, nI lf, yword, yrgs, ypsw, ytab, ypen, ysta, ykep, pag, stp, int, hel, yusd, ytal) (nI g) (nI c) wh) := by
  obtain ⟨u', v', hR, hX, hY⟩ := cp_int (stp := stp) (pag := pag) (int := int) (xwhr := wh) (i := 1) (nI c) wh hg (by omega) hN H
  refine ⟨N + 4, M, u', v', Nat.le_refl _, Nat.le_succ _, hR, fun post h => ?_, fun post h => ?_⟩
  · exact br_f (nI_ne0 hc (by omega)) (hX _ (co_ex h))
  · unfold wpY_program
    dsimp only
    exact hY _ (co_ey h)
theorem ct_x153 {g p pc j : Nat} {post : SX → Prop} (hg : g < 3) (hj : j < 512) (ep : xpsw g = nI p) (epc : nI p &&& 63 = nI pc) (ej : ((nI p &&& (-64)) ||| ((nI pc + 1) &&& 63)) = nI j) (h : post (xnew, xold, turn, left, xsay, xfail, xwhr, xword, xcon, xop, xreg, xadr, xuse, xsht, xkep, xsta, xtab, upd xpsw g (nI j), xpen, xrgs, pag, stp, int, xsha, hel, xfro, xbef, xbeh, xsai)) : wX_memory_153 post (nI g) xnew xold turn left xsay xfail xwhr xword xcon xop xreg xadr xuse xsht xkep xsta xtab xpsw xpen xrgs pag stp int xsha hel xfro xbef xbeh xsai := by
  have cg : (nI g).toNatClampNeg = g := nI_clamp (by omega)
  unfold wX_memory_153
  rw [cg, ep, epc]
  exact ⟨cn_in hg, cp_xon hg hj ep ej h⟩
theorem ct_x152 {g p pc j r : Nat} {z0 : Int32} {post : SX → Prop} (hg : g < 3) (hj : j < 512) (hr : r < 12) (ep : xpsw g = nI p) (epc : nI p &&& 63 = nI pc) (ej : ((nI p &&& (-64)) ||| ((nI pc + 1) &&& 63)) = nI j) (h : post (xnew, xold, turn, left, xsay, xfail, xwhr, xword, xcon, xop, xreg, xadr, xuse, xsht, xkep, xsta, xtab, upd xpsw g (nI j), xpen, upd xrgs r z0, pag, stp, int, xsha, hel, xfro, xbef, xbeh, xsai)) : wX_memory_152 post (nI g) z0 (nI r) xnew xold turn left xsay xfail xwhr xword xcon xop xreg xadr xuse xsht xkep xsta xtab xpsw xpen xrgs pag stp int xsha hel xfro xbef xbeh xsai := by
  have cr : (nI r).toNatClampNeg = r := nI_clamp (by omega)
  unfold wX_memory_152
  rw [cr]
  exact ⟨cn_in hr, nm_e (ct_x153 hg hj ep epc ej h)⟩
theorem ct_neg {c : Nat} (hc : c = 4 ∨ c = 5) : ¬ 0 ≤ -(nI c) ∧ -(-(nI c)) = nI c := by
  rcases hc with rfl | rfl <;> decide
theorem ct_m63 {a : Nat} (ha : a < 64) : nI a &&& 63 = nI a := by rw [cn_a63 (by omega), Nat.mod_eq_of_lt ha]
theorem ct_memW {g o r a p pc : Nat} (hg : g < 3) (hr : r < 12) (ha : a < 64) (hN : N + 6 < 2000000) (ep : xpsw g = nI p) (ep2 : ypsw g = nI p) (hp : p < 512) (epc : nI p &&& 63 = nI pc) (H : c_R0 N M tn lf xnew xold hel xfro xbef xbeh yusd xword xcon xop xreg xadr xuse xsht yword xsha xsta xtab xpsw xpen xrgs xkep ysta ytab ypsw ypen yrgs ykep xsai ytal) :
    co_Out N M 5 (fun post => wX_memory_65 (fun u => match u with | (xnew, xold, turn, left, xsay, xfail, xwhr, xword, xcon, xop, xreg, xadr, xuse, xsht, xkep, xsta, xtab, xpsw, xpen, xrgs, pag, stp, int, xsha, hel, xfro, xbef, xbeh, xsai) => wX_step_158 post (nI g) xnew xold turn left xsay xfail xwhr xword xcon xop xreg xadr xuse xsht xkep xsta xtab xpsw xpen xrgs pag stp int xsha hel xfro xbef xbeh xsai) (nI g) (nI o) (nI r) (nI a) 1 xnew xold (nI tn) (nI lf) (nI M) 0 xwhr xword xcon xop xreg xadr xuse xsht xkep xsta xtab xpsw xpen xrgs pag stp int xsha hel xfro xbef xbeh xsai) (fun post => wY_memory_78 post (nI g) (nI pc) (nI o) (nI r) (nI a) 1 (lN N) (nI tn) (nI lf) yword yrgs ypsw ytab ypen ysta ykep pag stp int hel yusd ytal) := by
  have cr : (nI r).toNatClampNeg = r := nI_clamp (by omega)
  rcases cp_access (pag := pag) 1 hg ha (by omega) H with ⟨c, xsha1, hc, H1, hX, hY⟩ | ⟨b, xsha1, xnew1, xold1, hel1, xfro1, xbef1, xbeh1, pag1, yusd1, hb, H1, hX, hY, hYu⟩
  · have hn := ct_neg hc
    obtain ⟨N', M', u', v', hN', hM', hR, kX, kY⟩ := ct_fail (stp := stp) (pag := pag) (int := int) (c := c) (nI a) hg (by omega) (by omega) (by omega) H1
    refine ⟨N', M', u', v', by omega, hM', hR, fun post h => ?_, fun post h => ?_⟩
    · exact hX _ (br_f cn_01 (kX post h))
    · refine hY _ (ct_m63 ha) _ (br_f hn.1 ?_)
      rw [hn.2]
      exact kY _ (co_ey h)
  · obtain ⟨j, hj, ej⟩ := cn_psw hp (nI pc + 1)
    obtain ⟨hT, hF, hM, hS, hG, hL⟩ := H1
    obtain ⟨_, t, _, _, _, ht, _, _, _, _, et, _, _, _, _, _⟩ := cg_get hg hG
    obtain ⟨w2, o2, u2, t2, s2, hM2, hS2, hXw⟩ := cm_write (yrgs r) hg hb ht et hM hS
    have er := hG.2.2.1 r hr
    refine ⟨N + 1, M, _, _, by omega, by omega, c_mk (pag := pag1) (stp := stp) (int := int) (xwhr := xwhr) ⟨hT, hF, hM2, hS2, cg_psw hg hj hG, hL⟩, fun post h => ?_, fun post h => ?_⟩
    · refine hX _ (br_t (cn_ge0 (by omega)) (br_f (by decide) (And.intro (cn_in hr) ?_)))
      dsimp only
      rw [cr, er]
      exact hXw _ (ct_x153 hg hj ep epc ej (br_t rfl h))
    · refine hY _ (ct_m63 ha) _ (br_t (cn_ge0 (by omega)) (cp_yon hg ep2 ej (br_f (by decide) (And.intro (cn_in (by omega)) ?_))))
      dsimp only
      rw [cr]
      exact cp_put hg hb (fun p k => hYu p k) h
theorem ct_memR {g o r a p pc : Nat} (hg : g < 3) (hr : r < 12) (ha : a < 64) (hN : N + 6 < 2000000) (ho : ¬ nI o = 11) (ep : xpsw g = nI p) (ep2 : ypsw g = nI p) (hp : p < 512) (epc : nI p &&& 63 = nI pc) (H : c_R0 N M tn lf xnew xold hel xfro xbef xbeh yusd xword xcon xop xreg xadr xuse xsht yword xsha xsta xtab xpsw xpen xrgs xkep ysta ytab ypsw ypen yrgs ykep xsai ytal) :
    co_Out N M 5 (fun post => wX_memory_65 (fun u => match u with | (xnew, xold, turn, left, xsay, xfail, xwhr, xword, xcon, xop, xreg, xadr, xuse, xsht, xkep, xsta, xtab, xpsw, xpen, xrgs, pag, stp, int, xsha, hel, xfro, xbef, xbeh, xsai) => wX_step_158 post (nI g) xnew xold turn left xsay xfail xwhr xword xcon xop xreg xadr xuse xsht xkep xsta xtab xpsw xpen xrgs pag stp int xsha hel xfro xbef xbeh xsai) (nI g) (nI o) (nI r) (nI a) 0 xnew xold (nI tn) (nI lf) (nI M) 0 xwhr xword xcon xop xreg xadr xuse xsht xkep xsta xtab xpsw xpen xrgs pag stp int xsha hel xfro xbef xbeh xsai) (fun post => wY_memory_78 post (nI g) (nI pc) (nI o) (nI r) (nI a) 0 (lN N) (nI tn) (nI lf) yword yrgs ypsw ytab ypen ysta ykep pag stp int hel yusd ytal) := by
  have cr : (nI r).toNatClampNeg = r := nI_clamp (by omega)
  rcases cp_access (pag := pag) 0 hg ha (by omega) H with ⟨c, xsha1, hc, H1, hX, hY⟩ | ⟨b, xsha1, xnew1, xold1, hel1, xfro1, xbef1, xbeh1, pag1, yusd1, hb, H1, hX, hY, hYu⟩
  · have hn := ct_neg hc
    obtain ⟨N', M', u', v', hN', hM', hR, kX, kY⟩ := ct_fail (stp := stp) (pag := pag) (int := int) (c := c) (nI a) hg (by omega) (by omega) (by omega) H1
    refine ⟨N', M', u', v', by omega, hM', hR, fun post h => ?_, fun post h => ?_⟩
    · exact hX _ (br_f cn_01 (kX post h))
    · refine hY _ (ct_m63 ha) _ (br_f hn.1 ?_)
      rw [hn.2]
      exact kY _ (co_ey h)
  · obtain ⟨j, hj, ej⟩ := cn_psw hp (nI pc + 1)
    obtain ⟨hT, hF, hM, hS, hG, hL⟩ := H1
    have er := hG.2.2.1 r hr
    obtain ⟨s4, hs4, es4⟩ := hM.1.1 (8 * g + b / 8) (by omega)
    have ew : xword (8 * s4 + b % 8) = yword (64 * g + b) := by
      rw [hM.2.1 _ (by omega) s4 hs4 es4 _ (by omega)]
      exact congrArg yword (by omega)
    have cx : (nI (8 * s4 + b % 8)).toNatClampNeg = 8 * s4 + b % 8 := nI_clamp (by omega)
    by_cases o2 : nI o = 2
    · refine ⟨N + 1, M, _, _, by omega, by omega, c_mk (pag := pag1) (stp := stp) (int := int) (xwhr := xwhr) ⟨hT, hF, hM, hS, cg_reg (yrgs r + yword (64 * g + b)) hr (cg_psw hg hj hG), hL⟩, fun post h => ?_, fun post h => ?_⟩
      · refine hX _ (br_t (cn_ge0 (by omega)) (br_t rfl (br_t o2 (And.intro (cn_in hr) (cm_at (by omega) hb hs4 es4 (And.intro (cn_in (by omega)) ?_))))))
        dsimp only
        rw [cx, ew, cr, er]
        exact ct_x152 hg hj hr ep epc ej (br_t rfl h)
      · refine hY _ (ct_m63 ha) _ (br_t (cn_ge0 (by omega)) (cp_yon hg ep2 ej (br_t rfl (cp_get hg hb (fun p k => hYu p k) (br_f ho (br_t o2 (And.intro (cn_in (by omega)) (And.intro (cn_in (by omega)) ?_))))))))
        rw [cr]
        exact nm_e h
    · refine ⟨N + 1, M, _, _, by omega, by omega, c_mk (pag := pag1) (stp := stp) (int := int) (xwhr := xwhr) ⟨hT, hF, hM, hS, cg_reg (yword (64 * g + b)) hr (cg_psw hg hj hG), hL⟩, fun post h => ?_, fun post h => ?_⟩
      · refine hX _ (br_t (cn_ge0 (by omega)) (br_t rfl (br_f o2 (cm_at (by omega) hb hs4 es4 (And.intro (cn_in (by omega)) ?_)))))
        dsimp only
        rw [cx, ew]
        exact ct_x152 hg hj hr ep epc ej (br_t rfl h)
      · refine hY _ (ct_m63 ha) _ (br_t (cn_ge0 (by omega)) (cp_yon hg ep2 ej (br_t rfl (cp_get hg hb (fun p k => hYu p k) (br_f ho (br_f o2 (And.intro (cn_in (by omega)) ?_)))))))
        rw [cr]
        exact nm_e h
end
end
section
/-! the instructions one by one -/
def cs_sh (f : Nat → Int64) (k : Nat) : Nat → Int64 := fun j => if k < j ∧ j < 8 then f (j - 1) else f j
theorem cs_shS {f : Nat → Int64} {k : Nat} (hk : k + 1 < 8) : vp_updL (cs_sh f (k + 1)) (k + 1) (cs_sh f (k + 1) k) = cs_sh f k := by
  funext j
  have e0 : cs_sh f (k + 1) k = f k := if_neg (by omega)
  rw [e0]
  by_cases e : j = k + 1
  · rw [e, pk_uLs]
    exact (if_pos ⟨by omega, hk⟩).symm
  · rw [pk_uLn e]
    unfold cs_sh
    by_cases c : k + 1 < j ∧ j < 8
    · rw [if_pos c, if_pos (by omega)]
    · rw [if_neg c, if_neg (by omega)]
theorem cs_sh7 {f : Nat → Int64} : cs_sh f 7 = f := by
  funext j
  exact if_neg (by omega)
section
variable {xnew : Int32} {xold : Int32} {turn : Int32} {left : Int32} {xsay : Int32} {xfail : Int32} {xwhr : Int32} {xword : Nat → Int32} {xcon : Nat → Int32} {xop : Nat → Int32} {xreg : Nat → Int32} {xadr : Nat → Int32} {xuse : Nat → Int32} {xsht : Nat → Int32} {xkep : Nat → Int32} {xsta : Nat → Int32} {xtab : Nat → Int32} {xpsw : Nat → Int32} {xpen : Nat → Int32} {xrgs : Nat → Int32} {pag : Nat → Int32} {stp : Nat → Int32} {int : Nat → Int32} {xsha : Nat → Int32} {hel : Nat → Int32} {xfro : Nat → Int32} {xbef : Nat → Int32} {xbeh : Nat → Int32} {xsai : Nat → Int64}
variable {ynow : Int64} {yword : Nat → Int32} {yrgs : Nat → Int32} {ypsw : Nat → Int32} {ytab : Nat → Int32} {ypen : Nat → Int32} {ysta : Nat → Int32} {ykep : Nat → Int32} {yusd : Nat → Int64} {ytal : Nat → Int64}
variable {tn lf N M : Nat}
theorem ct_ytell {x1 x2 : Int32} {post : SY → Prop} (h : post (ynow, turn, left, yword, yrgs, ypsw, ytab, ypen, ysta, ykep, pag, stp, int, hel, yusd, vp_updL (cs_sh ytal 0) 0 (((8589934592 * x1.toInt64) + x2.toInt64) + 4294967296))) :
    ∀ k, k ≤ 7 → wY_tell_3 post x1 x2 ynow turn left (k + 1) (nI k) yword yrgs ypsw ytab ypen ysta ykep pag stp int hel yusd (cs_sh ytal k) := by
  intro k
  induction k with
  | zero => intro _; exact br_t (by decide) (nm_e h)
  | succ k ih =>
    intro hk
    have c1 : (nI (k + 1)).toNatClampNeg = k + 1 := nI_clamp (by omega)
    have c0 : (nI k).toNatClampNeg = k := nI_clamp (by omega)
    refine br_f (nI_nle (by omega) (by omega)) ?_
    rw [nI_pred, c1, c0, cs_shS (by omega)]
    exact ⟨cn_in (by omega), cn_in (by omega), nm_e (nm_r (pk_m1 k) (ih (by omega)))⟩
theorem ct_tell {g : Nat} {x2 : Int32} {post : SY → Prop} (h : post (ynow, turn, left, yword, yrgs, ypsw, ytab, ypen, ysta, ykep, pag, stp, int, hel, yusd, vp_updL (cs_sh ytal 0) 0 (((8589934592 * (nI g).toInt64) + x2.toInt64) + 4294967296))) : wpY_tell post (ynow, turn, left, yword, yrgs, ypsw, ytab, ypen, ysta, ykep, pag, stp, int, hel, yusd, ytal) (nI g) x2 := by
  have h9 := ct_ytell h 7 (Nat.le_refl _)
  rw [cs_sh7] at h9
  exact ⟨8, h9⟩
theorem ct_x24 {g : Nat} {post : SX → Prop} (hg : g < 3) (h : post (xnew, xold, turn, left, xsay, xfail, xwhr, xword, xcon, xop, xreg, xadr, xuse, xsht, xkep, xsta, xtab, xpsw, xpen, xrgs, pag, stp, int, cm_st xsha (8 * g) (-1) 8, hel, xfro, xbef, xbeh, xsai)) :
    ∀ d k, k + d = 8 → wX_retable_24 post (nI g) xnew xold turn left xsay xfail xwhr (d + 1) (nI (8 * g + k)) xword xcon xop xreg xadr xuse xsht xkep xsta xtab xpsw xpen xrgs pag stp int (cm_st xsha (8 * g) (-1) k) hel xfro xbef xbeh xsai := by
  have e8 : (8 * nI g) + 8 = nI (8 * g + 8) := by rw [cn_8]; exact nI_add _ 8
  intro d
  induction d with
  | zero =>
    intro k hk
    have hk : k = 8 := hk
    subst hk
    exact br_t (by rw [e8]; exact Int32.le_refl _) h
  | succ d ih =>
    intro k hk
    have ck : (nI (8 * g + k)).toNatClampNeg = 8 * g + k := nI_clamp (by omega)
    refine br_f (by rw [e8]; exact nI_ge (by omega) (by omega)) ⟨cn_in (by omega), ?_⟩
    exact nm_r (e' := cm_st xsha (8 * g) (-1) (k + 1)) (by rw [ck, cn_vb1, cm_stS]) (nm_r (nI_1 _) (ih (k + 1) (by omega)))
/-- the shadows of one guest forgotten -/
theorem cm_Sclear {g : Nat} {tab' yw' : Nat → Int32} (h : ∀ g', g' < 3 → g' ≠ g → ∀ t, t < 64 → tab' g' = nI t → ∀ p, p < 8 → xsha (8 * g' + p) = -1 ∨ xsha (8 * g' + p) = cm_sv (yw' (64 * g' + (t + p) % 64))) :
    cm_S (cm_st xsha (8 * g) (-1) 8) tab' yw' := by
  intro g' hg' t ht et p hp
  by_cases e : g' = g
  · subst e
    exact Or.inl (cm_stI ⟨by omega, by omega⟩)
  · rw [cm_stO (by omega)]
    exact h g' hg' e t ht et p hp
theorem ct_retable {g t' : Nat} (hg : g < 3) (ht : t' < 64) (S : cm_S xsha xtab yword) :
    ∃ xsha' : Nat → Int32, cm_S xsha' (upd xtab g (nI t')) yword ∧ ∀ ⦃xnew xold turn left xsay xfail xwhr : Int32⦄ ⦃xword xcon xop xreg xadr xuse xsht xkep xsta xpsw xpen xrgs pag stp int hel xfro xbef xbeh : Nat → Int32⦄ ⦃xsai : Nat → Int64⦄ (post : SX → Prop), post (xnew, xold, turn, left, xsay, xfail, xwhr, xword, xcon, xop, xreg, xadr, xuse, xsht, xkep, xsta, upd xtab g (nI t'), xpsw, xpen, xrgs, pag, stp, int, xsha', hel, xfro, xbef, xbeh, xsai) → wpX_retable post (xnew, xold, turn, left, xsay, xfail, xwhr, xword, xcon, xop, xreg, xadr, xuse, xsht, xkep, xsta, xtab, xpsw, xpen, xrgs, pag, stp, int, xsha, hel, xfro, xbef, xbeh, xsai) (nI g) (nI t') := by
  have cg : (nI g).toNatClampNeg = g := nI_clamp (by omega)
  by_cases e : xtab g = nI t'
  · refine ⟨xsha, by rw [cn_self e]; exact S, ?_⟩
    intro xnew xold turn left xsay xfail xwhr xword xcon xop xreg xadr xuse xsht xkep xsta xpsw xpen xrgs pag stp int hel xfro xbef xbeh xsai post h
    rw [cn_self e] at h
    unfold wpX_retable
    dsimp only
    rw [cg]
    exact ⟨cn_in hg, br_t e h⟩
  · refine ⟨cm_st xsha (8 * g) (-1) 8, cm_Sclear ?_, ?_⟩
    · intro g' hg' ne t ht et p hp
      rw [cn_un ne] at et
      exact S g' hg' t ht et p hp
    · intro xnew xold turn left xsay xfail xwhr xword xcon xop xreg xadr xuse xsht xkep xsta xpsw xpen xrgs pag stp int hel xfro xbef xbeh xsai post h
      unfold wpX_retable
      dsimp only
      rw [cg, cn_vbb (by omega)]
      refine ⟨cn_in hg, br_f e ⟨cn_in hg, nm_e (nm_r (cn_8 g) ⟨9, ?_⟩)⟩⟩
      have h9 := ct_x24 hg h 8 0 rfl
      rw [cm_st0] at h9
      exact h9
/-! X's memory and Y's memory up to the access -/
theorem ct_xm_lo {g x o r a : Nat} {post : SX → Prop} (hx : x < 320) (ho : o < 8) (er : xreg x = nI r) (ea : xadr x = nI a) (h : wX_memory_47 post (nI g) (nI o) (nI (4 * g + r)) (nI a) xnew xold turn left xsay xfail xwhr xword xcon xop xreg xadr xuse xsht xkep xsta xtab xpsw xpen xrgs pag stp int xsha hel xfro xbef xbeh xsai) : wpX_memory post (xnew, xold, turn, left, xsay, xfail, xwhr, xword, xcon, xop, xreg, xadr, xuse, xsht, xkep, xsta, xtab, xpsw, xpen, xrgs, pag, stp, int, xsha, hel, xfro, xbef, xbeh, xsai) (nI g) (nI x) (nI o) := by
  have cx : (nI x).toNatClampNeg = x := nI_clamp (by omega)
  unfold wpX_memory
  dsimp only
  rw [cx, er, ea]
  exact ⟨cn_in hx, nm_r (by rw [cn_4, nI_add]) (br_t (nI_lt (b := 8) ho (by decide)) ⟨cn_in hx, h⟩)⟩
theorem ct_xm_hi {g x o r c a : Nat} {post : SX → Prop} (hg : g < 3) (hx : x < 320) (ho : 8 ≤ o) (ho2 : o < 16) (hc : c < 4) (er : xreg x = nI r) (ec : xcon x &&& 3 = nI c) (ea : xrgs (4 * g + c) &&& 63 = nI a) (h : wX_memory_47 post (nI g) (nI o) (nI (4 * g + r)) (nI a) xnew xold turn left xsay xfail xwhr xword xcon xop xreg xadr xuse xsht xkep xsta xtab xpsw xpen xrgs pag stp int xsha hel xfro xbef xbeh xsai) : wpX_memory post (xnew, xold, turn, left, xsay, xfail, xwhr, xword, xcon, xop, xreg, xadr, xuse, xsht, xkep, xsta, xtab, xpsw, xpen, xrgs, pag, stp, int, xsha, hel, xfro, xbef, xbeh, xsai) (nI g) (nI x) (nI o) := by
  have cx : (nI x).toNatClampNeg = x := nI_clamp (by omega)
  have i1 : (4 * nI g) + nI c = nI (4 * g + c) := by rw [cn_4, nI_add]
  have c1 : (nI (4 * g + c)).toNatClampNeg = 4 * g + c := nI_clamp (by omega)
  unfold wpX_memory
  dsimp only
  rw [cx, er, ec, i1, c1, ea]
  exact ⟨cn_in hx, nm_r (by rw [cn_4, nI_add]) (br_f (nI_nlt (b := 8) ho (by omega)) ⟨cn_in hx, cn_in (by omega), h⟩)⟩
theorem ct_ym_lo {g o r a pc : Nat} {w : Int32} {post : SY → Prop} (eo : w &&& 15 = nI o) (er : (w >>> ((4 : Int32) &&& 31)) &&& 3 = nI r) (ea : (w >>> ((6 : Int32) &&& 31)) &&& 63 = nI a) (h8 : ¬ nI o = 8) (h9 : ¬ nI o = 9)
    (h : wY_memory_60 post (nI g) (nI pc) (nI o) (nI (4 * g + r)) (nI a) ynow turn left yword yrgs ypsw ytab ypen ysta ykep pag stp int hel yusd ytal) : wpY_memory post (ynow, turn, left, yword, yrgs, ypsw, ytab, ypen, ysta, ykep, pag, stp, int, hel, yusd, ytal) (nI g) w (nI pc) := by
  unfold wpY_memory
  dsimp only
  exact nm_r eo (nm_r (e' := nI (4 * g + r)) (by rw [er, cn_4, nI_add]) (nm_r ea (br_f h8 (br_f h9 h))))
theorem ct_ym_hi {g o r c a pc : Nat} {w : Int32} {post : SY → Prop} (hg : g < 3) (hc : c < 4) (eo : w &&& 15 = nI o) (er : (w >>> ((4 : Int32) &&& 31)) &&& 3 = nI r) (ec : (w >>> ((12 : Int32) &&& 31)) &&& 3 = nI c) (ea : yrgs (4 * g + c) &&& 63 = nI a) (h8 : nI o = 8 ∨ nI o = 9)
    (h : wY_memory_60 post (nI g) (nI pc) (nI o) (nI (4 * g + r)) (nI a) ynow turn left yword yrgs ypsw ytab ypen ysta ykep pag stp int hel yusd ytal) : wpY_memory post (ynow, turn, left, yword, yrgs, ypsw, ytab, ypen, ysta, ykep, pag, stp, int, hel, yusd, ytal) (nI g) w (nI pc) := by
  have i1 : (4 * nI g) + nI c = nI (4 * g + c) := by rw [cn_4, nI_add]
  have c1 : (nI (4 * g + c)).toNatClampNeg = 4 * g + c := nI_clamp (by omega)
  have k : wY_memory_40 post (nI g) w (nI pc) (nI o) (nI (4 * g + r)) ynow turn left yword yrgs ypsw ytab ypen ysta ykep pag stp int hel yusd ytal := by
    unfold wY_memory_40
    rw [ec, i1, c1]
    exact ⟨cn_in (by omega), nm_r ea h⟩
  unfold wpY_memory
  dsimp only
  refine nm_r eo (nm_r (e' := nI (4 * g + r)) (by rw [er, cn_4, nI_add]) (nm_e ?_))
  rcases h8 with h8 | h8
  · exact br_t h8 k
  · exact br_c (fun _ => k) (fun _ => br_t h8 k)
/-- LOAD, STORE, ADD, FETCH, PLACE -/
theorem ct_136 {g x o r a c p pc : Nat} {w : Int32} (hg : g < 3) (hx : x < 320) (hr : r < 4) (ha : a < 64) (hc : c < 4) (ho : o = 0 ∨ o = 1 ∨ o = 2 ∨ o = 8 ∨ o = 9) (hN : N + 6 < 2000000)
    (eo : w &&& 15 = nI o) (er : (w >>> ((4 : Int32) &&& 31)) &&& 3 = nI r) (ea : (w >>> ((6 : Int32) &&& 31)) &&& 63 = nI a) (ec : (w >>> ((12 : Int32) &&& 31)) &&& 3 = nI c)
    (xr : xreg x = nI r) (xa : xadr x = nI a) (xc : xcon x &&& 3 = nI c)
    (ep : xpsw g = nI p) (ep2 : ypsw g = nI p) (hp : p < 512) (epc : nI p &&& 63 = nI pc) (H : c_R0 N M tn lf xnew xold hel xfro xbef xbeh yusd xword xcon xop xreg xadr xuse xsht yword xsha xsta xtab xpsw xpen xrgs xkep ysta ytab ypsw ypen yrgs ykep xsai ytal) :
    co_Out N M 5 (fun post => wX_step_136 post (nI g) (nI x) (nI o) xnew xold (nI tn) (nI lf) (nI M) 0 xwhr xword xcon xop xreg xadr xuse xsht xkep xsta xtab xpsw xpen xrgs pag stp int xsha hel xfro xbef xbeh xsai) (fun post => wY_step_174 post (nI g) (nI pc) w (lN N) (nI tn) (nI lf) yword yrgs ypsw ytab ypen ysta ykep pag stp int hel yusd ytal) := by
  have eg := H.2.2.2.2.1.2.2.1 (4 * g + c) (by omega)
  obtain ⟨a2, ha2, ea2⟩ := cn_x63 (yrgs (4 * g + c))
  have ea1 := ea2
  rw [← eg] at ea1
  rcases ho with rfl | rfl | rfl | rfl | rfl
  · obtain ⟨N', M', u', v', hN', hM', hR, kX, kY⟩ := ct_memR (stp := stp) (pag := pag) (int := int) (xwhr := xwhr) (o := 0) (r := 4 * g + r) hg (by omega) ha hN (by decide) ep ep2 hp epc H
    exact ⟨N', M', u', v', hN', hM', hR, fun post h => ct_xm_lo hx (by omega) xr xa (br_f (by decide) (br_f (by decide) (kX post h))), fun post h => ct_ym_lo eo er ea (by decide) (by decide) (br_f (by decide) (br_f (by decide) (kY _ (co_ey h))))⟩
  · obtain ⟨N', M', u', v', hN', hM', hR, kX, kY⟩ := ct_memW (stp := stp) (pag := pag) (int := int) (xwhr := xwhr) (o := 1) (r := 4 * g + r) hg (by omega) ha hN ep ep2 hp epc H
    exact ⟨N', M', u', v', hN', hM', hR, fun post h => ct_xm_lo hx (by omega) xr xa (br_t rfl (kX post h)), fun post h => ct_ym_lo eo er ea (by decide) (by decide) (br_t rfl (kY _ (co_ey h)))⟩
  · obtain ⟨N', M', u', v', hN', hM', hR, kX, kY⟩ := ct_memR (stp := stp) (pag := pag) (int := int) (xwhr := xwhr) (o := 2) (r := 4 * g + r) hg (by omega) ha hN (by decide) ep ep2 hp epc H
    exact ⟨N', M', u', v', hN', hM', hR, fun post h => ct_xm_lo hx (by omega) xr xa (br_f (by decide) (br_f (by decide) (kX post h))), fun post h => ct_ym_lo eo er ea (by decide) (by decide) (br_f (by decide) (br_f (by decide) (kY _ (co_ey h))))⟩
  · obtain ⟨N', M', u', v', hN', hM', hR, kX, kY⟩ := ct_memR (stp := stp) (pag := pag) (int := int) (xwhr := xwhr) (o := 8) (r := 4 * g + r) (a := a2) hg (by omega) ha2 hN (by decide) ep ep2 hp epc H
    exact ⟨N', M', u', v', hN', hM', hR, fun post h => ct_xm_hi hg hx (by omega) (by omega) hc xr xc ea1 (br_f (by decide) (br_f (by decide) (kX post h))), fun post h => ct_ym_hi hg hc eo er ec ea2 (Or.inl rfl) (br_f (by decide) (br_f (by decide) (kY _ (co_ey h))))⟩
  · obtain ⟨N', M', u', v', hN', hM', hR, kX, kY⟩ := ct_memW (stp := stp) (pag := pag) (int := int) (xwhr := xwhr) (o := 9) (r := 4 * g + r) (a := a2) hg (by omega) ha2 hN ep ep2 hp epc H
    exact ⟨N', M', u', v', hN', hM', hR, fun post h => ct_xm_hi hg hx (by omega) (by omega) hc xr xc ea1 (br_f (by decide) (br_t rfl (kX post h))), fun post h => ct_ym_hi hg hc eo er ec ea2 (Or.inr rfl) (br_f (by decide) (br_t rfl (kY _ (co_ey h))))⟩
/-! SET, MORE, GO, ZERO, BELOW -/
theorem ct_95n {g x p pc j : Nat} {post : SX → Prop} (hg : g < 3) (hj : j < 512) (ep : xpsw g = nI p) (ej : ((nI p &&& (-64)) ||| ((nI pc + 1) &&& 63)) = nI j) (h : post (xnew, xold, turn, left, xsay, xfail, xwhr, xword, xcon, xop, xreg, xadr, xuse, xsht, xkep, xsta, xtab, upd xpsw g (nI j), xpen, xrgs, pag, stp, int, xsha, hel, xfro, xbef, xbeh, xsai)) : wX_plain_95 post (nI g) (nI x) (nI pc) 0 xnew xold turn left xsay xfail xwhr xword xcon xop xreg xadr xuse xsht xkep xsta xtab xpsw xpen xrgs pag stp int xsha hel xfro xbef xbeh xsai :=
  br_t rfl (cp_xon hg hj ep ej (co_ex h))
theorem ct_95g {g x p pc a j : Nat} {post : SX → Prop} (hg : g < 3) (hx : x < 320) (hj : j < 512) (xa : xadr x = nI a) (ep : xpsw g = nI p) (ej : ((nI p &&& (-64)) ||| (nI a &&& 63)) = nI j) (h : post (xnew, xold, turn, left, xsay, xfail, xwhr, xword, xcon, xop, xreg, xadr, xuse, xsht, xkep, xsta, xtab, upd xpsw g (nI j), xpen, xrgs, pag, stp, int, xsha, hel, xfro, xbef, xbeh, xsai)) : wX_plain_95 post (nI g) (nI x) (nI pc) 1 xnew xold turn left xsay xfail xwhr xword xcon xop xreg xadr xuse xsht xkep xsta xtab xpsw xpen xrgs pag stp int xsha hel xfro xbef xbeh xsai := by
  have cx : (nI x).toNatClampNeg = x := nI_clamp (by omega)
  unfold wX_plain_95
  rw [cx, xa]
  exact br_f (by decide) ⟨cn_in hx, cp_xon hg hj ep ej (co_ex h)⟩
theorem ct_208 {g p o j : Nat} {w x5 x6 x7 : Int32} {post : SY → Prop} (hg : g < 3) (eo : w &&& 15 = nI o) (ho : ¬ nI o = 10) (ep : ypsw g = nI p) (ej : ((nI p &&& (-64)) ||| (x7 &&& 63)) = nI j) (h : post (ynow, turn, left, yword, yrgs, upd ypsw g (nI j), ytab, ypen, ysta, ykep, pag, stp, int, hel, yusd, ytal)) : wY_plain_208 post (nI g) w x5 x6 x7 ynow turn left yword yrgs ypsw ytab ypen ysta ykep pag stp int hel yusd ytal := by
  unfold wY_plain_208
  rw [eo]
  exact cp_yon hg ep ej (br_f ho h)
end
end
section
section
variable {xnew : Int32} {xold : Int32} {turn : Int32} {left : Int32} {xsay : Int32} {xfail : Int32} {xwhr : Int32} {xword : Nat → Int32} {xcon : Nat → Int32} {xop : Nat → Int32} {xreg : Nat → Int32} {xadr : Nat → Int32} {xuse : Nat → Int32} {xsht : Nat → Int32} {xkep : Nat → Int32} {xsta : Nat → Int32} {xtab : Nat → Int32} {xpsw : Nat → Int32} {xpen : Nat → Int32} {xrgs : Nat → Int32} {pag : Nat → Int32} {stp : Nat → Int32} {int : Nat → Int32} {xsha : Nat → Int32} {hel : Nat → Int32} {xfro : Nat → Int32} {xbef : Nat → Int32} {xbeh : Nat → Int32} {xsai : Nat → Int64}
variable {ynow : Int64} {yword : Nat → Int32} {yrgs : Nat → Int32} {ypsw : Nat → Int32} {ytab : Nat → Int32} {ypen : Nat → Int32} {ysta : Nat → Int32} {ykep : Nat → Int32} {yusd : Nat → Int64} {ytal : Nat → Int64}
variable {tn lf N M : Nat}
/-- SET, MORE, GO, ZERO, BELOW -/
theorem ct_plain {g x o r a p pc : Nat} {w : Int32} (hg : g < 3) (hx : x < 320) (hr : r < 4) (ha : a < 64) (ho : o = 3 ∨ o = 4 ∨ o = 5 ∨ o = 6 ∨ o = 7)
    (eo : w &&& 15 = nI o) (er : (w >>> ((4 : Int32) &&& 31)) &&& 3 = nI r) (ea : (w >>> ((6 : Int32) &&& 31)) &&& 63 = nI a)
    (xr : xreg x = nI r) (xa : xadr x = nI a) (xc : xcon x = w >>> ((12 : Int32) &&& 31))
    (ep : xpsw g = nI p) (ep2 : ypsw g = nI p) (hp : p < 512) (H : c_R0 N M tn lf xnew xold hel xfro xbef xbeh yusd xword xcon xop xreg xadr xuse xsht yword xsha xsta xtab xpsw xpen xrgs xkep ysta ytab ypsw ypen yrgs ykep xsai ytal) :
    co_Out N M 0 (fun post => wpX_plain (fun u => match u with | (xnew, xold, turn, left, xsay, xfail, xwhr, xword, xcon, xop, xreg, xadr, xuse, xsht, xkep, xsta, xtab, xpsw, xpen, xrgs, pag, stp, int, xsha, hel, xfro, xbef, xbeh, xsai) => wX_step_158 post (nI g) xnew xold turn left xsay xfail xwhr xword xcon xop xreg xadr xuse xsht xkep xsta xtab xpsw xpen xrgs pag stp int xsha hel xfro xbef xbeh xsai) (xnew, xold, nI tn, nI lf, nI M, 0, xwhr, xword, xcon, xop, xreg, xadr, xuse, xsht, xkep, xsta, xtab, xpsw, xpen, xrgs, pag, stp, int, xsha, hel, xfro, xbef, xbeh, xsai) (nI g) (nI x) (nI o) (nI pc)) (fun post => wpY_plain post (lN N, nI tn, nI lf, yword, yrgs, ypsw, ytab, ypen, ysta, ykep, pag, stp, int, hel, yusd, ytal) (nI g) w (nI pc)) := by
  obtain ⟨hT, hF, hM, hS, hG, hL⟩ := H
  have eg := hG.2.2.1 (4 * g + r) (by omega)
  have cx : (nI x).toNatClampNeg = x := nI_clamp (by omega)
  have cr : (nI (4 * g + r)).toNatClampNeg = 4 * g + r := nI_clamp (by omega)
  have i1 : (4 * nI g) + nI r = nI (4 * g + r) := by rw [cn_4, nI_add]
  obtain ⟨j, hj, ej⟩ := cn_psw hp (nI pc + 1)
  obtain ⟨k, hk, ek⟩ := cn_psw hp (nI a)
  have hX : ∀ post : SX → Prop, (∀ x5 : Int32, x5 = nI (4 * g + r) → ((nI o = 5 → (wX_plain_49 post (nI g) (nI x) (nI o) (nI pc) x5 xnew xold (nI tn) (nI lf) (nI M) 0 xwhr xword xcon xop xreg xadr xuse xsht xkep xsta xtab xpsw xpen xrgs pag stp int xsha hel xfro xbef xbeh xsai)) ∧ (¬ nI o = 5 → (((nI o = 6 → (vp_in x5 12 ∧ ((((xrgs x5.toNatClampNeg) = 0 → (wX_plain_49 post (nI g) (nI x) (nI o) (nI pc) x5 xnew xold (nI tn) (nI lf) (nI M) 0 xwhr xword xcon xop xreg xadr xuse xsht xkep xsta xtab xpsw xpen xrgs pag stp int xsha hel xfro xbef xbeh xsai)) ∧ (¬ (xrgs x5.toNatClampNeg) = 0 → (wX_plain_33 post (nI g) (nI x) (nI o) (nI pc) x5 xnew xold (nI tn) (nI lf) (nI M) 0 xwhr xword xcon xop xreg xadr xuse xsht xkep xsta xtab xpsw xpen xrgs pag stp int xsha hel xfro xbef xbeh xsai)))))) ∧ (¬ nI o = 6 → (wX_plain_33 post (nI g) (nI x) (nI o) (nI pc) x5 xnew xold (nI tn) (nI lf) (nI M) 0 xwhr xword xcon xop xreg xadr xuse xsht xkep xsta xtab xpsw xpen xrgs pag stp int xsha hel xfro xbef xbeh xsai))))))) → wpX_plain post (xnew, xold, nI tn, nI lf, nI M, 0, xwhr, xword, xcon, xop, xreg, xadr, xuse, xsht, xkep, xsta, xtab, xpsw, xpen, xrgs, pag, stp, int, xsha, hel, xfro, xbef, xbeh, xsai) (nI g) (nI x) (nI o) (nI pc) := by
    intro post h
    unfold wpX_plain
    dsimp only
    rw [cx, xr, i1]
    exact ⟨cn_in hx, h⟩
  have hY : ∀ post : SY → Prop, (∀ k5 : Int32, k5 = nI o → wpY_plain post (lN N, nI tn, nI lf, yword, yrgs, ypsw, ytab, ypen, ysta, ykep, pag, stp, int, hel, yusd, ytal) (nI g) w (nI pc)) → wpY_plain post (lN N, nI tn, nI lf, yword, yrgs, ypsw, ytab, ypen, ysta, ykep, pag, stp, int, hel, yusd, ytal) (nI g) w (nI pc) := fun post h => h _ rfl
  rcases ho with rfl | rfl | rfl | rfl | rfl
  · refine ⟨N, M, _, _, Nat.le_refl _, Nat.le_succ _, c_mk (pag := pag) (stp := stp) (int := int) (xwhr := xwhr) ⟨hT, hF, hM, hS, cg_reg (w >>> ((12 : Int32) &&& 31)) (j := 4 * g + r) (by omega) (cg_psw hg hj hG), hL⟩, fun post h => ?_, fun post h => ?_⟩
    · refine hX _ (nm_e (br_f (by decide) (br_f (by decide) (br_f (by decide) (br_t rfl ⟨cn_in hx, cn_in (by omega), nm_r (e' := upd xrgs (4 * g + r) (w >>> ((12 : Int32) &&& 31))) (by rw [cr, cx, xc]) (br_f (by decide) ?_)⟩)))))
      exact ct_95n hg hj ep ej (br_t rfl h)
    · unfold wpY_plain
      dsimp only
      rw [er, i1, ea, eo]
      exact nm_e (nm_e (nm_e (nm_e (nm_e (br_f (by decide) (br_f (by decide) (br_t rfl ⟨cn_in (by omega), nm_r (e' := upd yrgs (4 * g + r) (w >>> ((12 : Int32) &&& 31))) (by rw [cr]) (ct_208 hg eo (by decide) ep2 ej h)⟩)))))))
  · refine ⟨N, M, _, _, Nat.le_refl _, Nat.le_succ _, c_mk (pag := pag) (stp := stp) (int := int) (xwhr := xwhr) ⟨hT, hF, hM, hS, cg_reg (yrgs (4 * g + r) + (w >>> ((12 : Int32) &&& 31))) (j := 4 * g + r) (by omega) (cg_psw hg hj hG), hL⟩, fun post h => ?_, fun post h => ?_⟩
    · refine hX _ (nm_e (br_f (by decide) (br_f (by decide) (br_f (by decide) (br_f (by decide) (br_t rfl ⟨cn_in (by omega), cn_in hx, cn_in (by omega), nm_r (e' := upd xrgs (4 * g + r) (yrgs (4 * g + r) + (w >>> ((12 : Int32) &&& 31)))) (by rw [cr, cx, xc, eg]) ?_⟩))))))
      exact ct_95n hg hj ep ej (br_t rfl h)
    · unfold wpY_plain
      dsimp only
      rw [er, i1, ea, eo]
      exact nm_e (nm_e (nm_e (nm_e (nm_e (br_f (by decide) (br_f (by decide) (br_f (by decide) (br_t rfl ⟨cn_in (by omega), cn_in (by omega), nm_r (e' := upd yrgs (4 * g + r) (yrgs (4 * g + r) + (w >>> ((12 : Int32) &&& 31)))) (by rw [cr]) (ct_208 hg eo (by decide) ep2 ej h)⟩))))))))
  · refine ⟨N, M, _, _, Nat.le_refl _, Nat.le_succ _, c_mk (pag := pag) (stp := stp) (int := int) (xwhr := xwhr) ⟨hT, hF, hM, hS, cg_psw hg hk hG, hL⟩, fun post h => ?_, fun post h => ?_⟩
    · refine hX _ (nm_e (br_t rfl (br_f (by decide) (br_f (by decide) ?_))))
      exact ct_95g hg hx hk xa ep ek (br_t rfl h)
    · unfold wpY_plain
      dsimp only
      rw [er, i1, ea, eo]
      exact nm_e (nm_e (nm_e (nm_e (nm_e (br_f (by decide) (br_f (by decide) (br_f (by decide) (br_f (by decide) (br_t rfl (ct_208 hg eo (by decide) ep2 ek h))))))))))
  · by_cases z : yrgs (4 * g + r) = 0
    · refine ⟨N, M, _, _, Nat.le_refl _, Nat.le_succ _, c_mk (pag := pag) (stp := stp) (int := int) (xwhr := xwhr) ⟨hT, hF, hM, hS, cg_psw hg hk hG, hL⟩, fun post h => ?_, fun post h => ?_⟩
      · refine hX _ (nm_e (br_f (by decide) (br_t rfl ⟨cn_in (by omega), br_t (by rw [cr, eg]; exact z) (br_f (by decide) (br_f (by decide) ?_))⟩)))
        exact ct_95g hg hx hk xa ep ek (br_t rfl h)
      · unfold wpY_plain
        dsimp only
        rw [er, i1, ea, eo]
        exact nm_e (nm_e (nm_e (nm_e (nm_e (br_f (by decide) (br_f (by decide) (br_f (by decide) (br_f (by decide) (br_f (by decide) (br_t rfl ⟨cn_in (by omega), br_t (by rw [cr]; exact z) (ct_208 hg eo (by decide) ep2 ek h)⟩))))))))))
    · refine ⟨N, M, _, _, Nat.le_refl _, Nat.le_succ _, c_mk (pag := pag) (stp := stp) (int := int) (xwhr := xwhr) ⟨hT, hF, hM, hS, cg_psw hg hj hG, hL⟩, fun post h => ?_, fun post h => ?_⟩
      · refine hX _ (nm_e (br_f (by decide) (br_t rfl ⟨cn_in (by omega), br_f (by rw [cr, eg]; exact z) (br_f (by decide) (br_f (by decide) (br_f (by decide) ?_)))⟩)))
        exact ct_95n hg hj ep ej (br_t rfl h)
      · unfold wpY_plain
        dsimp only
        rw [er, i1, ea, eo]
        exact nm_e (nm_e (nm_e (nm_e (nm_e (br_f (by decide) (br_f (by decide) (br_f (by decide) (br_f (by decide) (br_f (by decide) (br_t rfl ⟨cn_in (by omega), br_f (by rw [cr]; exact z) (ct_208 hg eo (by decide) ep2 ej h)⟩))))))))))
  · by_cases z : 0 ≤ yrgs (4 * g + r)
    · refine ⟨N, M, _, _, Nat.le_refl _, Nat.le_succ _, c_mk (pag := pag) (stp := stp) (int := int) (xwhr := xwhr) ⟨hT, hF, hM, hS, cg_psw hg hj hG, hL⟩, fun post h => ?_, fun post h => ?_⟩
      · refine hX _ (nm_e (br_f (by decide) (br_f (by decide) (br_t rfl ⟨cn_in (by omega), br_t (by rw [cr, eg]; exact z) (br_f (by decide) (br_f (by decide) ?_))⟩))))
        exact ct_95n hg hj ep ej (br_t rfl h)
      · unfold wpY_plain
        dsimp only
        rw [er, i1, ea, eo]
        exact nm_e (nm_e (nm_e (nm_e (nm_e (br_f (by decide) (br_f (by decide) (br_f (by decide) (br_f (by decide) (br_f (by decide) (br_f (by decide) (br_t rfl ⟨cn_in (by omega), br_t (by rw [cr]; exact z) (ct_208 hg eo (by decide) ep2 ej h)⟩)))))))))))
    · refine ⟨N, M, _, _, Nat.le_refl _, Nat.le_succ _, c_mk (pag := pag) (stp := stp) (int := int) (xwhr := xwhr) ⟨hT, hF, hM, hS, cg_psw hg hk hG, hL⟩, fun post h => ?_, fun post h => ?_⟩
      · refine hX _ (nm_e (br_f (by decide) (br_f (by decide) (br_t rfl ⟨cn_in (by omega), br_f (by rw [cr, eg]; exact z) (br_f (by decide) (br_f (by decide) ?_))⟩))))
        exact ct_95g hg hx hk xa ep ek (br_t rfl h)
      · unfold wpY_plain
        dsimp only
        rw [er, i1, ea, eo]
        exact nm_e (nm_e (nm_e (nm_e (nm_e (br_f (by decide) (br_f (by decide) (br_f (by decide) (br_f (by decide) (br_f (by decide) (br_f (by decide) (br_t rfl ⟨cn_in (by omega), br_f (by rw [cr]; exact z) (ct_208 hg eo (by decide) ep2 ek h)⟩)))))))))))
end
end
section
/-! CALL, LPSW, TABLE, TELL, WAIT, and what is none -/
section
variable {xnew : Int32} {xold : Int32} {turn : Int32} {left : Int32} {xsay : Int32} {xfail : Int32} {xwhr : Int32} {xword : Nat → Int32} {xcon : Nat → Int32} {xop : Nat → Int32} {xreg : Nat → Int32} {xadr : Nat → Int32} {xuse : Nat → Int32} {xsht : Nat → Int32} {xkep : Nat → Int32} {xsta : Nat → Int32} {xtab : Nat → Int32} {xpsw : Nat → Int32} {xpen : Nat → Int32} {xrgs : Nat → Int32} {pag : Nat → Int32} {stp : Nat → Int32} {int : Nat → Int32} {xsha : Nat → Int32} {hel : Nat → Int32} {xfro : Nat → Int32} {xbef : Nat → Int32} {xbeh : Nat → Int32} {xsai : Nat → Int64}
variable {ynow : Int64} {yword : Nat → Int32} {yrgs : Nat → Int32} {ypsw : Nat → Int32} {ytab : Nat → Int32} {ypen : Nat → Int32} {ysta : Nat → Int32} {ykep : Nat → Int32} {yusd : Nat → Int64} {ytal : Nat → Int64}
variable {tn lf N M : Nat}
theorem ct_xr15 {g x pc : Nat} {post : SX → Prop} (hx : x < 320) (h : wX_rare_48 post (nI pc) 1 xnew xold turn left xsay xfail xwhr xword xcon xop xreg xadr xuse xsht xkep xsta xtab xpsw xpen xrgs pag stp int xsha hel xfro xbef xbeh xsai) : wpX_rare post (xnew, xold, turn, left, xsay, xfail, xwhr, xword, xcon, xop, xreg, xadr, xuse, xsht, xkep, xsta, xtab, xpsw, xpen, xrgs, pag, stp, int, xsha, hel, xfro, xbef, xbeh, xsai) (nI g) (nI x) (nI 15) (nI pc) :=
  ⟨cn_in hx, nm_e (br_f (by decide) (br_f (by decide) h))⟩
theorem ct_xr48 {g x o pc : Nat} {post : SX → Prop} (hg : g < 3) (hx : x < 320) (ho : 10 < o) (ho2 : o ≤ 14) (hp : ¬ xpsw g &&& 64 = 0) (h : wX_rare_48 post (nI pc) 0 xnew xold turn left xsay xfail xwhr xword xcon xop xreg xadr xuse xsht xkep xsta xtab xpsw xpen xrgs pag stp int xsha hel xfro xbef xbeh xsai) : wpX_rare post (xnew, xold, turn, left, xsay, xfail, xwhr, xword, xcon, xop, xreg, xadr, xuse, xsht, xkep, xsta, xtab, xpsw, xpen, xrgs, pag, stp, int, xsha, hel, xfro, xbef, xbeh, xsai) (nI g) (nI x) (nI o) (nI pc) := by
  have cg : (nI g).toNatClampNeg = g := nI_clamp (by omega)
  exact ⟨cn_in hx, nm_e (br_t (nI_le (b := 14) ho2 (by decide)) (br_t rfl (br_f (nI_ge (a := 10) ho (by omega)) ⟨cn_in hg, br_f (by rw [cg]; exact hp) h⟩)))⟩
theorem ct_xr69 {g x o r pc : Nat} {post : SX → Prop} (hg : g < 3) (hx : x < 320) (ho : 10 ≤ o) (ho2 : o ≤ 14) (xr : xreg x = nI r) (hp : 10 < o → xpsw g &&& 64 = 0) (h : wX_rare_69 post (nI g) (nI x) (nI o) (nI pc) (nI (4 * g + r)) xnew xold turn left xsay xfail xwhr xword xcon xop xreg xadr xuse xsht xkep xsta xtab xpsw xpen xrgs pag stp int xsha hel xfro xbef xbeh xsai) : wpX_rare post (xnew, xold, turn, left, xsay, xfail, xwhr, xword, xcon, xop, xreg, xadr, xuse, xsht, xkep, xsta, xtab, xpsw, xpen, xrgs, pag, stp, int, xsha, hel, xfro, xbef, xbeh, xsai) (nI g) (nI x) (nI o) (nI pc) := by
  have cg : (nI g).toNatClampNeg = g := nI_clamp (by omega)
  have cx : (nI x).toNatClampNeg = x := nI_clamp (by omega)
  refine ⟨cn_in hx, nm_r (e' := nI (4 * g + r)) (by rw [cx, xr, cn_4, nI_add]) (br_t (nI_le (b := 14) ho2 (by decide)) (br_t rfl ?_))⟩
  exact pk_le o 10 (fun _ => h) (fun k => ⟨cn_in hg, br_t (by rw [cg]; exact hp k) h⟩)
theorem ct_bad {g x pc : Nat} (hg : g < 3) (hx : x < 320) (hN : N + 4 < 2000000) (H : c_R0 N M tn lf xnew xold hel xfro xbef xbeh yusd xword xcon xop xreg xadr xuse xsht yword xsha xsta xtab xpsw xpen xrgs xkep ysta ytab ypsw ypen yrgs ykep xsai ytal) :
    co_Out N M 5 (fun post => wpX_rare (fun u => match u with | (xnew, xold, turn, left, xsay, xfail, xwhr, xword, xcon, xop, xreg, xadr, xuse, xsht, xkep, xsta, xtab, xpsw, xpen, xrgs, pag, stp, int, xsha, hel, xfro, xbef, xbeh, xsai) => wX_step_158 post (nI g) xnew xold turn left xsay xfail xwhr xword xcon xop xreg xadr xuse xsht xkep xsta xtab xpsw xpen xrgs pag stp int xsha hel xfro xbef xbeh xsai) (xnew, xold, nI tn, nI lf, nI M, 0, xwhr, xword, xcon, xop, xreg, xadr, xuse, xsht, xkep, xsta, xtab, xpsw, xpen, xrgs, pag, stp, int, xsha, hel, xfro, xbef, xbeh, xsai) (nI g) (nI x) (nI 15) (nI pc)) (fun post => wpY_program post (lN N, nI tn, nI lf, yword, yrgs, ypsw, ytab, ypen, ysta, ykep, pag, stp, int, hel, yusd, ytal) (nI g) (nI 1) (nI pc)) := by
  obtain ⟨N', M', u', v', hN', hM', hR, kX, kY⟩ := ct_fail (stp := stp) (pag := pag) (int := int) (c := 1) (nI pc) hg (by omega) (by omega) hN H
  exact ⟨N', M', u', v', by omega, hM', hR, fun post h => ct_xr15 hx (br_f (by decide) (kX post h)), kY⟩
theorem ct_priv {g x o pc : Nat} (hg : g < 3) (hx : x < 320) (ho : 10 < o) (ho2 : o ≤ 14) (hp : ¬ xpsw g &&& 64 = 0) (hN : N + 4 < 2000000) (H : c_R0 N M tn lf xnew xold hel xfro xbef xbeh yusd xword xcon xop xreg xadr xuse xsht yword xsha xsta xtab xpsw xpen xrgs xkep ysta ytab ypsw ypen yrgs ykep xsai ytal) :
    co_Out N M 5 (fun post => wpX_rare (fun u => match u with | (xnew, xold, turn, left, xsay, xfail, xwhr, xword, xcon, xop, xreg, xadr, xuse, xsht, xkep, xsta, xtab, xpsw, xpen, xrgs, pag, stp, int, xsha, hel, xfro, xbef, xbeh, xsai) => wX_step_158 post (nI g) xnew xold turn left xsay xfail xwhr xword xcon xop xreg xadr xuse xsht xkep xsta xtab xpsw xpen xrgs pag stp int xsha hel xfro xbef xbeh xsai) (xnew, xold, nI tn, nI lf, nI M, 0, xwhr, xword, xcon, xop, xreg, xadr, xuse, xsht, xkep, xsta, xtab, xpsw, xpen, xrgs, pag, stp, int, xsha, hel, xfro, xbef, xbeh, xsai) (nI g) (nI x) (nI o) (nI pc)) (fun post => wpY_program post (lN N, nI tn, nI lf, yword, yrgs, ypsw, ytab, ypen, ysta, ykep, pag, stp, int, hel, yusd, ytal) (nI g) (nI 2) (nI pc)) := by
  obtain ⟨N', M', u', v', hN', hM', hR, kX, kY⟩ := ct_fail (stp := stp) (pag := pag) (int := int) (c := 2) (nI pc) hg (by omega) (by omega) hN H
  exact ⟨N', M', u', v', by omega, hM', hR, fun post h => ct_xr48 hg hx ho ho2 hp (br_t rfl (kX post h)), kY⟩
theorem ct_call {g x r a p pc : Nat} {w : Int32} (hg : g < 3) (hx : x < 320) (hN : N + 4 < 2000000)
    (eo : w &&& 15 = nI 10) (ea : (w >>> ((6 : Int32) &&& 31)) &&& 63 = nI a)
    (xr : xreg x = nI r) (xa : xadr x = nI a) (xc : xcon x = w >>> ((12 : Int32) &&& 31))
    (ep : xpsw g = nI p) (ep2 : ypsw g = nI p) (hp : p < 512) (H : c_R0 N M tn lf xnew xold hel xfro xbef xbeh yusd xword xcon xop xreg xadr xuse xsht yword xsha xsta xtab xpsw xpen xrgs xkep ysta ytab ypsw ypen yrgs ykep xsai ytal) :
    co_Out N M 5 (fun post => wpX_rare (fun u => match u with | (xnew, xold, turn, left, xsay, xfail, xwhr, xword, xcon, xop, xreg, xadr, xuse, xsht, xkep, xsta, xtab, xpsw, xpen, xrgs, pag, stp, int, xsha, hel, xfro, xbef, xbeh, xsai) => wX_step_158 post (nI g) xnew xold turn left xsay xfail xwhr xword xcon xop xreg xadr xuse xsht xkep xsta xtab xpsw xpen xrgs pag stp int xsha hel xfro xbef xbeh xsai) (xnew, xold, nI tn, nI lf, nI M, 0, xwhr, xword, xcon, xop, xreg, xadr, xuse, xsht, xkep, xsta, xtab, xpsw, xpen, xrgs, pag, stp, int, xsha, hel, xfro, xbef, xbeh, xsai) (nI g) (nI x) (nI 10) (nI pc)) (fun post => wpY_plain post (lN N, nI tn, nI lf, yword, yrgs, ypsw, ytab, ypen, ysta, ykep, pag, stp, int, hel, yusd, ytal) (nI g) w (nI pc)) := by
  have cx : (nI x).toNatClampNeg = x := nI_clamp (by omega)
  obtain ⟨j, hj, ej⟩ := cn_psw hp (nI pc + 1)
  obtain ⟨hT, hF, hM, hS, hG, hL⟩ := H
  obtain ⟨u', v', hR, hX, hY⟩ := cp_int (stp := stp) (pag := pag) (int := int) (xwhr := xwhr) (i := 0) ((w >>> ((12 : Int32) &&& 31)) &&& 255) (nI a) hg (by omega) hN ⟨hT, hF, hM, hS, cg_psw hg hj hG, hL⟩
  refine ⟨N + 4, M, u', v', by omega, by omega, hR, fun post h => ?_, fun post h => ?_⟩
  · refine ct_xr69 hg hx (by omega) (by omega) xr (fun k => absurd k (by omega)) (br_f (by decide) (cp_xon hg hj ep ej (br_f (by decide) (br_f (by decide) (br_t rfl ⟨cn_in hx, cn_in hx, ?_⟩)))))
    rw [cx, xa, xc]
    exact hX _ (co_ex (post := fun u => match u with | (xnew, xold, turn, left, xsay, xfail, xwhr, xword, xcon, xop, xreg, xadr, xuse, xsht, xkep, xsta, xtab, xpsw, xpen, xrgs, pag, stp, int, xsha, hel, xfro, xbef, xbeh, xsai) => wX_step_158 post (nI g) xnew xold turn left xsay xfail xwhr xword xcon xop xreg xadr xuse xsht xkep xsta xtab xpsw xpen xrgs pag stp int xsha hel xfro xbef xbeh xsai) (co_158 hR post h))
  · unfold wpY_plain
    dsimp only
    rw [ea, eo]
    refine nm_e (nm_e (nm_e (nm_e (nm_e (br_f (by decide) (br_f (by decide) (br_f (by decide) (br_f (by decide) (br_f (by decide) (br_f (by decide) (br_f (by decide) (br_f (by decide) (br_f (by decide) (br_t rfl ?_))))))))))))))
    unfold wY_plain_208
    rw [eo]
    exact cp_yon hg ep2 ej (br_t rfl (hY _ (co_ey h)))
theorem ct_lpsw {g x r a p pc : Nat} {w : Int32} (hg : g < 3) (hx : x < 320) (ha : a < 64) (hN : N + 6 < 2000000)
    (eo : w &&& 15 = nI 11) (er : (w >>> ((4 : Int32) &&& 31)) &&& 3 = nI r) (ea : (w >>> ((6 : Int32) &&& 31)) &&& 63 = nI a)
    (xr : xreg x = nI r) (xa : xadr x = nI a) (h64 : xpsw g &&& 64 = 0)
    (ep : xpsw g = nI p) (ep2 : ypsw g = nI p) (hp : p < 512) (H : c_R0 N M tn lf xnew xold hel xfro xbef xbeh yusd xword xcon xop xreg xadr xuse xsht yword xsha xsta xtab xpsw xpen xrgs xkep ysta ytab ypsw ypen yrgs ykep xsai ytal) :
    co_Out N M 5 (fun post => wpX_rare (fun u => match u with | (xnew, xold, turn, left, xsay, xfail, xwhr, xword, xcon, xop, xreg, xadr, xuse, xsht, xkep, xsta, xtab, xpsw, xpen, xrgs, pag, stp, int, xsha, hel, xfro, xbef, xbeh, xsai) => wX_step_158 post (nI g) xnew xold turn left xsay xfail xwhr xword xcon xop xreg xadr xuse xsht xkep xsta xtab xpsw xpen xrgs pag stp int xsha hel xfro xbef xbeh xsai) (xnew, xold, nI tn, nI lf, nI M, 0, xwhr, xword, xcon, xop, xreg, xadr, xuse, xsht, xkep, xsta, xtab, xpsw, xpen, xrgs, pag, stp, int, xsha, hel, xfro, xbef, xbeh, xsai) (nI g) (nI x) (nI 11) (nI pc)) (fun post => wY_step_174 post (nI g) (nI pc) w (lN N) (nI tn) (nI lf) yword yrgs ypsw ytab ypen ysta ykep pag stp int hel yusd ytal) := by
  have cx : (nI x).toNatClampNeg = x := nI_clamp (by omega)
  have cg : (nI g).toNatClampNeg = g := nI_clamp (by omega)
  rcases cp_access (pag := pag) 0 hg ha (by omega) H with ⟨c, xsha1, hc, H1, hX, hY⟩ | ⟨b, xsha1, xnew1, xold1, hel1, xfro1, xbef1, xbeh1, pag1, yusd1, hb, H1, hX, hY, hYu⟩
  · have hn := ct_neg hc
    obtain ⟨N', M', u', v', hN', hM', hR, kX, kY⟩ := ct_fail (stp := stp) (pag := pag) (int := int) (c := c) (nI a) hg (by omega) (by omega) (by omega) H1
    refine ⟨N', M', u', v', by omega, hM', hR, fun post h => ?_, fun post h => ?_⟩
    · refine ct_xr69 hg hx (by omega) (by omega) xr (fun _ => h64) (br_t rfl ⟨cn_in hx, ?_⟩)
      rw [cx, xa]
      exact hX _ (br_t cn_m1neg (kX post h))
    · refine ct_ym_lo eo er ea (by decide) (by decide) (br_f (by decide) (br_f (by decide) (hY _ (ct_m63 ha) _ (br_f hn.1 ?_))))
      rw [hn.2]
      exact kY _ (co_ey (co_ey h))
  · obtain ⟨j, hj, ej⟩ := cn_psw hp (nI pc + 1)
    obtain ⟨hT, hF, hM, hS, hG, hL⟩ := H1
    obtain ⟨s4, hs4, es4⟩ := hM.1.1 (8 * g + b / 8) (by omega)
    have ew : xword (8 * s4 + b % 8) = yword (64 * g + b) := by
      rw [hM.2.1 _ (by omega) s4 hs4 es4 _ (by omega)]
      exact congrArg yword (by omega)
    have cw : (nI (8 * s4 + b % 8)).toNatClampNeg = 8 * s4 + b % 8 := nI_clamp (by omega)
    obtain ⟨p', hp', ep'⟩ := cn_x511 (yword (64 * g + b))
    refine ⟨N + 1, M, _, _, by omega, by omega, c_mk (pag := pag1) (stp := stp) (int := int) (xwhr := xwhr) ⟨hT, hF, hM, hS, cg_psw hg hp' hG, hL⟩, fun post h => ?_, fun post h => ?_⟩
    · refine ct_xr69 hg hx (by omega) (by omega) xr (fun _ => h64) (br_t rfl ⟨cn_in hx, ?_⟩)
      rw [cx, xa]
      refine hX _ (br_f (nI_pos (by omega)) (cm_at (by omega) hb hs4 es4 (And.intro (cn_in (by omega)) (And.intro (cn_in hg) ?_))))
      dsimp only
      exact nm_r (e' := upd xpsw g (nI p')) (by rw [cg, cw, ew, ep', cn_vss (by omega)]) (br_t rfl h)
    · refine ct_ym_lo eo er ea (by decide) (by decide) (br_f (by decide) (br_f (by decide) (hY _ (ct_m63 ha) _ (br_t (cn_ge0 (by omega)) (cp_yon hg ep2 ej (br_t rfl (cp_get hg hb (fun p k => hYu p k) (br_t rfl (And.intro (cn_in (by omega)) ?_)))))))))
      exact nm_r (e' := upd ypsw g (nI p')) (by rw [cg, ep', cf_upd2]) h
theorem ct_table {g x r p pc : Nat} {w : Int32} (hg : g < 3) (hx : x < 320) (hr : r < 4)
    (eo : w &&& 15 = nI 12) (er : (w >>> ((4 : Int32) &&& 31)) &&& 3 = nI r)
    (xr : xreg x = nI r) (h64 : xpsw g &&& 64 = 0)
    (ep : xpsw g = nI p) (ep2 : ypsw g = nI p) (hp : p < 512) (H : c_R0 N M tn lf xnew xold hel xfro xbef xbeh yusd xword xcon xop xreg xadr xuse xsht yword xsha xsta xtab xpsw xpen xrgs xkep ysta ytab ypsw ypen yrgs ykep xsai ytal) :
    co_Out N M 5 (fun post => wpX_rare (fun u => match u with | (xnew, xold, turn, left, xsay, xfail, xwhr, xword, xcon, xop, xreg, xadr, xuse, xsht, xkep, xsta, xtab, xpsw, xpen, xrgs, pag, stp, int, xsha, hel, xfro, xbef, xbeh, xsai) => wX_step_158 post (nI g) xnew xold turn left xsay xfail xwhr xword xcon xop xreg xadr xuse xsht xkep xsta xtab xpsw xpen xrgs pag stp int xsha hel xfro xbef xbeh xsai) (xnew, xold, nI tn, nI lf, nI M, 0, xwhr, xword, xcon, xop, xreg, xadr, xuse, xsht, xkep, xsta, xtab, xpsw, xpen, xrgs, pag, stp, int, xsha, hel, xfro, xbef, xbeh, xsai) (nI g) (nI x) (nI 12) (nI pc)) (fun post => wpY_plain post (lN N, nI tn, nI lf, yword, yrgs, ypsw, ytab, ypen, ysta, ykep, pag, stp, int, hel, yusd, ytal) (nI g) w (nI pc)) := by
  have cg : (nI g).toNatClampNeg = g := nI_clamp (by omega)
  have cr : (nI (4 * g + r)).toNatClampNeg = 4 * g + r := nI_clamp (by omega)
  have i1 : (4 * nI g) + nI r = nI (4 * g + r) := by rw [cn_4, nI_add]
  obtain ⟨j, hj, ej⟩ := cn_psw hp (nI pc + 1)
  obtain ⟨hT, hF, hM, hS, hG, hL⟩ := H
  have eg := hG.2.2.1 (4 * g + r) (by omega)
  obtain ⟨t', ht', et'⟩ := cn_x63 (yrgs (4 * g + r))
  obtain ⟨s1, hS1, hXr⟩ := ct_retable hg ht' hS
  refine ⟨N, M, _, _, by omega, by omega, c_mk (pag := pag) (stp := stp) (int := int) (xwhr := xwhr) ⟨hT, hF, hM, hS1, cg_tab hg ht' (cg_psw hg hj hG), hL⟩, fun post h => ?_, fun post h => ?_⟩
  · refine ct_xr69 hg hx (by omega) (by omega) xr (fun _ => h64) (br_f (by decide) (cp_xon hg hj ep ej (br_f (by decide) (br_f (by decide) (br_f (by decide) (br_f (by decide) (br_t rfl ⟨cn_in (by omega), ?_⟩)))))))
    rw [cr, eg, et']
    exact hXr _ (br_t rfl h)
  · unfold wpY_plain
    dsimp only
    rw [er, i1, eo]
    refine nm_e (nm_e (nm_e (nm_e (nm_e (br_f (by decide) (br_f (by decide) (br_f (by decide) (br_f (by decide) (br_f (by decide) (br_f (by decide) (br_f (by decide) (br_f (by decide) (br_f (by decide) (br_f (by decide) (br_f (by decide) (br_t rfl ⟨cn_in (by omega), cn_in (by omega), ?_⟩))))))))))))))))
    exact nm_r (e' := upd ytab g (nI t')) (by rw [cg, cr, et']) (ct_208 hg eo (by decide) ep2 ej h)
theorem ct_tellI {g x r p pc : Nat} {w : Int32} (hg : g < 3) (hx : x < 320) (hr : r < 4) (hM2 : M < 2000000)
    (eo : w &&& 15 = nI 13) (er : (w >>> ((4 : Int32) &&& 31)) &&& 3 = nI r)
    (xr : xreg x = nI r) (h64 : xpsw g &&& 64 = 0)
    (ep : xpsw g = nI p) (ep2 : ypsw g = nI p) (hp : p < 512) (H : c_R0 N M tn lf xnew xold hel xfro xbef xbeh yusd xword xcon xop xreg xadr xuse xsht yword xsha xsta xtab xpsw xpen xrgs xkep ysta ytab ypsw ypen yrgs ykep xsai ytal) :
    co_Out N M 5 (fun post => wpX_rare (fun u => match u with | (xnew, xold, turn, left, xsay, xfail, xwhr, xword, xcon, xop, xreg, xadr, xuse, xsht, xkep, xsta, xtab, xpsw, xpen, xrgs, pag, stp, int, xsha, hel, xfro, xbef, xbeh, xsai) => wX_step_158 post (nI g) xnew xold turn left xsay xfail xwhr xword xcon xop xreg xadr xuse xsht xkep xsta xtab xpsw xpen xrgs pag stp int xsha hel xfro xbef xbeh xsai) (xnew, xold, nI tn, nI lf, nI M, 0, xwhr, xword, xcon, xop, xreg, xadr, xuse, xsht, xkep, xsta, xtab, xpsw, xpen, xrgs, pag, stp, int, xsha, hel, xfro, xbef, xbeh, xsai) (nI g) (nI x) (nI 13) (nI pc)) (fun post => wpY_plain post (lN N, nI tn, nI lf, yword, yrgs, ypsw, ytab, ypen, ysta, ykep, pag, stp, int, hel, yusd, ytal) (nI g) w (nI pc)) := by
  have cr : (nI (4 * g + r)).toNatClampNeg = 4 * g + r := nI_clamp (by omega)
  have i1 : (4 * nI g) + nI r = nI (4 * g + r) := by rw [cn_4, nI_add]
  have c8 : (nI (M % 8)).toNatClampNeg = M % 8 := nI_clamp (by omega)
  obtain ⟨j, hj, ej⟩ := cn_psw hp (nI pc + 1)
  obtain ⟨hT, hF, hM, hS, hG, hL⟩ := H
  have eg := hG.2.2.1 (4 * g + r) (by omega)
  refine ⟨N, M + 1, _, _, by omega, by omega, c_mk (pag := pag) (stp := stp) (int := int) (xwhr := xwhr) ⟨hT, hF, hM, hS, cg_psw hg hj hG, cs_tell (((8589934592 * (nI g).toInt64) + (yrgs (4 * g + r)).toInt64) + 4294967296) (ytal' := vp_updL (cs_sh ytal 0) 0 (((8589934592 * (nI g).toInt64) + (yrgs (4 * g + r)).toInt64) + 4294967296)) hL pk_uLs (fun k hk => (pk_uLn (Nat.succ_ne_zero k)).trans (if_pos ⟨Nat.succ_pos k, by omega⟩))⟩, fun post h => ?_, fun post h => ?_⟩
  · refine ct_xr69 hg hx (by omega) (by omega) xr (fun _ => h64) (br_f (by decide) (cp_xon hg hj ep ej (br_f (by decide) (br_f (by decide) (br_f (by decide) (br_f (by decide) (br_f (by decide) (br_t rfl ⟨cn_in (by omega), ?_⟩))))))))
    rw [cr, eg, cn_a7 (by omega), c8]
    exact ⟨cn_in (by omega), nm_e (nm_r (nI_1 M) (br_t rfl h))⟩
  · unfold wpY_plain
    dsimp only
    rw [er, i1, eo]
    refine nm_e (nm_e (nm_e (nm_e (nm_e (br_f (by decide) (br_f (by decide) (br_f (by decide) (br_f (by decide) (br_f (by decide) (br_f (by decide) (br_f (by decide) (br_f (by decide) (br_f (by decide) (br_f (by decide) (br_f (by decide) (br_f (by decide) (br_t rfl ⟨cn_in (by omega), ?_⟩)))))))))))))))))
    rw [cr]
    exact ct_tell (ct_208 hg eo (by decide) ep2 ej h)
theorem ct_wait {g x r p pc : Nat} {w : Int32} (hg : g < 3) (hx : x < 320)
    (eo : w &&& 15 = nI 14)
    (xr : xreg x = nI r) (h64 : xpsw g &&& 64 = 0)
    (ep : xpsw g = nI p) (ep2 : ypsw g = nI p) (hp : p < 512) (H : c_R0 N M tn lf xnew xold hel xfro xbef xbeh yusd xword xcon xop xreg xadr xuse xsht yword xsha xsta xtab xpsw xpen xrgs xkep ysta ytab ypsw ypen yrgs ykep xsai ytal) :
    co_Out N M 5 (fun post => wpX_rare (fun u => match u with | (xnew, xold, turn, left, xsay, xfail, xwhr, xword, xcon, xop, xreg, xadr, xuse, xsht, xkep, xsta, xtab, xpsw, xpen, xrgs, pag, stp, int, xsha, hel, xfro, xbef, xbeh, xsai) => wX_step_158 post (nI g) xnew xold turn left xsay xfail xwhr xword xcon xop xreg xadr xuse xsht xkep xsta xtab xpsw xpen xrgs pag stp int xsha hel xfro xbef xbeh xsai) (xnew, xold, nI tn, nI lf, nI M, 0, xwhr, xword, xcon, xop, xreg, xadr, xuse, xsht, xkep, xsta, xtab, xpsw, xpen, xrgs, pag, stp, int, xsha, hel, xfro, xbef, xbeh, xsai) (nI g) (nI x) (nI 14) (nI pc)) (fun post => wpY_plain post (lN N, nI tn, nI lf, yword, yrgs, ypsw, ytab, ypen, ysta, ykep, pag, stp, int, hel, yusd, ytal) (nI g) w (nI pc)) := by
  have cg : (nI g).toNatClampNeg = g := nI_clamp (by omega)
  obtain ⟨j, hj, ej⟩ := cn_psw hp (nI pc + 1)
  obtain ⟨hT, hF, hM, hS, hG, hL⟩ := H
  refine ⟨N, M, _, _, by omega, by omega, c_mk (pag := pag) (stp := stp) (int := int) (xwhr := xwhr) ⟨hT, hF, hM, hS, cg_sta (s := 2) hg (by omega) (cg_psw hg hj hG), hL⟩, fun post h => ?_, fun post h => ?_⟩
  · refine ct_xr69 hg hx (by omega) (by omega) xr (fun _ => h64) (br_f (by decide) (cp_xon hg hj ep ej (br_f (by decide) (br_t (by decide) ⟨cn_in hg, ?_⟩))))
    rw [cg, show vp_nar .byte 2 = nI 2 from cn_vb (n := 2) (by omega)]
    exact nm_e (br_t rfl h)
  · unfold wpY_plain
    dsimp only
    rw [eo]
    refine nm_e (nm_e (nm_e (nm_e (nm_e (br_f (by decide) (br_f (by decide) (br_f (by decide) (br_f (by decide) (br_f (by decide) (br_f (by decide) (br_f (by decide) (br_f (by decide) (br_f (by decide) (br_f (by decide) (br_f (by decide) (br_f (by decide) (br_f (by decide) (br_t rfl ⟨cn_in (by omega), ?_⟩))))))))))))))))))
    exact nm_r (e' := upd ysta g (nI 2)) (by rw [cg]; rfl) (ct_208 hg eo (by decide) ep2 ej h)
end
end
section
/-! a step -/
def co_Y87 (post : SY → Prop) (x1 x2 w : Int32) (v : SY) : Prop :=
  match v with
  | (ynow, turn, left, yword, yrgs, ypsw, ytab, ypen, ysta, ykep, pag, stp, int, hel, yusd, ytal) => ∀ x5 : Int32, x5 = w &&& 15 → ((x5 = 15 → (wpY_program (fun u => match u with | (ynow, turn, left, yword, yrgs, ypsw, ytab, ypen, ysta, ykep, pag, stp, int, hel, yusd, ytal) => post (ynow, turn, left, yword, yrgs, ypsw, ytab, ypen, ysta, ykep, pag, stp, int, hel, yusd, ytal)) (ynow, turn, left, yword, yrgs, ypsw, ytab, ypen, ysta, ykep, pag, stp, int, hel, yusd, ytal) x1 1 x2)) ∧ (¬ x5 = 15 → ((x5 ≤ 10 → (wY_step_147 post x1 x2 w x5 ynow turn left yword yrgs ypsw ytab ypen ysta ykep pag stp int hel yusd ytal)) ∧ (¬ x5 ≤ 10 → (vp_in x1 5 ∧ ((((ypsw x1.toNatClampNeg) &&& 64) = 0 → (wY_step_147 post x1 x2 w x5 ynow turn left yword yrgs ypsw ytab ypen ysta ykep pag stp int hel yusd ytal)) ∧ (¬ ((ypsw x1.toNatClampNeg) &&& 64) = 0 → (wpY_program (fun u => match u with | (ynow, turn, left, yword, yrgs, ypsw, ytab, ypen, ysta, ykep, pag, stp, int, hel, yusd, ytal) => post (ynow, turn, left, yword, yrgs, ypsw, ytab, ypen, ysta, ykep, pag, stp, int, hel, yusd, ytal)) (ynow, turn, left, yword, yrgs, ypsw, ytab, ypen, ysta, ykep, pag, stp, int, hel, yusd, ytal) x1 2 x2))))))))
section
variable {xnew : Int32} {xold : Int32} {turn : Int32} {left : Int32} {xsay : Int32} {xfail : Int32} {xwhr : Int32} {xword : Nat → Int32} {xcon : Nat → Int32} {xop : Nat → Int32} {xreg : Nat → Int32} {xadr : Nat → Int32} {xuse : Nat → Int32} {xsht : Nat → Int32} {xkep : Nat → Int32} {xsta : Nat → Int32} {xtab : Nat → Int32} {xpsw : Nat → Int32} {xpen : Nat → Int32} {xrgs : Nat → Int32} {pag : Nat → Int32} {stp : Nat → Int32} {int : Nat → Int32} {xsha : Nat → Int32} {hel : Nat → Int32} {xfro : Nat → Int32} {xbef : Nat → Int32} {xbeh : Nat → Int32} {xsai : Nat → Int64}
variable {ynow : Int64} {yword : Nat → Int32} {yrgs : Nat → Int32} {ypsw : Nat → Int32} {ytab : Nat → Int32} {ypen : Nat → Int32} {ysta : Nat → Int32} {ykep : Nat → Int32} {yusd : Nat → Int64} {ytal : Nat → Int64}
variable {tn lf N M : Nat}
theorem ct_87 {g x o p pc : Nat} {w : Int32} (hg : g < 3) (hx : x < 320) (ho : o < 16) (hN : N + 6 < 2000000) (hM2 : M < 2000000)
    (eo : w &&& 15 = nI o) (xo : xop x = w &&& 15) (xr : xreg x = (w >>> ((4 : Int32) &&& 31)) &&& 3) (xa : xadr x = (w >>> ((6 : Int32) &&& 31)) &&& 63) (xc : xcon x = w >>> ((12 : Int32) &&& 31))
    (ep : xpsw g = nI p) (ep2 : ypsw g = nI p) (hp : p < 512) (epc : nI p &&& 63 = nI pc) (H : c_R0 N M tn lf xnew xold hel xfro xbef xbeh yusd xword xcon xop xreg xadr xuse xsht yword xsha xsta xtab xpsw xpen xrgs xkep ysta ytab ypsw ypen yrgs ykep xsai ytal) :
    co_Out N M 5 (fun post => wX_step_87 post (nI g) (nI pc) (nI x) xnew xold (nI tn) (nI lf) (nI M) 0 xwhr xword xcon xop xreg xadr xuse xsht xkep xsta xtab xpsw xpen xrgs pag stp int xsha hel xfro xbef xbeh xsai) (fun post => co_Y87 post (nI g) (nI pc) w (lN N, nI tn, nI lf, yword, yrgs, ypsw, ytab, ypen, ysta, ykep, pag, stp, int, hel, yusd, ytal)) := by
  have cx : (nI x).toNatClampNeg = x := nI_clamp (by omega)
  have cg : (nI g).toNatClampNeg = g := nI_clamp (by omega)
  obtain ⟨r, hr, er⟩ := cn_x3 (w >>> ((4 : Int32) &&& 31))
  obtain ⟨a, ha, ea⟩ := cn_x63 (w >>> ((6 : Int32) &&& 31))
  obtain ⟨c, hc, ec⟩ := cn_x3 (w >>> ((12 : Int32) &&& 31))
  have xr' := xr.trans er
  have xa' := xa.trans ea
  have xc' : xcon x &&& 3 = nI c := by rw [xc]; exact ec
  have ex : xop (nI x).toNatClampNeg = nI o := by rw [cx, xo, eo]
  have mem : (o = 0 ∨ o = 1 ∨ o = 2 ∨ o = 8 ∨ o = 9) → co_Out N M 5 (fun post => wX_step_87 post (nI g) (nI pc) (nI x) xnew xold (nI tn) (nI lf) (nI M) 0 xwhr xword xcon xop xreg xadr xuse xsht xkep xsta xtab xpsw xpen xrgs pag stp int xsha hel xfro xbef xbeh xsai) (fun post => co_Y87 post (nI g) (nI pc) w (lN N, nI tn, nI lf, yword, yrgs, ypsw, ytab, ypen, ysta, ykep, pag, stp, int, hel, yusd, ytal)) := by
    intro h5
    obtain ⟨N', M', u', v', hN', hM', hR, kX, kY⟩ := ct_136 (stp := stp) (pag := pag) (int := int) (xwhr := xwhr) hg hx hr ha hc h5 hN eo er ea ec xr' xa' xc' ep ep2 hp epc H
    refine ⟨N', M', u', v', hN', hM', hR, fun post h => ⟨cn_in hx, nm_r ex ?_⟩, fun post h => nm_r eo ?_⟩
    · have k := kX post h
      rcases h5 with rfl | rfl | rfl | rfl | rfl
      · exact br_t (by decide) (br_t (by decide) k)
      · exact br_t (by decide) (br_t (by decide) k)
      · exact br_t (by decide) (br_t (by decide) k)
      · exact br_t (by decide) (br_f (by decide) (br_t rfl k))
      · exact br_t (by decide) (br_f (by decide) (br_f (by decide) (br_t rfl k)))
    · have k := kY post h
      rcases h5 with rfl | rfl | rfl | rfl | rfl
      · exact br_f (by decide) (br_t (by decide) (br_t (by decide) k))
      · exact br_f (by decide) (br_t (by decide) (br_t (by decide) k))
      · exact br_f (by decide) (br_t (by decide) (br_t (by decide) k))
      · exact br_f (by decide) (br_t (by decide) (br_f (by decide) (br_t rfl k)))
      · exact br_f (by decide) (br_t (by decide) (br_f (by decide) (br_f (by decide) (br_t rfl k))))
  have plain : (o = 3 ∨ o = 4 ∨ o = 5 ∨ o = 6 ∨ o = 7) → co_Out N M 5 (fun post => wX_step_87 post (nI g) (nI pc) (nI x) xnew xold (nI tn) (nI lf) (nI M) 0 xwhr xword xcon xop xreg xadr xuse xsht xkep xsta xtab xpsw xpen xrgs pag stp int xsha hel xfro xbef xbeh xsai) (fun post => co_Y87 post (nI g) (nI pc) w (lN N, nI tn, nI lf, yword, yrgs, ypsw, ytab, ypen, ysta, ykep, pag, stp, int, hel, yusd, ytal)) := by
    intro h5
    obtain ⟨N', M', u', v', hN', hM', hR, kX, kY⟩ := ct_plain (stp := stp) (pag := pag) (int := int) (xwhr := xwhr) (pc := pc) hg hx hr ha h5 eo er ea xr' xa' xc ep ep2 hp H
    refine ⟨N', M', u', v', by omega, hM', hR, fun post h => ⟨cn_in hx, nm_r ex ?_⟩, fun post h => nm_r eo ?_⟩
    · have k := kX post h
      rcases h5 with rfl | rfl | rfl | rfl | rfl <;> exact br_t (by decide) (br_f (by decide) (br_f (by decide) (br_f (by decide) k)))
    · have k := kY _ (co_ey h)
      rcases h5 with rfl | rfl | rfl | rfl | rfl <;> exact br_f (by decide) (br_t (by decide) (br_f (by decide) (br_f (by decide) (br_f (by decide) (br_f (by decide) k)))))
  have rare : (o = 12 ∨ o = 13 ∨ o = 14) → xpsw g &&& 64 = 0 → co_Out N M 5 (fun post => wpX_rare (fun u => match u with | (xnew, xold, turn, left, xsay, xfail, xwhr, xword, xcon, xop, xreg, xadr, xuse, xsht, xkep, xsta, xtab, xpsw, xpen, xrgs, pag, stp, int, xsha, hel, xfro, xbef, xbeh, xsai) => wX_step_158 post (nI g) xnew xold turn left xsay xfail xwhr xword xcon xop xreg xadr xuse xsht xkep xsta xtab xpsw xpen xrgs pag stp int xsha hel xfro xbef xbeh xsai) (xnew, xold, nI tn, nI lf, nI M, 0, xwhr, xword, xcon, xop, xreg, xadr, xuse, xsht, xkep, xsta, xtab, xpsw, xpen, xrgs, pag, stp, int, xsha, hel, xfro, xbef, xbeh, xsai) (nI g) (nI x) (nI o) (nI pc)) (fun post => wpY_plain post (lN N, nI tn, nI lf, yword, yrgs, ypsw, ytab, ypen, ysta, ykep, pag, stp, int, hel, yusd, ytal) (nI g) w (nI pc)) → co_Out N M 5 (fun post => wX_step_87 post (nI g) (nI pc) (nI x) xnew xold (nI tn) (nI lf) (nI M) 0 xwhr xword xcon xop xreg xadr xuse xsht xkep xsta xtab xpsw xpen xrgs pag stp int xsha hel xfro xbef xbeh xsai) (fun post => co_Y87 post (nI g) (nI pc) w (lN N, nI tn, nI lf, yword, yrgs, ypsw, ytab, ypen, ysta, ykep, pag, stp, int, hel, yusd, ytal)) := by
    intro h5 h64 K
    obtain ⟨N', M', u', v', hN', hM', hR, kX, kY⟩ := K
    have h64' : ypsw (nI g).toNatClampNeg &&& 64 = 0 := by rw [cg, ep2, ← ep]; exact h64
    refine ⟨N', M', u', v', hN', hM', hR, fun post h => ⟨cn_in hx, nm_r ex ?_⟩, fun post h => nm_r eo ?_⟩
    · have k := kX post h
      rcases h5 with rfl | rfl | rfl <;> exact br_f (by decide) k
    · have k := kY _ (co_ey h)
      rcases h5 with rfl | rfl | rfl <;> exact br_f (by decide) (br_f (by decide) ⟨cn_in (by omega), br_t h64' (br_f (by decide) (br_f (by decide) (br_f (by decide) (br_f (by decide) k))))⟩)
  have cases16 : (o = 0 ∨ o = 1 ∨ o = 2 ∨ o = 8 ∨ o = 9) ∨ (o = 3 ∨ o = 4 ∨ o = 5 ∨ o = 6 ∨ o = 7) ∨ o = 10 ∨ o = 15 ∨ (10 < o ∧ o ≤ 14) := by omega
  rcases cases16 with h | h | h | h | h
  · exact mem h
  · exact plain h
  · subst h
    obtain ⟨N', M', u', v', hN', hM', hR, kX, kY⟩ := ct_call (stp := stp) (pag := pag) (int := int) (xwhr := xwhr) (pc := pc) hg hx (by omega) eo ea xr' xa' xc ep ep2 hp H
    exact ⟨N', M', u', v', hN', hM', hR, fun post h => ⟨cn_in hx, nm_r ex (br_f (by decide) (kX post h))⟩, fun post h => nm_r eo (br_f (by decide) (br_t (by decide) (br_f (by decide) (br_f (by decide) (br_f (by decide) (br_f (by decide) (kY _ (co_ey h))))))))⟩
  · subst h
    obtain ⟨N', M', u', v', hN', hM', hR, kX, kY⟩ := ct_bad (stp := stp) (pag := pag) (int := int) (xwhr := xwhr) (pc := pc) hg hx (by omega) H
    exact ⟨N', M', u', v', hN', hM', hR, fun post h => ⟨cn_in hx, nm_r ex (br_f (by decide) (kX post h))⟩, fun post h => nm_r eo (br_t rfl (kY _ (co_ey h)))⟩
  · by_cases h64 : xpsw g &&& 64 = 0
    · have c4 : o = 11 ∨ o = 12 ∨ o = 13 ∨ o = 14 := by omega
      rcases c4 with h4 | h4 | h4 | h4
      · subst h4
        have h64' : ypsw (nI g).toNatClampNeg &&& 64 = 0 := by rw [cg, ep2, ← ep]; exact h64
        obtain ⟨N', M', u', v', hN', hM', hR, kX, kY⟩ := ct_lpsw (stp := stp) (pag := pag) (int := int) (xwhr := xwhr) (pc := pc) hg hx ha hN eo er ea xr' xa' h64 ep ep2 hp H
        exact ⟨N', M', u', v', hN', hM', hR, fun post h => ⟨cn_in hx, nm_r ex (br_f (by decide) (kX post h))⟩, fun post h => nm_r eo (br_f (by decide) (br_f (by decide) ⟨cn_in (by omega), br_t h64' (br_f (by decide) (br_f (by decide) (br_f (by decide) (br_t rfl (kY post h)))))⟩))⟩
      · subst h4
        exact rare (by omega) h64 (ct_table hg hx hr eo er xr' h64 ep ep2 hp H)
      · subst h4
        exact rare (by omega) h64 (ct_tellI hg hx hr hM2 eo er xr' h64 ep ep2 hp H)
      · subst h4
        exact rare (by omega) h64 (ct_wait hg hx eo xr' h64 ep ep2 hp H)
    · have h64' : ¬ ypsw (nI g).toNatClampNeg &&& 64 = 0 := by rw [cg, ep2, ← ep]; exact h64
      obtain ⟨N', M', u', v', hN', hM', hR, kX, kY⟩ := ct_priv (stp := stp) (pag := pag) (int := int) (xwhr := xwhr) (pc := pc) hg hx h.1 h.2 h64 (by omega) H
      have c1 : ¬ nI o < 10 := nI_nlt (b := 10) (by omega) (by omega)
      have c2 : ¬ nI o = 15 := fun z => absurd (cn_inj (b := 15) z (by omega) (by decide)) (by omega)
      have c3 : ¬ nI o ≤ 10 := nI_ge (a := 10) h.1 (by omega)
      exact ⟨N', M', u', v', hN', hM', hR, fun post h => ⟨cn_in hx, nm_r ex (br_f c1 (kX post h))⟩, fun post h => nm_r eo (br_f c2 (br_f c3 ⟨cn_in (by omega), br_f h64' (kY _ (co_ey h))⟩))⟩
theorem ct_nar {w : Int32} {j n : Nat} (hn : n < 128) (hj : j < n) (e : w = nI j) : vp_nar .byte w.toInt8.toInt32 = w := by rw [e, cn_vbb (by omega)]
/-- the word is taken apart -/
theorem ct_dec {x : Nat} (hx : x < 320) (H : cm_M xword xcon xop xreg xadr xuse xsht yword) :
    ∃ (xcon' : Nat → Int32) (xop' : Nat → Int32) (xreg' : Nat → Int32) (xadr' : Nat → Int32), cm_M xword xcon' xop' xreg' xadr' xuse xsht yword ∧ xop' x = xword x &&& 15 ∧ xreg' x = (xword x >>> ((4 : Int32) &&& 31)) &&& 3 ∧ xadr' x = (xword x >>> ((6 : Int32) &&& 31)) &&& 63 ∧ xcon' x = xword x >>> ((12 : Int32) &&& 31) ∧
    ((0 ≤ xop x ∧ xcon' = xcon ∧ xop' = xop ∧ xreg' = xreg ∧ xadr' = xadr) ∨ (¬ 0 ≤ xop x ∧ ∀ ⦃xnew xold turn left xsay xfail xwhr : Int32⦄ ⦃xuse xsht xkep xsta xtab xpsw xpen xrgs pag stp int xsha hel xfro xbef xbeh : Nat → Int32⦄ ⦃xsai : Nat → Int64⦄ (post : SX → Prop), post (xnew, xold, turn, left, xsay, xfail, xwhr, xword, xcon', xop', xreg', xadr', xuse, xsht, xkep, xsta, xtab, xpsw, xpen, xrgs, pag, stp, int, xsha, hel, xfro, xbef, xbeh, xsai) → wpX_takeApart post (xnew, xold, turn, left, xsay, xfail, xwhr, xword, xcon, xop, xreg, xadr, xuse, xsht, xkep, xsta, xtab, xpsw, xpen, xrgs, pag, stp, int, xsha, hel, xfro, xbef, xbeh, xsai) (nI x))) := by
  have cx : (nI x).toNatClampNeg = x := nI_clamp (by omega)
  rcases H.2.2 x hx with h | ⟨h1, h2, h3, h4⟩
  · refine ⟨upd xcon x (xword x >>> ((12 : Int32) &&& 31)), upd xop x (xword x &&& 15), upd xreg x ((xword x >>> ((4 : Int32) &&& 31)) &&& 3), upd xadr x ((xword x >>> ((6 : Int32) &&& 31)) &&& 63), ⟨H.1, H.2.1, ?_⟩, cn_us, cn_us, cn_us, cn_us, Or.inr ⟨by rw [h]; decide, ?_⟩⟩
    · intro y hy
      by_cases e : y = x
      · rw [e, cn_us, cn_us, cn_us, cn_us]
        exact Or.inr ⟨rfl, rfl, rfl, rfl⟩
      · rw [cn_un e, cn_un e, cn_un e, cn_un e]
        exact H.2.2 y hy
    · intro xnew xold turn left xsay xfail xwhr xuse xsht xkep xsta xtab xpsw xpen xrgs pag stp int xsha hel xfro xbef xbeh xsai post h
      obtain ⟨j1, hj1, ej1⟩ := cn_x15 (xword x)
      obtain ⟨j2, hj2, ej2⟩ := cn_x3 (xword x >>> ((4 : Int32) &&& 31))
      obtain ⟨j3, hj3, ej3⟩ := cn_x63 (xword x >>> ((6 : Int32) &&& 31))
      unfold wpX_takeApart
      dsimp only
      rw [cx]
      refine ⟨cn_in hx, nm_e ⟨cn_in hx, ?_⟩⟩
      rw [ct_nar (n := 16) (by decide) hj1 ej1, ct_nar (n := 4) (by decide) hj2 ej2, ct_nar (n := 64) (by decide) hj3 ej3]
      exact nm_e ⟨cn_in hx, nm_e ⟨cn_in hx, nm_e ⟨cn_in hx, nm_e h⟩⟩⟩
  · refine ⟨xcon, xop, xreg, xadr, H, h1, h2, h3, h4, Or.inl ⟨?_, rfl, rfl, rfl, rfl⟩⟩
    obtain ⟨j1, hj1, ej1⟩ := cn_x15 (xword x)
    rw [h1, ej1]
    exact cn_ge0 (by omega)
end
end
section
section
variable {xnew : Int32} {xold : Int32} {turn : Int32} {left : Int32} {xsay : Int32} {xfail : Int32} {xwhr : Int32} {xword : Nat → Int32} {xcon : Nat → Int32} {xop : Nat → Int32} {xreg : Nat → Int32} {xadr : Nat → Int32} {xuse : Nat → Int32} {xsht : Nat → Int32} {xkep : Nat → Int32} {xsta : Nat → Int32} {xtab : Nat → Int32} {xpsw : Nat → Int32} {xpen : Nat → Int32} {xrgs : Nat → Int32} {pag : Nat → Int32} {stp : Nat → Int32} {int : Nat → Int32} {xsha : Nat → Int32} {hel : Nat → Int32} {xfro : Nat → Int32} {xbef : Nat → Int32} {xbeh : Nat → Int32} {xsai : Nat → Int64}
variable {ynow : Int64} {yword : Nat → Int32} {yrgs : Nat → Int32} {ypsw : Nat → Int32} {ytab : Nat → Int32} {ypen : Nat → Int32} {ysta : Nat → Int32} {ykep : Nat → Int32} {yusd : Nat → Int64} {ytal : Nat → Int64}
variable {tn lf N M : Nat}
theorem ct_xtk1 {g : Nat} {post : Int32 → Prop} (hg : g < 3) (h0 : ¬ xpen g < 0) (h1 : ¬ xpsw g &&& 256 = 0) (h : post 1) : wpX_takesCode post (xnew, xold, turn, left, xsay, xfail, xwhr, xword, xcon, xop, xreg, xadr, xuse, xsht, xkep, xsta, xtab, xpsw, xpen, xrgs, pag, stp, int, xsha, hel, xfro, xbef, xbeh, xsai) (nI g) := by
  have cg : (nI g).toNatClampNeg = g := nI_clamp (by omega)
  unfold wpX_takesCode
  dsimp only
  rw [cg]
  exact ⟨cn_in hg, br_f h0 ⟨cn_in hg, br_f h1 h⟩⟩
theorem ct_xtk0 {g : Nat} {post : Int32 → Prop} (hg : g < 3) (h0 : xpen g < 0 ∨ xpsw g &&& 256 = 0) (h : post 0) : wpX_takesCode post (xnew, xold, turn, left, xsay, xfail, xwhr, xword, xcon, xop, xreg, xadr, xuse, xsht, xkep, xsta, xtab, xpsw, xpen, xrgs, pag, stp, int, xsha, hel, xfro, xbef, xbeh, xsai) (nI g) := by
  have cg : (nI g).toNatClampNeg = g := nI_clamp (by omega)
  unfold wpX_takesCode
  dsimp only
  rw [cg]
  refine ⟨cn_in hg, br_c (fun _ => h) (fun k => ⟨cn_in hg, br_c (fun _ => h) (fun k2 => ?_)⟩)⟩
  exact absurd h0 (fun z => z.elim k k2)
theorem ct_y55 {g : Nat} {post : SY → Prop} (hg : g < 3) (h0 : ypen g < 0 ∨ ypsw g &&& 256 = 0) (h : wY_step_55 post (nI g) ynow turn left yword yrgs ypsw ytab ypen ysta ykep pag (upd stp g (stp g + 1)) int hel yusd ytal) : wpY_step post (ynow, turn, left, yword, yrgs, ypsw, ytab, ypen, ysta, ykep, pag, stp, int, hel, yusd, ytal) (nI g) := by
  have cg : (nI g).toNatClampNeg = g := nI_clamp (by omega)
  unfold wpY_step
  dsimp only
  rw [cg]
  refine ⟨cn_in hg, cn_in hg, nm_e ⟨cn_in (by omega), br_c (fun _ => h) (fun k => ⟨cn_in (by omega), br_c (fun _ => h) (fun k2 => ?_)⟩)⟩⟩
  exact absurd h0 (fun z => z.elim k2 k)
theorem ct_step {g : Nat} (hg : g < 3) (hN : N + 10 < 2000000) (hM2 : M < 2000000) (H : c_R0 N M tn lf xnew xold hel xfro xbef xbeh yusd xword xcon xop xreg xadr xuse xsht yword xsha xsta xtab xpsw xpen xrgs xkep ysta ytab ypsw ypen yrgs ykep xsai ytal) :
    co_Out N M 6 (fun post => wpX_step post (xnew, xold, nI tn, nI lf, nI M, 0, xwhr, xword, xcon, xop, xreg, xadr, xuse, xsht, xkep, xsta, xtab, xpsw, xpen, xrgs, pag, stp, int, xsha, hel, xfro, xbef, xbeh, xsai) (nI g)) (fun post => wpY_step post (lN N, nI tn, nI lf, yword, yrgs, ypsw, ytab, ypen, ysta, ykep, pag, stp, int, hel, yusd, ytal) (nI g)) := by
  have cg : (nI g).toNatClampNeg = g := nI_clamp (by omega)
  obtain ⟨s, t, p, c, hs, ht, hp, hc, es, es2, et, et2, ep, ep2, epn, epn2⟩ := cg_get hg H.2.2.2.2.1
  by_cases A : (¬ c < 0) ∧ ¬ (nI p &&& 256 = 0)
  · obtain ⟨c', hc', ec'⟩ : ∃ c', c' < 256 ∧ c = nI c' := by
      rcases hc with hc | hc
      · exact absurd (hc ▸ cn_m1neg) A.1
      · exact hc
    subst ec'
    obtain ⟨hT, hF, hM, hS, hG, hL⟩ := H
    obtain ⟨u', v', hR, hX, hY⟩ := cp_int (stp := upd stp g (stp g + 1)) (pag := pag) (int := int) (xwhr := xwhr) (i := 2) (nI c') 0 hg (by omega) (by omega) ⟨hT, hF, hM, hS, cg_pen hg (Or.inl rfl) hG, hL⟩
    refine ⟨N + 4, M, u', v', by omega, by omega, hR, fun post h => ?_, fun post h => ?_⟩
    · unfold wpX_step
      dsimp only
      rw [cg]
      refine ⟨cn_in hg, cn_in hg, nm_e (ct_xtk1 hg (by rw [epn]; exact A.1) (by rw [ep]; exact A.2) (br_f (by decide) ⟨cn_in hg, nm_r epn ⟨cn_in hg, ?_⟩⟩))⟩
      rw [cn_vs1]
      exact nm_e (hX _ (co_ex h))
    · unfold wpY_step
      dsimp only
      rw [cg]
      exact ⟨cn_in hg, cn_in hg, nm_e ⟨cn_in (by omega), br_f (by rw [ep2]; exact A.2) ⟨cn_in (by omega), br_f (by rw [epn2]; exact A.1) ⟨cn_in (by omega), nm_r epn2 ⟨cn_in (by omega), nm_e (hY _ (co_ey h))⟩⟩⟩⟩⟩
  · have B : c < 0 ∨ nI p &&& 256 = 0 := by
      by_cases k : c < 0
      · exact Or.inl k
      · by_cases k2 : nI p &&& 256 = 0
        · exact Or.inr k2
        · exact absurd ⟨k, k2⟩ A
    have BX : xpen g < 0 ∨ xpsw g &&& 256 = 0 := by rw [epn, ep]; exact B
    have BY : ypen g < 0 ∨ ypsw g &&& 256 = 0 := by rw [epn2, ep2]; exact B
    obtain ⟨pc, hpc, epc⟩ := cn_x63 (nI p)
    rcases cp_access (pag := pag) 0 hg hpc (by omega) H with ⟨c, xsha1, hc, H1, hX, hY⟩ | ⟨b, xsha1, xnew1, xold1, hel1, xfro1, xbef1, xbeh1, pag1, yusd1, hb, H1, hX, hY, hYu⟩
    · have hn := ct_neg hc
      obtain ⟨N', M', u', v', hN', hM', hR, kX, kY⟩ := ct_fail (stp := upd stp g (stp g + 1)) (pag := pag) (int := int) (c := c) (nI pc) hg (by omega) (by omega) (by omega) H1
      refine ⟨N', M', u', v', by omega, hM', hR, fun post h => ?_, fun post h => ?_⟩
      · unfold wpX_step
        dsimp only
        rw [cg]
        exact ⟨cn_in hg, cn_in hg, nm_e (ct_xtk0 hg BX (br_t rfl ⟨cn_in hg, nm_r (e' := nI pc) (by rw [ep, epc]) (hX _ (br_t cn_m1neg (kX post h)))⟩))⟩
      · refine ct_y55 hg BY ⟨cn_in (by omega), nm_r (e' := nI pc) (by rw [cg, ep2, epc]) (hY _ (ct_m63 hpc) _ (br_f hn.1 ?_))⟩
        rw [hn.2]
        exact kY _ (co_ey h)
    · obtain ⟨hT, hF, hM, hS, hG, hL⟩ := H1
      obtain ⟨s4, hs4, es4⟩ := hM.1.1 (8 * g + b / 8) (by omega)
      have ew : xword (8 * s4 + b % 8) = yword (64 * g + b) := by
        rw [hM.2.1 _ (by omega) s4 hs4 es4 _ (by omega)]
        exact congrArg yword (by omega)
      have hx : 8 * s4 + b % 8 < 320 := by omega
      have cw : (nI (8 * s4 + b % 8)).toNatClampNeg = 8 * s4 + b % 8 := nI_clamp (by omega)
      obtain ⟨xcon1, xop1, xreg1, xadr1, hM1, d1, d2, d3, d4, hdec⟩ := ct_dec hx hM
      rw [ew] at d1 d2 d3 d4
      obtain ⟨o, ho, eo⟩ := cn_x15 (yword (64 * g + b))
      obtain ⟨N', M', u', v', hN', hM', hR, kX, kY⟩ := ct_87 (stp := upd stp g (stp g + 1)) (pag := pag1) (int := int) (xwhr := xwhr) hg hx ho (by omega) hM2 eo d1 d2 d3 d4 ep ep2 hp epc ⟨hT, hF, hM1, hS, hG, hL⟩
      refine ⟨N', M', u', v', by omega, hM', hR, fun post h => ?_, fun post h => ?_⟩
      · unfold wpX_step
        dsimp only
        rw [cg]
        refine ⟨cn_in hg, cn_in hg, nm_e (ct_xtk0 hg BX (br_t rfl ⟨cn_in hg, nm_r (e' := nI pc) (by rw [ep, epc]) (hX _ (br_f (nI_pos (by omega)) (cm_at (by omega) hb hs4 es4 (And.intro (cn_in hx) ?_))))⟩))⟩
        dsimp only
        rw [cw]
        have k := kX post h
        rcases hdec with ⟨h0, e1, e2, e3, e4⟩ | ⟨h0, hTA⟩
        · subst e1 e2 e3 e4
          exact br_t h0 k
        · exact br_f h0 (hTA _ k)
      · exact ct_y55 hg BY ⟨cn_in (by omega), nm_r (e' := nI pc) (by rw [cg, ep2, epc]) (hY _ (ct_m63 hpc) _ (br_t (cn_ge0 (by omega)) (cp_get hg hb (fun p k => hYu p k) (kY post h))))⟩
end
end
section
/-! pass and run -/
def ca_ab (sta psw pen : Nat → Int32) (g : Nat) : Prop := sta g = 1 ∨ (sta g = 2 ∧ ¬ pen g < 0 ∧ ¬ psw g &&& 256 = 0)
section
variable {xnew : Int32} {xold : Int32} {turn : Int32} {left : Int32} {xsay : Int32} {xfail : Int32} {xwhr : Int32} {xword : Nat → Int32} {xcon : Nat → Int32} {xop : Nat → Int32} {xreg : Nat → Int32} {xadr : Nat → Int32} {xuse : Nat → Int32} {xsht : Nat → Int32} {xkep : Nat → Int32} {xsta : Nat → Int32} {xtab : Nat → Int32} {xpsw : Nat → Int32} {xpen : Nat → Int32} {xrgs : Nat → Int32} {pag : Nat → Int32} {stp : Nat → Int32} {int : Nat → Int32} {xsha : Nat → Int32} {hel : Nat → Int32} {xfro : Nat → Int32} {xbef : Nat → Int32} {xbeh : Nat → Int32} {xsai : Nat → Int64}
variable {ynow : Int64} {yword : Nat → Int32} {yrgs : Nat → Int32} {ypsw : Nat → Int32} {ytab : Nat → Int32} {ypen : Nat → Int32} {ysta : Nat → Int32} {ykep : Nat → Int32} {yusd : Nat → Int64} {ytal : Nat → Int64}
variable {tn lf N M : Nat}
theorem ca_rem {t j : Nat} (ht : t < 3) (hj : j < 4) : (nI t + nI j) - (nI t + nI j) / 3 * 3 = nI ((t + j) % 3) := by
  rw [nI_add, cn_rem3 (by omega)]
theorem ca_x1 {n j : Nat} {post : Int32 → SX → Prop} (ht : tn < 3) (hj : j < 4) (hA : ca_ab xsta xpsw xpen ((tn + j) % 3)) (h : post 1 (xnew, xold, nI ((tn + j) % 3), 4, xsay, xfail, xwhr, xword, xcon, xop, xreg, xadr, xuse, xsht, xkep, xsta, xtab, xpsw, xpen, xrgs, pag, stp, int, xsha, hel, xfro, xbef, xbeh, xsai)) : wX_pass_2 post xnew xold (nI tn) left xsay xfail xwhr xword xcon xop xreg xadr xuse xsht xkep xsta xtab xpsw xpen xrgs pag stp int xsha hel xfro xbef xbeh xsai (n + 1) (nI j) := by
  have hg : (tn + j) % 3 < 3 := Nat.mod_lt _ (by decide)
  have cg : (nI ((tn + j) % 3)).toNatClampNeg = (tn + j) % 3 := nI_clamp (by omega)
  refine br_f (nI_ge (b := 4) hj (by decide)) ⟨by decide, nm_r (ca_rem ht hj) ⟨cn_in hg, ?_⟩⟩
  rw [cg]
  rcases hA with hA | ⟨hA, h0, h1⟩
  · exact br_t hA h
  · exact br_c (fun _ => h) (fun _ => ⟨cn_in hg, br_t hA (ct_xtk1 hg h0 h1 (br_f (by decide) h))⟩)
theorem ca_x0 {n j : Nat} {post : Int32 → SX → Prop} (ht : tn < 3) (hj : j < 4) (hA : ¬ ca_ab xsta xpsw xpen ((tn + j) % 3)) (h : wX_pass_2 post xnew xold (nI tn) left xsay xfail xwhr xword xcon xop xreg xadr xuse xsht xkep xsta xtab xpsw xpen xrgs pag stp int xsha hel xfro xbef xbeh xsai n (nI (j + 1))) : wX_pass_2 post xnew xold (nI tn) left xsay xfail xwhr xword xcon xop xreg xadr xuse xsht xkep xsta xtab xpsw xpen xrgs pag stp int xsha hel xfro xbef xbeh xsai (n + 1) (nI j) := by
  have hg : (tn + j) % 3 < 3 := Nat.mod_lt _ (by decide)
  have cg : (nI ((tn + j) % 3)).toNatClampNeg = (tn + j) % 3 := nI_clamp (by omega)
  refine br_f (nI_ge (b := 4) hj (by decide)) ⟨by decide, nm_r (ca_rem ht hj) ⟨cn_in hg, ?_⟩⟩
  rw [cg]
  refine br_f (fun k => hA (Or.inl k)) ⟨cn_in hg, br_c (fun k => ?_) (fun _ => nm_r (nI_1 j) h)⟩
  refine ct_xtk0 hg ?_ (br_t rfl (nm_r (nI_1 j) h))
  by_cases k2 : xpen ((tn + j) % 3) < 0
  · exact Or.inl k2
  · by_cases k3 : xpsw ((tn + j) % 3) &&& 256 = 0
    · exact Or.inr k3
    · exact absurd (Or.inr ⟨k, k2, k3⟩) hA
theorem ca_yab {g : Nat} {post : Int32 → Prop} (hg : g < 3) (h1 : ca_ab ysta ypsw ypen g → post 1) (h0 : ¬ ca_ab ysta ypsw ypen g → post 0) : wpY_able post (ynow, turn, left, yword, yrgs, ypsw, ytab, ypen, ysta, ykep, pag, stp, int, hel, yusd, ytal) (nI g) := by
  have cg : (nI g).toNatClampNeg = g := nI_clamp (by omega)
  unfold wpY_able
  dsimp only
  rw [cg]
  refine ⟨cn_in (by omega), br_c (fun k => h1 (Or.inl k)) (fun k => ⟨cn_in (by omega), br_c (fun k2 => ⟨cn_in (by omega), br_c (fun k3 => ?_) (fun k3 => ⟨cn_in (by omega), br_c (fun k4 => ?_) (fun k4 => h1 (Or.inr ⟨k2, k4, k3⟩))⟩)⟩) (fun k2 => ?_)⟩)⟩
  · exact h0 (fun z => z.elim k (fun z => z.2.2 k3))
  · exact h0 (fun z => z.elim k (fun z => z.2.1 k4))
  · exact h0 (fun z => z.elim k (fun z => k2 z.1))
theorem ca_y1 {n j : Nat} {x1 x2 x3 : Int32} {post : Int32 → SY → Prop} {J : Int32 → Int64 → Int32 → Int32 → (Nat → Int32) → (Nat → Int32) → (Nat → Int32) → (Nat → Int32) → (Nat → Int32) → (Nat → Int32) → (Nat → Int32) → (Nat → Int32) → (Nat → Int32) → (Nat → Int32) → (Nat → Int32) → (Nat → Int64) → (Nat → Int64) → Prop}
    (ht : tn < 3) (hj : j + 1 < 4) (hA : ca_ab ysta ypsw ypen ((tn + (j + 1)) % 3)) (h : wY_run_43 post J x1 x2 ynow (nI tn) left yword yrgs ypsw ytab ypen ysta ykep pag stp int hel yusd ytal n (nI ((tn + (j + 1)) % 3)) (nI j)) : wY_run_43 post J x1 x2 ynow (nI tn) left yword yrgs ypsw ytab ypen ysta ykep pag stp int hel yusd ytal (n + 1) x3 (nI (j + 1)) := by
  have hg : (tn + (j + 1)) % 3 < 3 := Nat.mod_lt _ (by decide)
  exact br_f (nI_nle (by omega) (by omega)) ⟨by decide, nm_r (ca_rem ht hj) (ca_yab hg (fun _ => br_f (by decide) (nm_r (pk_m1 j) h)) (fun k => absurd hA k))⟩
theorem ca_y0 {n j : Nat} {x1 x2 x3 : Int32} {post : Int32 → SY → Prop} {J : Int32 → Int64 → Int32 → Int32 → (Nat → Int32) → (Nat → Int32) → (Nat → Int32) → (Nat → Int32) → (Nat → Int32) → (Nat → Int32) → (Nat → Int32) → (Nat → Int32) → (Nat → Int32) → (Nat → Int32) → (Nat → Int32) → (Nat → Int64) → (Nat → Int64) → Prop}
    (ht : tn < 3) (hj : j + 1 < 4) (hA : ¬ ca_ab ysta ypsw ypen ((tn + (j + 1)) % 3)) (h : wY_run_43 post J x1 x2 ynow (nI tn) left yword yrgs ypsw ytab ypen ysta ykep pag stp int hel yusd ytal n x3 (nI j)) : wY_run_43 post J x1 x2 ynow (nI tn) left yword yrgs ypsw ytab ypen ysta ykep pag stp int hel yusd ytal (n + 1) x3 (nI (j + 1)) := by
  have hg : (tn + (j + 1)) % 3 < 3 := Nat.mod_lt _ (by decide)
  exact br_f (nI_nle (by omega) (by omega)) ⟨by decide, nm_r (ca_rem ht hj) (ca_yab hg (fun k => absurd k hA) (fun _ => br_t rfl (nm_r (pk_m1 j) h)))⟩
theorem ca_ye {g : Nat} {x1 x2 : Int32} {post : Int32 → SY → Prop} {J : Int32 → Int64 → Int32 → Int32 → (Nat → Int32) → (Nat → Int32) → (Nat → Int32) → (Nat → Int32) → (Nat → Int32) → (Nat → Int32) → (Nat → Int32) → (Nat → Int32) → (Nat → Int32) → (Nat → Int32) → (Nat → Int32) → (Nat → Int64) → (Nat → Int64) → Prop}
    (hg : g < 3) (h : wY_run_93 post J x1 x2 ynow (nI g) 4 yword yrgs ypsw ytab ypen ysta ykep pag stp int hel yusd ytal) : wY_run_43 post J x1 x2 ynow (nI tn) left yword yrgs ypsw ytab ypen ysta ykep pag stp int hel yusd ytal 1 (nI g) (nI 0) :=
  br_t (by decide) (br_t (cn_ge0 (by omega)) h)
theorem ca_yn {x1 x2 : Int32} {post : Int32 → SY → Prop} {J : Int32 → Int64 → Int32 → Int32 → (Nat → Int32) → (Nat → Int32) → (Nat → Int32) → (Nat → Int32) → (Nat → Int32) → (Nat → Int32) → (Nat → Int32) → (Nat → Int32) → (Nat → Int32) → (Nat → Int32) → (Nat → Int32) → (Nat → Int64) → (Nat → Int64) → Prop}
    (h : post x2 (ynow, nI tn, left, yword, yrgs, ypsw, ytab, ypen, ysta, ykep, pag, stp, int, hel, yusd, ytal)) : wY_run_43 post J x1 x2 ynow (nI tn) left yword yrgs ypsw ytab ypen ysta ykep pag stp int hel yusd ytal 1 (-1) (nI 0) :=
  br_t (by decide) (br_f cn_01 h)
/-- both pass the turn to one guest, or to none -/
theorem ca_pass (ht : tn < 3) (hab : ∀ g, g < 3 → (ca_ab xsta xpsw xpen g ↔ ca_ab ysta ypsw ypen g)) :
    (∃ g, g < 3 ∧ (∀ post : Int32 → SX → Prop, post 1 (xnew, xold, nI g, 4, xsay, xfail, xwhr, xword, xcon, xop, xreg, xadr, xuse, xsht, xkep, xsta, xtab, xpsw, xpen, xrgs, pag, stp, int, xsha, hel, xfro, xbef, xbeh, xsai) → wpX_pass post (xnew, xold, nI tn, left, xsay, xfail, xwhr, xword, xcon, xop, xreg, xadr, xuse, xsht, xkep, xsta, xtab, xpsw, xpen, xrgs, pag, stp, int, xsha, hel, xfro, xbef, xbeh, xsai)) ∧
      (∀ x1 x2 post J, wY_run_93 post J x1 x2 ynow (nI g) 4 yword yrgs ypsw ytab ypen ysta ykep pag stp int hel yusd ytal → ∃ n43 : Nat, wY_run_43 post J x1 x2 ynow (nI tn) left yword yrgs ypsw ytab ypen ysta ykep pag stp int hel yusd ytal n43 (-1) 3)) ∨
    ((∀ post : Int32 → SX → Prop, post 0 (xnew, xold, nI tn, left, xsay, xfail, xwhr, xword, xcon, xop, xreg, xadr, xuse, xsht, xkep, xsta, xtab, xpsw, xpen, xrgs, pag, stp, int, xsha, hel, xfro, xbef, xbeh, xsai) → wpX_pass post (xnew, xold, nI tn, left, xsay, xfail, xwhr, xword, xcon, xop, xreg, xadr, xuse, xsht, xkep, xsta, xtab, xpsw, xpen, xrgs, pag, stp, int, xsha, hel, xfro, xbef, xbeh, xsai)) ∧
      (∀ x1 x2 post J, post x2 (ynow, nI tn, left, yword, yrgs, ypsw, ytab, ypen, ysta, ykep, pag, stp, int, hel, yusd, ytal) → ∃ n43 : Nat, wY_run_43 post J x1 x2 ynow (nI tn) left yword yrgs ypsw ytab ypen ysta ykep pag stp int hel yusd ytal n43 (-1) 3)) := by
  have m : ∀ j, (tn + j) % 3 < 3 := fun j => Nat.mod_lt _ (by decide)
  by_cases a1 : ca_ab ysta ypsw ypen ((tn + 1) % 3)
  · refine Or.inl ⟨(tn + 1) % 3, m 1, fun post h => ⟨1, ca_x1 (j := 1) ht (by decide) ((hab _ (m 1)).mpr a1) h⟩, fun x1 x2 post J h => ⟨4, ?_⟩⟩
    have k1 : ∀ x3, wY_run_43 post J x1 x2 ynow (nI tn) left yword yrgs ypsw ytab ypen ysta ykep pag stp int hel yusd ytal 2 x3 (nI 1) := fun x3 => ca_y1 (j := 0) ht (by decide) a1 (ca_ye (m 1) h)
    have k2 : ∀ x3, wY_run_43 post J x1 x2 ynow (nI tn) left yword yrgs ypsw ytab ypen ysta ykep pag stp int hel yusd ytal 3 x3 (nI 2) := fun x3 => by
      by_cases a2 : ca_ab ysta ypsw ypen ((tn + 2) % 3)
      · exact ca_y1 (j := 1) ht (by decide) a2 (k1 _)
      · exact ca_y0 (j := 1) ht (by decide) a2 (k1 _)
    by_cases a3 : ca_ab ysta ypsw ypen ((tn + 3) % 3)
    · exact ca_y1 (j := 2) ht (by decide) a3 (k2 _)
    · exact ca_y0 (j := 2) ht (by decide) a3 (k2 _)
  · by_cases a2 : ca_ab ysta ypsw ypen ((tn + 2) % 3)
    · refine Or.inl ⟨(tn + 2) % 3, m 2, fun post h => ⟨2, ca_x0 (j := 1) ht (by decide) (fun z => a1 ((hab _ (m 1)).mp z)) (ca_x1 (j := 2) ht (by decide) ((hab _ (m 2)).mpr a2) h)⟩, fun x1 x2 post J h => ⟨4, ?_⟩⟩
      have k2 : ∀ x3, wY_run_43 post J x1 x2 ynow (nI tn) left yword yrgs ypsw ytab ypen ysta ykep pag stp int hel yusd ytal 3 x3 (nI 2) := fun x3 => ca_y1 (j := 1) ht (by decide) a2 (ca_y0 (j := 0) ht (by decide) a1 (ca_ye (m 2) h))
      by_cases a3 : ca_ab ysta ypsw ypen ((tn + 3) % 3)
      · exact ca_y1 (j := 2) ht (by decide) a3 (k2 _)
      · exact ca_y0 (j := 2) ht (by decide) a3 (k2 _)
    · by_cases a3 : ca_ab ysta ypsw ypen ((tn + 3) % 3)
      · exact Or.inl ⟨(tn + 3) % 3, m 3, fun post h => ⟨3, ca_x0 (j := 1) ht (by decide) (fun z => a1 ((hab _ (m 1)).mp z)) (ca_x0 (j := 2) ht (by decide) (fun z => a2 ((hab _ (m 2)).mp z)) (ca_x1 (j := 3) ht (by decide) ((hab _ (m 3)).mpr a3) h))⟩,
          fun x1 x2 post J h => ⟨4, ca_y1 (j := 2) ht (by decide) a3 (ca_y0 (j := 1) ht (by decide) a2 (ca_y0 (j := 0) ht (by decide) a1 (ca_ye (m 3) h)))⟩⟩
      · exact Or.inr ⟨fun post h => ⟨4, ca_x0 (j := 1) ht (by decide) (fun z => a1 ((hab _ (m 1)).mp z)) (ca_x0 (j := 2) ht (by decide) (fun z => a2 ((hab _ (m 2)).mp z)) (ca_x0 (j := 3) ht (by decide) (fun z => a3 ((hab _ (m 3)).mp z)) (br_t (by decide) h)))⟩,
          fun x1 x2 post J h => ⟨4, ca_y0 (j := 2) ht (by decide) a3 (ca_y0 (j := 1) ht (by decide) a2 (ca_y0 (j := 0) ht (by decide) a1 (ca_yn h)))⟩⟩
/-- what a run comes to, from a state on -/
def cr_Out (n d made N M : Nat) (u : SX) (v : SY) : Prop :=
  ∃ (r : Int32) (N' M' : Nat) (u' : SX) (v' : SY), N' ≤ N + 6 * d ∧ M' ≤ M + d ∧ c_R N' M' u' v' ∧
  (∀ post : Int32 → SX → Prop, post r u' → (match u with | (xnew, xold, turn, left, xsay, xfail, xwhr, xword, xcon, xop, xreg, xadr, xuse, xsht, xkep, xsta, xtab, xpsw, xpen, xrgs, pag, stp, int, xsha, hel, xfro, xbef, xbeh, xsai) => wX_run_14 post (nI n) (d + 1) (nI made) xnew xold turn left xsay xfail xwhr xword xcon xop xreg xadr xuse xsht xkep xsta xtab xpsw xpen xrgs pag stp int xsha hel xfro xbef xbeh xsai)) ∧
  (∀ post : Int32 → SY → Prop, post r v' → (match v with | (ynow, turn, left, yword, yrgs, ypsw, ytab, ypen, ysta, ykep, pag, stp, int, hel, yusd, ytal) => wY_run_13 post (nI n) (d + 1) (nI made) ynow turn left yword yrgs ypsw ytab ypen ysta ykep pag stp int hel yusd ytal))
theorem cr_eta {post : Int32 → SY → Prop} {x1 x : Int32} {n : Nat} {v : SY} : (match v with | (ynow, turn, left, yword, yrgs, ypsw, ytab, ypen, ysta, ykep, pag, stp, int, hel, yusd, ytal) => wY_run_13 post x1 n (x + 1) ynow turn left yword yrgs ypsw ytab ypen ysta ykep pag stp int hel yusd ytal) → (match v with | (ynow, turn, left, yword, yrgs, ypsw, ytab, ypen, ysta, ykep, pag, stp, int, hel, yusd, ytal) => ∀ y : Int32, y = x + 1 → wY_run_13 post x1 n y ynow turn left yword yrgs ypsw ytab ypen ysta ykep pag stp int hel yusd ytal) := by
  obtain ⟨ynow, turn, left, yword, yrgs, ypsw, ytab, ypen, ysta, ykep, pag, stp, int, hel, yusd, ytal⟩ := v
  exact fun h => nm_e h
theorem cr_46 {n d made : Nat} (ih : ∀ made N M u v, made + d = n → N + 6 * d + 20 < 2000000 → M + d < 2000000 → c_R N M u v → cr_Out n d made N M u v)
    (hd : made + (d + 1) = n) (hN : N + 6 * (d + 1) + 20 < 2000000) (hM2 : M + (d + 1) < 2000000) (hl : 0 < lf) (H : c_R0 N M tn lf xnew xold hel xfro xbef xbeh yusd xword xcon xop xreg xadr xuse xsht yword xsha xsta xtab xpsw xpen xrgs xkep ysta ytab ypsw ypen yrgs ykep xsai ytal) :
    ∃ (r : Int32) (N' M' : Nat) (u' : SX) (v' : SY), N' ≤ N + 6 * (d + 1) ∧ M' ≤ M + (d + 1) ∧ c_R N' M' u' v' ∧
    (∀ post : Int32 → SX → Prop, post r u' → wX_run_46 post (wX_run_14 post (nI n) (d + 1)) (nI n) (nI made) xnew xold (nI tn) (nI lf) (nI M) 0 xwhr xword xcon xop xreg xadr xuse xsht xkep xsta xtab xpsw xpen xrgs pag stp int xsha hel xfro xbef xbeh xsai) ∧
    (∀ post : Int32 → SY → Prop, post r v' → wY_run_93 post (wY_run_13 post (nI n) (d + 1)) (nI n) (nI made) (lN N) (nI tn) (nI lf) yword yrgs ypsw ytab ypen ysta ykep pag stp int hel yusd ytal) := by
  obtain ⟨l, rfl⟩ : ∃ l, lf = l + 1 := ⟨lf - 1, by omega⟩
  obtain ⟨hT, hrest⟩ := H
  obtain ⟨N1, M1, u1, v1, hN1, hM1, hR1, kX, kY⟩ := ct_step (stp := stp) (pag := pag) (int := int) (xwhr := xwhr) (lf := l) (g := tn) hT.1 (by omega) (by omega) ⟨⟨hT.1, by omega⟩, hrest⟩
  obtain ⟨r, N', M', u', v', hN', hM', hR, jX, jY⟩ := ih (made + 1) N1 M1 u1 v1 (by omega) (by omega) (by omega) hR1
  refine ⟨r, N', M', u', v', by omega, by omega, hR, fun post h => ?_, fun post h => ?_⟩
  · exact nm_r (nI_pred l) (nm_r (nI_1 made) (kX _ (jX post h)))
  · refine nm_r (nI_pred l) (kY _ ?_)
    have j := jY post h
    rw [← nI_1 made] at j
    exact cr_eta j
theorem cr_all {n : Nat} (hn : n < 200) : ∀ d made N M u v, made + d = n → N + 6 * d + 20 < 2000000 → M + d < 2000000 → c_R N M u v → cr_Out n d made N M u v := by
  intro d
  induction d with
  | zero =>
    intro made N M u v hd hN hM2 hR
    refine c_el (P := fun u v => cr_Out n 0 made N M u v) ?_ hR
    intro tn lf xwhr pag stp int xnew xold hel xfro xbef xbeh yusd xword xcon xop xreg xadr xuse xsht yword xsha xsta xtab xpsw xpen xrgs xkep ysta ytab ypsw ypen yrgs ykep xsai ytal H
    have hd : made = n := hd
    subst hd
    have hle : nI made ≤ nI made := Int32.le_refl _
    exact ⟨nI made, N, M, _, _, Nat.le_refl _, Nat.le_refl _, c_mk H, fun post h => br_t hle h, fun post h => br_t hle h⟩
  | succ d ih =>
    intro made N M u v hd hN hM2 hR
    refine c_el (P := fun u v => cr_Out n (d + 1) made N M u v) ?_ hR
    intro tn lf xwhr pag stp int xnew xold hel xfro xbef xbeh yusd xword xcon xop xreg xadr xuse xsht yword xsha xsta xtab xpsw xpen xrgs xkep ysta ytab ypsw ypen yrgs ykep xsai ytal H
    have hT := H.1
    have hG := H.2.2.2.2.1
    have ct : (nI tn).toNatClampNeg = tn := nI_clamp (by have := hT.1; omega)
    have nle : ¬ nI n ≤ nI made := nI_ge (by omega) (by omega)
    have hst := (hG.2.1 tn hT.1).1
    by_cases c : ysta tn = 1 ∧ 0 < lf
    · obtain ⟨r, N', M', u', v', hN', hM', hR', kX, kY⟩ := cr_46 (stp := stp) (pag := pag) (int := int) (xwhr := xwhr) ih hd hN hM2 c.2 H
      refine ⟨r, N', M', u', v', hN', hM', hR', fun post h => ?_, fun post h => ?_⟩
      · refine br_f nle ⟨cn_in hT.1, br_t (by rw [ct, hst]; exact c.1) (br_t (nI_lt (a := 0) c.2 (by omega)) (kX post h))⟩
      · refine br_f nle ⟨cn_in (by omega), br_t (by rw [ct]; exact c.1) (br_f (nI_ne0 c.2 (by omega)) (kY post h))⟩
    · have hX : ∀ post : Int32 → SX → Prop, wX_run_39 post (wX_run_14 post (nI n) (d + 1)) (nI n) (nI made) xnew xold (nI tn) (nI lf) (nI M) 0 xwhr xword xcon xop xreg xadr xuse xsht xkep xsta xtab xpsw xpen xrgs pag stp int xsha hel xfro xbef xbeh xsai → wX_run_14 post (nI n) (d + 1 + 1) (nI made) xnew xold (nI tn) (nI lf) (nI M) 0 xwhr xword xcon xop xreg xadr xuse xsht xkep xsta xtab xpsw xpen xrgs pag stp int xsha hel xfro xbef xbeh xsai := by
        intro post h
        refine br_f nle ⟨cn_in hT.1, br_c (fun k => br_f (fun z => ?_) h) (fun _ => h)⟩
        rw [ct, hst] at k
        exact c ⟨k, (nI_ltI (a := 0) (by omega) (by omega)).mp z⟩
      have hY : ∀ post : Int32 → SY → Prop, (∃ n43 : Nat, wY_run_43 post (wY_run_13 post (nI n) (d + 1)) (nI n) (nI made) (lN N) (nI tn) (nI lf) yword yrgs ypsw ytab ypen ysta ykep pag stp int hel yusd ytal n43 (-1) 3) → wY_run_13 post (nI n) (d + 1 + 1) (nI made) (lN N) (nI tn) (nI lf) yword yrgs ypsw ytab ypen ysta ykep pag stp int hel yusd ytal := by
        intro post h
        refine br_f nle ⟨cn_in (by omega), br_c (fun k => br_t ?_ h) (fun _ => h)⟩
        rw [ct] at k
        have : lf = 0 := by
          rcases Nat.eq_zero_or_pos lf with z | z
          · exact z
          · exact absurd ⟨k, z⟩ c
        rw [this]
        rfl
      have hab : ∀ g, g < 3 → (ca_ab xsta xpsw xpen g ↔ ca_ab ysta ypsw ypen g) := by
        intro g hg
        obtain ⟨a1, a2, a3, a4⟩ := hG.2.1 g hg
        unfold ca_ab
        rw [a1, a3, a4]
      rcases ca_pass (left := nI lf) (xnew := xnew) (xold := xold) (xsay := nI M) (xfail := 0) (xwhr := xwhr) (xword := xword) (xcon := xcon) (xop := xop) (xreg := xreg) (xadr := xadr) (xuse := xuse) (xsht := xsht) (xkep := xkep) (xtab := xtab) (xrgs := xrgs) (pag := pag) (stp := stp) (int := int) (xsha := xsha) (hel := hel) (xfro := xfro) (xbef := xbef) (xbeh := xbeh) (xsai := xsai) (ynow := lN N) (yword := yword) (yrgs := yrgs) (ytab := ytab) (ykep := ykep) (yusd := yusd) (ytal := ytal) hT.1 hab with ⟨g, hg, pX, pY⟩ | ⟨pX, pY⟩
      · obtain ⟨r, N', M', u', v', hN', hM', hR', kX, kY⟩ := cr_46 (stp := stp) (pag := pag) (int := int) (xwhr := xwhr) (tn := g) (lf := 4) ih hd hN hM2 (by decide) ⟨⟨hg, Nat.le_refl _⟩, H.2⟩
        refine ⟨r, N', M', u', v', hN', hM', hR', fun post h => hX post (pX _ (br_f (by decide) (kX post h))), fun post h => hY post (pY _ _ _ _ (kY post h))⟩
      · refine ⟨nI made, N, M, _, _, by omega, by omega, c_mk H, fun post h => hX post (pX _ (br_t rfl h)), fun post h => hY post (pY _ _ _ _ h)⟩
end
end
section
/-! the constructors -/
theorem ci_stS {f : Nat → Int32} {k : Nat} {v : Int32} : upd (cm_st f 0 v k) k v = cm_st f 0 v (k + 1) := by
  have h := cm_stS (f := f) (d := 0) (k := k) (v := v)
  rw [Nat.zero_add] at h
  exact h
theorem ci_stI {f : Nat → Int32} {k j : Nat} {v : Int32} (h : j < k) : cm_st f 0 v k j = v := cm_stI ⟨Nat.zero_le _, by omega⟩
def ci_sl (f : Nat → Int64) (v : Int64) (k : Nat) : Nat → Int64 := fun j => if j < k then v else f j
theorem ci_slS {f : Nat → Int64} {k : Nat} {v : Int64} : vp_updL (ci_sl f v k) k v = ci_sl f v (k + 1) := by
  funext j
  by_cases e : j = k
  · rw [e, pk_uLs]
    exact (if_pos (by omega)).symm
  · rw [pk_uLn e]
    unfold ci_sl
    by_cases c : j < k
    · rw [if_pos c, if_pos (by omega)]
    · rw [if_neg c, if_neg (by omega)]
theorem ci_sl0 {f : Nat → Int64} {v : Int64} : ci_sl f v 0 = f := funext fun j => if_neg (Nat.not_lt_zero _)
section
variable {xnew : Int32} {xold : Int32} {turn : Int32} {left : Int32} {xsay : Int32} {xfail : Int32} {xwhr : Int32} {xword : Nat → Int32} {xcon : Nat → Int32} {xop : Nat → Int32} {xreg : Nat → Int32} {xadr : Nat → Int32} {xuse : Nat → Int32} {xsht : Nat → Int32} {xkep : Nat → Int32} {xsta : Nat → Int32} {xtab : Nat → Int32} {xpsw : Nat → Int32} {xpen : Nat → Int32} {xrgs : Nat → Int32} {pag : Nat → Int32} {stp : Nat → Int32} {int : Nat → Int32} {xsha : Nat → Int32} {hel : Nat → Int32} {xfro : Nat → Int32} {xbef : Nat → Int32} {xbeh : Nat → Int32} {xsai : Nat → Int64}
variable {ynow : Int64} {yword : Nat → Int32} {yrgs : Nat → Int32} {ypsw : Nat → Int32} {ytab : Nat → Int32} {ypen : Nat → Int32} {ysta : Nat → Int32} {ykep : Nat → Int32} {yusd : Nat → Int64} {ytal : Nat → Int64}
theorem ci_265 {post : SX → Prop} (h : post (xnew, xold, turn, left, xsay, xfail, xwhr, xword, xcon, xop, xreg, xadr, upd xuse 0 (nI 40), xsht, upd (upd xkep 0 (-1)) 8 (-1), xsta, xtab, xpsw, xpen, xrgs, pag, stp, int, xsha, cm_st hel 0 (-1) 6, xfro, xbef, xbeh, xsai)) :
    ∀ d k, k + d = 6 → wX_init_265 post xnew xold turn left xsay xfail xwhr (d + 1) (nI k) xword xcon xop xreg xadr xuse xsht xkep xsta xtab xpsw xpen xrgs pag stp int xsha (cm_st hel 0 (-1) k) xfro xbef xbeh xsai := by
  intro d
  induction d with
  | zero =>
    intro k hk
    have hk : k = 6 := hk
    subst hk
    refine br_t (nI_le (a := 6) (b := 6) (by omega) (by omega)) ?_
    rw [show vp_nar .byte 40 = nI 40 from cn_vb (n := 40) (by omega)]
    exact nm_e (nm_e (nm_e h))
  | succ d ih =>
    intro k hk
    have ck : (nI k).toNatClampNeg = k := nI_clamp (by omega)
    refine br_f (nI_ge (a := k) (b := 6) (by omega) (by omega)) ?_
    rw [ck, cn_vb1, ci_stS]
    exact ⟨cn_in (by omega), nm_e (nm_r (nI_1 k) (ih (k + 1) (by omega)))⟩
theorem ci_245 {post : SX → Prop} (h : ∃ n265 : Nat, wX_init_265 post xnew xold turn left xsay xfail xwhr n265 0 xword xcon xop xreg xadr xuse xsht xkep xsta xtab xpsw (cm_st xpen 0 (-1) 3) xrgs pag stp int xsha hel xfro xbef xbeh xsai) :
    ∀ d k, k + d = 3 → wX_init_245 post xnew xold turn left xsay xfail xwhr (d + 1) (nI k) xword xcon xop xreg xadr xuse xsht xkep xsta xtab xpsw (cm_st xpen 0 (-1) k) xrgs pag stp int xsha hel xfro xbef xbeh xsai := by
  intro d
  induction d with
  | zero =>
    intro k hk
    have hk : k = 3 := hk
    subst hk
    exact br_t (nI_le (a := 3) (b := 3) (by omega) (by omega)) h
  | succ d ih =>
    intro k hk
    have ck : (nI k).toNatClampNeg = k := nI_clamp (by omega)
    refine br_f (nI_ge (a := k) (b := 3) (by omega) (by omega)) ?_
    rw [ck, cn_vs1, ci_stS]
    exact ⟨cn_in (by omega), nm_e (nm_r (nI_1 k) (ih (k + 1) (by omega)))⟩
theorem ci_223 {post : SX → Prop} (h : ∃ n245 : Nat, wX_init_245 post xnew xold turn left xsay xfail xwhr n245 0 xword xcon (cm_st xop 0 (-1) 320) xreg xadr xuse xsht xkep xsta xtab xpsw xpen xrgs pag stp int xsha hel xfro xbef xbeh xsai) :
    ∀ d k, k + d = 320 → wX_init_223 post xnew xold turn left xsay xfail xwhr (d + 1) (nI k) xword xcon (cm_st xop 0 (-1) k) xreg xadr xuse xsht xkep xsta xtab xpsw xpen xrgs pag stp int xsha hel xfro xbef xbeh xsai := by
  intro d
  induction d with
  | zero =>
    intro k hk
    have hk : k = 320 := hk
    subst hk
    exact br_t (nI_le (a := 320) (b := 320) (by omega) (by omega)) h
  | succ d ih =>
    intro k hk
    have ck : (nI k).toNatClampNeg = k := nI_clamp (by omega)
    refine br_f (nI_ge (a := k) (b := 320) (by omega) (by omega)) ?_
    rw [ck, cn_vb1, ci_stS]
    exact ⟨cn_in (by omega), nm_e (nm_r (nI_1 k) (ih (k + 1) (by omega)))⟩
theorem ci_195 {post : SX → Prop} (h : ∃ n223 : Nat, wX_init_223 post xnew xold turn left xsay xfail xwhr n223 0 xword xcon xop xreg xadr xuse xsht xkep xsta xtab xpsw xpen xrgs pag stp int (cm_st xsha 0 (-1) 24) hel (cm_st xfro 0 (-1) 24) xbef xbeh xsai) :
    ∀ d k, k + d = 24 → wX_init_195 post xnew xold turn left xsay xfail xwhr (d + 1) (nI k) xword xcon xop xreg xadr xuse xsht xkep xsta xtab xpsw xpen xrgs pag stp int (cm_st xsha 0 (-1) k) hel (cm_st xfro 0 (-1) k) xbef xbeh xsai := by
  intro d
  induction d with
  | zero =>
    intro k hk
    have hk : k = 24 := hk
    subst hk
    exact br_t (nI_le (a := 24) (b := 24) (by omega) (by omega)) h
  | succ d ih =>
    intro k hk
    have ck : (nI k).toNatClampNeg = k := nI_clamp (by omega)
    refine br_f (nI_ge (a := k) (b := 24) (by omega) (by omega)) ?_
    rw [ck, cn_vb1, ci_stS, ci_stS]
    exact ⟨cn_in (by omega), nm_e ⟨cn_in (by omega), nm_e (nm_r (nI_1 k) (ih (k + 1) (by omega)))⟩⟩
theorem ci_149 {post : SY → Prop} (h : post (ynow, turn, left, yword, yrgs, ypsw, ytab, ypen, ysta, ykep, pag, stp, int, hel, yusd, ci_sl ytal (-1) 8)) : ∀ d k, k + d = 8 → wY_init_149 post ynow turn left (d + 1) (nI k) yword yrgs ypsw ytab ypen ysta ykep pag stp int hel yusd (ci_sl ytal (-1) k) := by
  intro d
  induction d with
  | zero =>
    intro k hk
    have hk : k = 8 := hk
    subst hk
    exact br_t (nI_le (a := 8) (b := 8) (by omega) (by omega)) h
  | succ d ih =>
    intro k hk
    have ck : (nI k).toNatClampNeg = k := nI_clamp (by omega)
    refine br_f (nI_ge (a := k) (b := 8) (by omega) (by omega)) ?_
    rw [ck, ci_slS]
    exact ⟨cn_in (by omega), nm_e (nm_r (nI_1 k) (ih (k + 1) (by omega)))⟩
theorem ci_128 {post : SY → Prop} (h : ∃ n149 : Nat, wY_init_149 post ynow turn left n149 0 yword yrgs ypsw ytab ypen ysta ykep pag stp int (cm_st hel 0 (-1) 6) yusd ytal) : ∀ d k, k + d = 6 → wY_init_128 post ynow turn left (d + 1) (nI k) yword yrgs ypsw ytab ypen ysta ykep pag stp int (cm_st hel 0 (-1) k) yusd ytal := by
  intro d
  induction d with
  | zero =>
    intro k hk
    have hk : k = 6 := hk
    subst hk
    exact br_t (nI_le (a := 6) (b := 6) (by omega) (by omega)) h
  | succ d ih =>
    intro k hk
    have ck : (nI k).toNatClampNeg = k := nI_clamp (by omega)
    refine br_f (nI_ge (a := k) (b := 6) (by omega) (by omega)) ?_
    rw [ck, ci_stS]
    exact ⟨cn_in (by omega), nm_e (nm_r (nI_1 k) (ih (k + 1) (by omega)))⟩
theorem ci_108 {post : SY → Prop} (h : ∃ n128 : Nat, wY_init_128 post ynow turn left n128 0 yword yrgs ypsw ytab (cm_st ypen 0 (-1) 5) ysta ykep pag stp int hel yusd ytal) : ∀ d k, k + d = 5 → wY_init_108 post ynow turn left (d + 1) (nI k) yword yrgs ypsw ytab (cm_st ypen 0 (-1) k) ysta ykep pag stp int hel yusd ytal := by
  intro d
  induction d with
  | zero =>
    intro k hk
    have hk : k = 5 := hk
    subst hk
    exact br_t (nI_le (a := 5) (b := 5) (by omega) (by omega)) h
  | succ d ih =>
    intro k hk
    have ck : (nI k).toNatClampNeg = k := nI_clamp (by omega)
    refine br_f (nI_ge (a := k) (b := 5) (by omega) (by omega)) ?_
    rw [ck, ci_stS]
    exact ⟨cn_in (by omega), nm_e (nm_r (nI_1 k) (ih (k + 1) (by omega)))⟩
end
theorem ci_cn : ∀ s, s < 40 → upd (fun _ => 0) 0 (nI 40) s = nI (cm_cn (fun _ => 0) s 40) := by decide +kernel
def ci_z : Nat → Int32 := fun _ => 0
def ci_zl : Nat → Int64 := fun _ => 0
theorem ci_R0 : c_R0 0 0 0 4 (-1) (-1) (cm_st ci_z 0 (-1) 6) (cm_st ci_z 0 (-1) 24) ci_z ci_z ci_zl ci_z ci_z (cm_st ci_z 0 (-1) 320) ci_z ci_z (upd ci_z 0 (nI 40)) ci_z ci_z (cm_st ci_z 0 (-1) 24) ci_z ci_z ci_z (cm_st ci_z 0 (-1) 3) ci_z (upd (upd ci_z 0 (-1)) 8 (-1)) ci_z ci_z ci_z (cm_st ci_z 0 (-1) 5) ci_z ci_z ci_zl (ci_sl ci_zl (-1) 8) := by
  refine ⟨⟨by decide, by decide⟩, ⟨[], List.nodup_nil, ⟨rfl, rfl, trivial⟩, ⟨fun f hf _ => ci_stI hf, fun f hf => (nomatch hf), fun q hq => Or.inl (ci_stI hq)⟩, ⟨fun f hf => (nomatch hf), List.Pairwise.nil⟩⟩, ⟨⟨fun q hq => ⟨0, by decide, rfl⟩, ci_cn⟩, fun _ _ _ _ _ _ _ => rfl, fun x hx => Or.inl (ci_stI hx)⟩, fun g hg t ht et p hp => Or.inl (ci_stI (by omega)), ⟨fun i hi => ⟨⟨0, by decide, rfl⟩, ⟨0, by decide, rfl⟩, ⟨0, by decide, rfl⟩, Or.inl (ci_stI hi)⟩, fun g hg => ⟨rfl, rfl, rfl, (ci_stI hg).trans (ci_stI (by omega)).symm⟩, fun _ _ => rfl, ?_⟩, ?_⟩
  · intro s hs
    refine Or.inl ⟨rfl, ?_⟩
    have c : s = 0 ∨ s = 1 := by omega
    rcases c with rfl | rfl <;> rfl
  · intro k hk
    rw [if_neg (Nat.not_lt_zero _)]
    exact if_pos hk
theorem ci_init {P : SX → SY → Prop} (h : ∀ u v, c_R 0 0 u v → P u v) : wpX_init (fun u => wpY_init (fun v => P u v)) := by
  have hR := h _ _ (c_mk (pag := ci_z) (stp := ci_z) (int := ci_z) (xwhr := 0) ci_R0)
  refine ⟨25, ?_⟩
  have k1 : ∀ Q : SX → Prop, Q (-1, -1, nI 0, nI 4, nI 0, 0, 0, ci_z, ci_z, cm_st ci_z 0 (-1) 320, ci_z, ci_z, upd ci_z 0 (nI 40), ci_z, upd (upd ci_z 0 (-1)) 8 (-1), ci_z, ci_z, ci_z, cm_st ci_z 0 (-1) 3, ci_z, ci_z, ci_z, ci_z, cm_st ci_z 0 (-1) 24, cm_st ci_z 0 (-1) 6, cm_st ci_z 0 (-1) 24, ci_z, ci_z, ci_zl) →
      wX_init_195 Q (-1) (-1) (nI 0) (nI 4) (nI 0) 0 0 25 (nI 0) ci_z ci_z ci_z ci_z ci_z ci_z ci_z ci_z ci_z ci_z ci_z ci_z ci_z ci_z ci_z ci_z ci_z ci_z ci_z ci_z ci_z ci_zl := by
    intro Q hQ
    have a1 := ci_265 (xuse := ci_z) (xkep := ci_z) (hel := ci_z) (post := Q) hQ 6 0 rfl
    rw [cm_st0] at a1
    have a2 := ci_245 (xpen := ci_z) ⟨_, a1⟩ 3 0 rfl
    rw [cm_st0] at a2
    have a3 := ci_223 (xop := ci_z) ⟨_, a2⟩ 320 0 rfl
    rw [cm_st0] at a3
    have a4 := ci_195 (xsha := ci_z) (xfro := ci_z) ⟨_, a3⟩ 24 0 rfl
    rw [cm_st0] at a4
    exact a4
  refine k1 _ ?_
  refine ⟨6, ?_⟩
  have b1 := ci_149 (ytal := ci_zl) (post := fun v => P _ v) hR 8 0 rfl
  rw [ci_sl0] at b1
  have b2 := ci_128 (hel := ci_z) ⟨_, b1⟩ 6 0 rfl
  rw [cm_st0] at b2
  have b3 := ci_108 (ypen := ci_z) ⟨_, b2⟩ 5 0 rfl
  rw [cm_st0] at b3
  exact b3
end
section
/-! start, copy, keep, back -/
def cm_c2 (f h : Nat → Int32) (d s k : Nat) : Nat → Int32 := fun j => if d ≤ j ∧ j < d + k then h (s + (j - d)) else f j
theorem cm_c20 (f h : Nat → Int32) (d s : Nat) : cm_c2 f h d s 0 = f := by
  funext j
  exact if_neg (by omega)
theorem cm_c2S {f h : Nat → Int32} {d s k : Nat} : upd (cm_c2 f h d s k) (d + k) (h (s + k)) = cm_c2 f h d s (k + 1) := by
  funext j
  by_cases e : j = d + k
  · rw [e, cn_us]
    have e1 : cm_c2 f h d s (k + 1) (d + k) = h (s + (d + k - d)) := if_pos ⟨by omega, by omega⟩
    rw [e1]
    exact congrArg h (by omega)
  · rw [cn_un e]
    unfold cm_c2
    by_cases c : d ≤ j ∧ j < d + k
    · rw [if_pos c, if_pos ⟨c.1, by omega⟩]
    · rw [if_neg c, if_neg (by omega)]
theorem cm_c2I {f h : Nat → Int32} {d s k j : Nat} (hj : j < k) : cm_c2 f h d s k (d + j) = h (s + j) := by
  have e1 : cm_c2 f h d s k (d + j) = h (s + (d + j - d)) := if_pos ⟨by omega, by omega⟩
  rw [e1]
  exact congrArg h (by omega)
theorem cm_c2O {f h : Nat → Int32} {d s k j : Nat} (hj : ¬ (d ≤ j ∧ j < d + k)) : cm_c2 f h d s k j = f j := if_neg hj
section
variable {xsta xtab xpsw xpen xrgs xkep ysta ytab ypsw ypen yrgs ykep : Nat → Int32}
theorem cg_copy {fr to : Nat} (hf : fr < 3) (ht : to < 3) (hne : fr ≠ to) (G : cg_G xsta xtab xpsw xpen xrgs xkep ysta ytab ypsw ypen yrgs ykep) :
    cg_G (upd xsta to (ysta fr)) (upd xtab to (ytab fr)) (upd xpsw to (ypsw fr)) (upd xpen to (ypen fr)) (cm_cp xrgs (4 * to) (4 * fr) 4) xkep (upd ysta to (ysta fr)) (upd ytab to (ytab fr)) (upd ypsw to (ypsw fr)) (upd ypen to (ypen fr)) (cm_cp yrgs (4 * to) (4 * fr) 4) ykep := by
  obtain ⟨s, t, p, c, hs, ht2, hp, hc, _, e2, _, e4, _, e6, _, e8⟩ := cg_get hf G
  rw [e2, e4, e6, e8]
  refine cg_regs ?_ ?_ (cg_at ht hs ht2 hp hc G)
  · intro j hj
    by_cases c : 4 * to ≤ j ∧ j < 4 * to + 4
    · obtain ⟨i, hi⟩ : ∃ i, j = 4 * to + i := ⟨j - 4 * to, by omega⟩
      subst hi
      rw [cm_cpI (by omega), cm_cpI (by omega)]
      exact G.2.2.1 _ (by omega)
    · rw [cm_cpO c, cm_cpO c]
      exact G.2.2.1 j hj
  · intro j hj
    exact cm_cpO (by omega)
theorem cg_keep {g s : Nat} (hg : g < 3) (hs : s < 2) (G : cg_G xsta xtab xpsw xpen xrgs xkep ysta ytab ypsw ypen yrgs ykep) :
    cg_G xsta xtab xpsw xpen xrgs (cm_c2 (upd (upd (upd (upd xkep (8 * s) (ysta g)) (8 * s + 1) (ytab g)) (8 * s + 2) (ypsw g)) (8 * s + 3) (ypen g)) xrgs (8 * s + 4) (4 * g) 4)
      (upd ysta (3 + s) (ysta g)) (upd ytab (3 + s) (ytab g)) (upd ypsw (3 + s) (ypsw g)) (upd ypen (3 + s) (ypen g)) (cm_cp yrgs (4 * (3 + s)) (4 * g) 4) (upd ykep s 1) := by
  refine ⟨?_, ?_, ?_, ?_⟩
  · intro i hi
    by_cases e : i = 3 + s
    · rw [e, cn_us, cn_us, cn_us, cn_us]
      exact G.1 g (by omega)
    · rw [cn_un e, cn_un e, cn_un e, cn_un e]
      exact G.1 i hi
  · intro i hi
    have e : i ≠ 3 + s := by omega
    rw [cn_un e, cn_un e, cn_un e, cn_un e]
    exact G.2.1 i hi
  · intro j hj
    rw [cm_cpO (by omega)]
    exact G.2.2.1 j hj
  · intro s' hs'
    by_cases e : s' = s
    · subst e
      refine Or.inr ⟨cn_us, ?_, ?_, ?_, ?_, ?_⟩
      · rw [cm_c2O (by omega), cn_un (by omega), cn_un (by omega), cn_un (by omega), cn_us, cn_us]
      · rw [cm_c2O (by omega), cn_un (by omega), cn_un (by omega), cn_us, cn_us]
      · rw [cm_c2O (by omega), cn_un (by omega), cn_us, cn_us]
      · rw [cm_c2O (by omega), cn_us, cn_us]
      · intro r hr
        rw [cm_c2I hr, cm_cpI hr]
        exact G.2.2.1 _ (by omega)
    · have d : ∀ i, i < 8 → cm_c2 (upd (upd (upd (upd xkep (8 * s) (ysta g)) (8 * s + 1) (ytab g)) (8 * s + 2) (ypsw g)) (8 * s + 3) (ypen g)) xrgs (8 * s + 4) (4 * g) 4 (8 * s' + i) = xkep (8 * s' + i) := by
        intro i hi
        rw [cm_c2O (by omega), cn_un (by omega), cn_un (by omega), cn_un (by omega), cn_un (by omega)]
      have ne : 3 + s' ≠ 3 + s := by omega
      rw [cn_un e, cn_un ne, cn_un ne, cn_un ne, cn_un ne]
      have d0 := d 0 (by decide)
      have d1 := d 1 (by decide)
      have d2 := d 2 (by decide)
      have d3 := d 3 (by decide)
      rw [show 8 * s' + 0 = 8 * s' from rfl] at d0
      rw [d0, d1, d2, d3]
      rcases G.2.2.2 s' hs' with h | ⟨a1, a2, a3, a4, a5, a6⟩
      · exact Or.inl h
      · refine Or.inr ⟨a1, a2, a3, a4, a5, fun r hr => ?_⟩
        have d4 := d (4 + r) (by omega)
        rw [← Nat.add_assoc] at d4
        rw [d4, cm_cpO (by omega)]
        exact a6 r hr
theorem cg_back {g s : Nat} (hg : g < 3) (hs : s < 2) (hk : ∀ r, r < 4 → xkep (8 * s + 4 + r) = yrgs (4 * (3 + s) + r)) (G : cg_G xsta xtab xpsw xpen xrgs xkep ysta ytab ypsw ypen yrgs ykep) :
    cg_G (upd xsta g (ysta (3 + s))) (upd xtab g (ytab (3 + s))) (upd xpsw g (ypsw (3 + s))) (upd xpen g (ypen (3 + s))) (cm_c2 xrgs xkep (4 * g) (8 * s + 4) 4) xkep
      (upd ysta g (ysta (3 + s))) (upd ytab g (ytab (3 + s))) (upd ypsw g (ypsw (3 + s))) (upd ypen g (ypen (3 + s))) (cm_cp yrgs (4 * g) (4 * (3 + s)) 4) ykep := by
  obtain ⟨⟨s', hs', e2⟩, ⟨t, ht2, e4⟩, ⟨p, hp, e6⟩, hc⟩ := G.1 (3 + s) (by omega)
  rw [e2, e4, e6]
  refine cg_regs ?_ ?_ (cg_at hg hs' ht2 hp hc G)
  · intro j hj
    by_cases c : 4 * g ≤ j ∧ j < 4 * g + 4
    · obtain ⟨i, hi⟩ : ∃ i, j = 4 * g + i := ⟨j - 4 * g, by omega⟩
      subst hi
      rw [cm_c2I (by omega), cm_cpI (by omega)]
      exact hk i (by omega)
    · rw [cm_c2O c, cm_cpO c]
      exact G.2.2.1 j hj
  · intro j hj
    exact cm_cpO (by omega)
end
section
variable {xnew : Int32} {xold : Int32} {turn : Int32} {left : Int32} {xsay : Int32} {xfail : Int32} {xwhr : Int32} {xword : Nat → Int32} {xcon : Nat → Int32} {xop : Nat → Int32} {xreg : Nat → Int32} {xadr : Nat → Int32} {xuse : Nat → Int32} {xsht : Nat → Int32} {xkep : Nat → Int32} {xsta : Nat → Int32} {xtab : Nat → Int32} {xpsw : Nat → Int32} {xpen : Nat → Int32} {xrgs : Nat → Int32} {pag : Nat → Int32} {stp : Nat → Int32} {int : Nat → Int32} {xsha : Nat → Int32} {hel : Nat → Int32} {xfro : Nat → Int32} {xbef : Nat → Int32} {xbeh : Nat → Int32} {xsai : Nat → Int64}
variable {ynow : Int64} {yword : Nat → Int32} {yrgs : Nat → Int32} {ypsw : Nat → Int32} {ytab : Nat → Int32} {ypen : Nat → Int32} {ysta : Nat → Int32} {ykep : Nat → Int32} {yusd : Nat → Int64} {ytal : Nat → Int64}
theorem cz_x31 {g : Nat} {post : Int32 → SX → Prop} (hg : g < 3)
    (h : post 1 (xnew, xold, turn, left, xsay, xfail, xwhr, xword, xcon, xop, xreg, xadr, xuse, xsht, xkep, upd xsta g (nI 1), xtab, xpsw, upd xpen g (-1), cm_st xrgs (4 * g) 0 4, upd pag g 0, upd stp g 0, upd int g 0, xsha, hel, xfro, xbef, xbeh, xsai)) :
    ∀ d k, k + d = 4 → wX_start_31 post (nI g) xnew xold turn left xsay xfail xwhr (d + 1) (nI (4 * g + k)) xword xcon xop xreg xadr xuse xsht xkep xsta xtab xpsw xpen (cm_st xrgs (4 * g) 0 k) pag stp int xsha hel xfro xbef xbeh xsai := by
  have e4 : (4 * nI g) + 4 = nI (4 * g + 4) := by rw [cn_4]; exact nI_add _ 4
  have cg : (nI g).toNatClampNeg = g := nI_clamp (by omega)
  intro d
  induction d with
  | zero =>
    intro k hk
    have hk : k = 4 := hk
    subst hk
    refine br_t (by rw [e4]; exact Int32.le_refl _) ?_
    rw [cg, cn_vs1, show vp_nar .byte 1 = nI 1 from cn_vb (n := 1) (by omega)]
    exact ⟨cn_in hg, nm_e ⟨cn_in hg, nm_e ⟨cn_in hg, nm_e ⟨cn_in hg, nm_e ⟨cn_in hg, nm_e h⟩⟩⟩⟩⟩
  | succ d ih =>
    intro k hk
    have ck : (nI (4 * g + k)).toNatClampNeg = 4 * g + k := nI_clamp (by omega)
    refine br_f (by rw [e4]; exact nI_ge (by omega) (by omega)) ⟨cn_in (by omega), ?_⟩
    exact nm_r (e' := cm_st xrgs (4 * g) 0 (k + 1)) (by rw [ck, cm_stS]) (nm_r (nI_1 _) (ih (k + 1) (by omega)))
theorem cz_forget {g : Nat} {post : SY → Prop} (hg : g < 3) (h : post (ynow, turn, left, yword, yrgs, ypsw, ytab, ypen, ysta, ykep, upd pag g 0, upd stp g 0, upd int g 0, hel, yusd, ytal)) : wpY_forget post (ynow, turn, left, yword, yrgs, ypsw, ytab, ypen, ysta, ykep, pag, stp, int, hel, yusd, ytal) (nI g) := by
  have cg : (nI g).toNatClampNeg = g := nI_clamp (by omega)
  unfold wpY_forget
  dsimp only
  rw [cg]
  exact ⟨cn_in hg, nm_e ⟨cn_in hg, nm_e ⟨cn_in hg, nm_e h⟩⟩⟩
theorem cz_y23 {g : Nat} {post : Int32 → SY → Prop} (hg : g < 3)
    (h : post 1 (ynow, turn, left, yword, cm_st yrgs (4 * g) 0 4, ypsw, upd ytab g 0, upd ypen g (-1), upd ysta g 1, ykep, upd pag g 0, upd stp g 0, upd int g 0, hel, yusd, ytal)) :
    ∀ d k, k + d = 4 → wY_start_23 post (nI g) ynow turn left (d + 1) (nI k) yword (cm_st yrgs (4 * g) 0 k) ypsw ytab ypen ysta ykep pag stp int hel yusd ytal := by
  have cg : (nI g).toNatClampNeg = g := nI_clamp (by omega)
  intro d
  induction d with
  | zero =>
    intro k hk
    have hk : k = 4 := hk
    subst hk
    refine br_t (nI_le (a := 4) (b := 4) (by omega) (by omega)) ?_
    rw [cg]
    exact ⟨cn_in (by omega), nm_e ⟨cn_in (by omega), nm_e ⟨cn_in (by omega), nm_e (cz_forget hg h)⟩⟩⟩
  | succ d ih =>
    intro k hk
    have i1 : (4 * nI g) + nI k = nI (4 * g + k) := by rw [cn_4, nI_add]
    have ck : (nI (4 * g + k)).toNatClampNeg = 4 * g + k := nI_clamp (by omega)
    refine br_f (nI_ge (a := k) (b := 4) (by omega) (by omega)) ?_
    rw [i1, ck, cm_stS]
    exact ⟨cn_in (by omega), nm_e (nm_r (nI_1 k) (ih (k + 1) (by omega)))⟩
theorem cz_x77 {fr to : Nat} {post : Int32 → SX → Prop} (hf : fr < 3) (ht : to < 3) (hne : fr ≠ to)
    (h : wpX_vacate (fun u => match u with | (xnew, xold, turn, left, xsay, xfail, xwhr, xword, xcon, xop, xreg, xadr, xuse, xsht, xkep, xsta, xtab, xpsw, xpen, xrgs, pag, stp, int, xsha, hel, xfro, xbef, xbeh, xsai) => post 1 (xnew, xold, turn, left, xsay, xfail, xwhr, xword, xcon, xop, xreg, xadr, xuse, xsht, xkep, xsta, xtab, xpsw, xpen, xrgs, pag, stp, int, xsha, hel, xfro, xbef, xbeh, xsai)) (xnew, xold, turn, left, xsay, xfail, xwhr, xword, xcon, xop, xreg, xadr, xuse, xsht, xkep, xsta, xtab, xpsw, xpen, cm_cp xrgs (4 * to) (4 * fr) 4, upd pag to 0, upd stp to 0, upd int to 0, xsha, hel, xfro, xbef, xbeh, xsai) (nI to)) :
    ∀ d k, k + d = 4 → wX_copy_77 post (nI fr) (nI to) xnew xold turn left xsay xfail xwhr (d + 1) (nI k) xword xcon xop xreg xadr xuse xsht xkep xsta xtab xpsw xpen (cm_cp xrgs (4 * to) (4 * fr) k) pag stp int xsha hel xfro xbef xbeh xsai := by
  have ct : (nI to).toNatClampNeg = to := nI_clamp (by omega)
  intro d
  induction d with
  | zero =>
    intro k hk
    have hk : k = 4 := hk
    subst hk
    refine br_t (nI_le (a := 4) (b := 4) (by omega) (by omega)) ?_
    rw [ct]
    exact ⟨cn_in ht, nm_e ⟨cn_in ht, nm_e ⟨cn_in ht, nm_e h⟩⟩⟩
  | succ d ih =>
    intro k hk
    have i1 : (4 * nI fr) + nI k = nI (4 * fr + k) := by rw [cn_4, nI_add]
    have i2 : (4 * nI to) + nI k = nI (4 * to + k) := by rw [cn_4, nI_add]
    have d1 : (nI (4 * fr + k)).toNatClampNeg = 4 * fr + k := nI_clamp (by omega)
    have d2 : (nI (4 * to + k)).toNatClampNeg = 4 * to + k := nI_clamp (by omega)
    have hS := cm_cpS (f := xrgs) (d := 4 * to) (s := 4 * fr) (k := k) (by omega)
    refine br_f (nI_ge (a := k) (b := 4) (by omega) (by omega)) ?_
    rw [i1, i2, d1, d2]
    exact ⟨cn_in (by omega), cn_in (by omega), nm_r hS (nm_r (nI_1 k) (ih (k + 1) (by omega)))⟩
theorem cz_x88 {g s : Nat} {post : Int32 → SX → Prop} (hg : g < 3) (hs : s < 2) (h : post 1 (xnew, xold, turn, left, xsay, xfail, xwhr, xword, xcon, xop, xreg, xadr, xuse, xsht, cm_c2 xkep xrgs (8 * s + 4) (4 * g) 4, xsta, xtab, xpsw, xpen, xrgs, pag, stp, int, xsha, hel, xfro, xbef, xbeh, xsai)) :
    ∀ d k, k + d = 4 → wX_keep_88 post (nI g) (nI (8 * s)) xnew xold turn left xsay xfail xwhr (d + 1) (nI k) xword xcon xop xreg xadr xuse xsht (cm_c2 xkep xrgs (8 * s + 4) (4 * g) k) xsta xtab xpsw xpen xrgs pag stp int xsha hel xfro xbef xbeh xsai := by
  intro d
  induction d with
  | zero =>
    intro k hk
    have hk : k = 4 := hk
    subst hk
    exact br_t (nI_le (a := 4) (b := 4) (by omega) (by omega)) h
  | succ d ih =>
    intro k hk
    have i1 : (4 * nI g) + nI k = nI (4 * g + k) := by rw [cn_4, nI_add]
    have i2 : (nI (8 * s) + 4) + nI k = nI (8 * s + 4 + k) := by rw [show nI (8 * s) + 4 = nI (8 * s + 4) from nI_add _ 4, nI_add]
    have d1 : (nI (4 * g + k)).toNatClampNeg = 4 * g + k := nI_clamp (by omega)
    have d2 : (nI (8 * s + 4 + k)).toNatClampNeg = 8 * s + 4 + k := nI_clamp (by omega)
    refine br_f (nI_ge (a := k) (b := 4) (by omega) (by omega)) ?_
    rw [i1, i2, d1, d2, cm_c2S]
    exact ⟨cn_in (by omega), cn_in (by omega), nm_e (nm_r (nI_1 k) (ih (k + 1) (by omega)))⟩
theorem cz_x104 {g s : Nat} {post : Int32 → SX → Prop} (hg : g < 3) (hs : s < 2) (h : wpX_vacate (fun u => match u with | (xnew, xold, turn, left, xsay, xfail, xwhr, xword, xcon, xop, xreg, xadr, xuse, xsht, xkep, xsta, xtab, xpsw, xpen, xrgs, pag, stp, int, xsha, hel, xfro, xbef, xbeh, xsai) => post 1 (xnew, xold, turn, left, xsay, xfail, xwhr, xword, xcon, xop, xreg, xadr, xuse, xsht, xkep, xsta, xtab, xpsw, xpen, xrgs, pag, stp, int, xsha, hel, xfro, xbef, xbeh, xsai)) (xnew, xold, turn, left, xsay, xfail, xwhr, xword, xcon, xop, xreg, xadr, xuse, xsht, xkep, xsta, xtab, xpsw, xpen, cm_c2 xrgs xkep (4 * g) (8 * s + 4) 4, pag, stp, int, xsha, hel, xfro, xbef, xbeh, xsai) (nI g)) :
    ∀ d k, k + d = 4 → wX_back_104 post (nI g) (nI (8 * s)) xnew xold turn left xsay xfail xwhr (d + 1) (nI k) xword xcon xop xreg xadr xuse xsht xkep xsta xtab xpsw xpen (cm_c2 xrgs xkep (4 * g) (8 * s + 4) k) pag stp int xsha hel xfro xbef xbeh xsai := by
  intro d
  induction d with
  | zero =>
    intro k hk
    have hk : k = 4 := hk
    subst hk
    exact br_t (nI_le (a := 4) (b := 4) (by omega) (by omega)) h
  | succ d ih =>
    intro k hk
    have i1 : (4 * nI g) + nI k = nI (4 * g + k) := by rw [cn_4, nI_add]
    have i2 : (nI (8 * s) + 4) + nI k = nI (8 * s + 4 + k) := by rw [show nI (8 * s) + 4 = nI (8 * s + 4) from nI_add _ 4, nI_add]
    have d1 : (nI (4 * g + k)).toNatClampNeg = 4 * g + k := nI_clamp (by omega)
    have d2 : (nI (8 * s + 4 + k)).toNatClampNeg = 8 * s + 4 + k := nI_clamp (by omega)
    refine br_f (nI_ge (a := k) (b := 4) (by omega) (by omega)) ?_
    rw [i1, i2, d1, d2, cm_c2S]
    exact ⟨cn_in (by omega), cn_in (by omega), nm_e (nm_r (nI_1 k) (ih (k + 1) (by omega)))⟩
end
end
section
/-! what is owed: the relation, the questions, the small calls -/
def i_Rel (k : Nat) (u : SX) (v : SY) : Prop := ∃ N M : Nat, N ≤ 150 * k ∧ M ≤ 25 * k ∧ c_R N M u v
theorem i_up {k : Nat} {u : SX} {v : SY} (h : i_Rel k u v) : i_Rel (k + 4) u v := by
  obtain ⟨N, M, hN, hM, hR⟩ := h
  exact ⟨N, M, by omega, by omega, hR⟩
theorem i_vc0 : wpX_init (fun u => wpY_init (fun v => i_Rel 0 u v)) := ci_init (fun u v h => ⟨0, 0, by omega, by omega, h⟩)
theorem iz_mk {k N M : Nat} {u : SX} {v : SY} (hN : N ≤ 150 * k) (hM : M ≤ 25 * k) (h : c_R N M u v) : i_Rel (k + 4) u v := ⟨N, M, by omega, by omega, h⟩
theorem cz_ix (x : Int32) (n : Nat) (hn : n < 2 ^ 31) : (x < 0 ∨ nI n ≤ x) ∨ ∃ j, j < n ∧ x = nI j := by
  rcases pk_ix x hn with h | h | h
  · exact Or.inl (Or.inl h)
  · exact Or.inl (Or.inr h)
  · exact Or.inr h
theorem cz_ig0 {x : Int32} {post : Int32 → Prop} (h : x < 0 ∨ nI 3 ≤ x) (k : post 0) : wpX_isGuest post x :=
  br_c (fun _ => k) (fun c => br_t (h.resolve_left c) k)
theorem cz_ig1 {g : Nat} {post : Int32 → Prop} (hg : g < 3) (k : post 1) : wpX_isGuest post (nI g) :=
  br_f (nI_pos (by omega)) (br_f (nI_ge (b := 3) hg (by decide)) k)
theorem cz_ou0 {x : Int32} {n : Nat} {post : Int32 → Prop} (h : x < 0 ∨ nI n ≤ x) (k : post 1) : wpY_out post x (nI n) :=
  br_c (fun _ => k) (fun c => br_f (Int32.not_lt.mpr (h.resolve_left c)) k)
theorem cz_ou1 {j n : Nat} {post : Int32 → Prop} (hj : j < n) (hn : n < 2 ^ 31) (k : post 0) : wpY_out post (nI j) (nI n) :=
  br_f (nI_pos (by omega)) (br_t (nI_lt hj hn) k)
theorem cz_gt {x : Int32} {n : Nat} (hn : n < 1000) (h : nI (n + 1) ≤ x) : ¬ x ≤ nI n := by
  rw [Int32.le_iff_toInt_le, nI_toInt (by omega)] at h
  rw [Int32.le_iff_toInt_le, nI_toInt (by omega)]
  omega
theorem cz_r0 {x : Int32} {n : Nat} {A B : Prop} (hn : n < 1000) (h : x < 0 ∨ nI (n + 1) ≤ x) (a : A) : (x < 0 → A) ∧ (¬ x < 0 → ((x ≤ nI n → B) ∧ (¬ x ≤ nI n → A))) :=
  br_c (fun _ => a) (fun c => br_f (cz_gt hn (h.resolve_left c)) a)
theorem cz_r1 {j n : Nat} {A B C : Prop} (hn : n < 1000) (h : j < n + 1) (b : B) : (nI j < 0 → A) ∧ (¬ nI j < 0 → ((nI j ≤ nI n → B) ∧ (¬ nI j ≤ nI n → C))) :=
  br_f (nI_pos (by omega)) (br_t (nI_le (by omega) (by omega)) b)
theorem cz_s0 {x : Int32} {n : Nat} {A B : Prop} (hn : n < 1000) (h : x < 0 ∨ nI (n + 1) ≤ x) (a : A) : (x < 0 → A) ∧ (¬ x < 0 → ((nI n < x → A) ∧ (¬ nI n < x → B))) :=
  br_c (fun _ => a) (fun c => br_t (Int32.not_le.mp (cz_gt hn (h.resolve_left c))) a)
theorem cz_s1 {j n : Nat} {A B C : Prop} (hn : n < 1000) (h : j < n + 1) (b : B) : (nI j < 0 → A) ∧ (¬ nI j < 0 → ((nI n < nI j → C) ∧ (¬ nI n < nI j → B))) :=
  br_f (nI_pos (by omega)) (br_f (nI_nlt (by omega) (by omega)) b)
theorem i_vc_store {k : Nat} {u : SX} {v : SY} (I : i_Rel k u v) (hk : k + 4 ≤ 2048) (v1 : Int32) (v2 : Int32) (v3 : Int32) : wpX_store (fun r u' => wpY_store (fun r' v' => r' = r ∧ i_Rel (k + 4) u' v') v v1 v2 v3) u v1 v2 v3 := by
  obtain ⟨N, M, hN, hM, hR⟩ := I
  refine c_el (P := fun u v => wpX_store (fun r u' => wpY_store (fun r' v' => r' = r ∧ i_Rel (k + 4) u' v') v v1 v2 v3) u v1 v2 v3) ?_ hR
  intro tn lf xwhr pag stp int xnew xold hel xfro xbef xbeh yusd xword xcon xop xreg xadr xuse xsht yword xsha xsta xtab xpsw xpen xrgs xkep ysta ytab ypsw ypen yrgs ykep xsai ytal H
  have same := iz_mk hN hM (c_mk (pag := pag) (stp := stp) (int := int) (xwhr := xwhr) H)
  unfold wpX_store wpY_store
  dsimp only
  rcases cz_ix v1 3 (by decide) with h | ⟨g, hg, rfl⟩
  · exact cz_ig0 h (br_t rfl (cz_ou0 h (br_f (by decide) ⟨rfl, same⟩)))
  · rcases cz_ix v2 64 (by decide) with h | ⟨a, ha, rfl⟩
    · exact cz_ig1 hg (br_f (by decide) (cz_r0 (n := 63) (by decide) h (cz_ou1 hg (by decide) (br_t rfl (cz_ou0 h (br_f (by decide) ⟨rfl, same⟩))))))
    · obtain ⟨hT, hF, hM2, hS, hG, hL⟩ := H
      obtain ⟨_, t, _, _, _, ht, _, _, _, _, et, _, _, _, _, _⟩ := cg_get hg hG
      obtain ⟨w2, o2, u2, t2, s2, hM3, hS3, hXw⟩ := cm_write v3 hg ha ht et hM2 hS
      have fin := iz_mk hN hM (c_mk (pag := pag) (stp := stp) (int := int) (xwhr := xwhr) ⟨hT, hF, hM3, hS3, hG, hL⟩)
      have ix : (64 * nI g) + nI a = nI (64 * g + a) := by rw [cn_64, nI_add]
      have ci : (nI (64 * g + a)).toNatClampNeg = 64 * g + a := nI_clamp (by omega)
      refine cz_ig1 hg (br_f (by decide) (cz_r1 (n := 63) (by decide) ha (hXw _ (cz_ou1 hg (by decide) (br_t rfl (cz_ou1 ha (by decide) (br_t rfl ?_)))))))
      rw [ix, ci]
      exact ⟨cn_in (by omega), nm_e ⟨rfl, fin⟩⟩
theorem i_vc_word {k : Nat} {u : SX} {v : SY} (I : i_Rel k u v) (hk : k + 4 ≤ 2048) (v1 : Int32) (v2 : Int32) : wpX_word (fun r => wpY_word (fun r' => r' = r ∧ i_Rel (k + 4) u v) v v1 v2) u v1 v2 := by
  obtain ⟨N, M, hN, hM, hR⟩ := I
  refine c_el (P := fun u v => wpX_word (fun r => wpY_word (fun r' => r' = r ∧ i_Rel (k + 4) u v) v v1 v2) u v1 v2) ?_ hR
  intro tn lf xwhr pag stp int xnew xold hel xfro xbef xbeh yusd xword xcon xop xreg xadr xuse xsht yword xsha xsta xtab xpsw xpen xrgs xkep ysta ytab ypsw ypen yrgs ykep xsai ytal H
  have same := iz_mk hN hM (c_mk (pag := pag) (stp := stp) (int := int) (xwhr := xwhr) H)
  unfold wpX_word wpY_word
  dsimp only
  rcases cz_ix v1 3 (by decide) with h | ⟨g, hg, rfl⟩
  · exact cz_ig0 h (br_t rfl (cz_ou0 h (br_f (by decide) ⟨rfl, same⟩)))
  · rcases cz_ix v2 64 (by decide) with h | ⟨a, ha, rfl⟩
    · exact cz_ig1 hg (br_f (by decide) (cz_r0 (n := 63) (by decide) h (cz_ou1 hg (by decide) (br_t rfl (cz_ou0 h (br_f (by decide) ⟨rfl, same⟩))))))
    · have hM2 := H.2.2.1
      obtain ⟨s4, hs4, es4⟩ := hM2.1.1 (8 * g + a / 8) (by omega)
      have ew : xword (8 * s4 + a % 8) = yword (64 * g + a) := by
        rw [hM2.2.1 _ (by omega) s4 hs4 es4 _ (by omega)]
        exact congrArg yword (by omega)
      have cw : (nI (8 * s4 + a % 8)).toNatClampNeg = 8 * s4 + a % 8 := nI_clamp (by omega)
      have ix : (64 * nI g) + nI a = nI (64 * g + a) := by rw [cn_64, nI_add]
      have ci : (nI (64 * g + a)).toNatClampNeg = 64 * g + a := nI_clamp (by omega)
      refine cz_ig1 hg (br_f (by decide) (cz_r1 (n := 63) (by decide) ha (cm_at (by omega) ha hs4 es4 (And.intro (cn_in (by omega)) (cz_ou1 hg (by decide) (br_t rfl (cz_ou1 ha (by decide) (br_t rfl ?_))))))))
      rw [ix, ci, cw, ew]
      exact ⟨cn_in (by omega), rfl, same⟩
theorem i_vc_stop {k : Nat} {u : SX} {v : SY} (I : i_Rel k u v) (hk : k + 4 ≤ 2048) (v1 : Int32) : wpX_stop (fun r u' => wpY_stop (fun r' v' => r' = r ∧ i_Rel (k + 4) u' v') v v1) u v1 := by
  obtain ⟨N, M, hN, hM, hR⟩ := I
  refine c_el (P := fun u v => wpX_stop (fun r u' => wpY_stop (fun r' v' => r' = r ∧ i_Rel (k + 4) u' v') v v1) u v1) ?_ hR
  intro tn lf xwhr pag stp int xnew xold hel xfro xbef xbeh yusd xword xcon xop xreg xadr xuse xsht yword xsha xsta xtab xpsw xpen xrgs xkep ysta ytab ypsw ypen yrgs ykep xsai ytal H
  have same := iz_mk hN hM (c_mk (pag := pag) (stp := stp) (int := int) (xwhr := xwhr) H)
  unfold wpX_stop wpY_stop
  dsimp only
  rcases cz_ix v1 3 (by decide) with h | ⟨g, hg, rfl⟩
  · exact cz_ig0 h (br_t rfl (cz_ou0 h (br_f (by decide) ⟨rfl, same⟩)))
  · obtain ⟨hT, hF, hM2, hS, hG, hL⟩ := H
    have cg : (nI g).toNatClampNeg = g := nI_clamp (by omega)
    have es := (hG.2.1 g hg).1
    have fin := iz_mk hN hM (c_mk (pag := pag) (stp := stp) (int := int) (xwhr := xwhr) ⟨hT, hF, hM2, hS, cg_sta (s := 0) hg (by omega) hG, hL⟩)
    refine cz_ig1 hg (br_f (by decide) ⟨cn_in hg, ?_⟩)
    rw [cg]
    by_cases c : ysta g = 0
    · refine br_t (es.trans c) (cz_ou1 hg (by decide) (br_t rfl ⟨cn_in (by omega), ?_⟩))
      exact br_t c ⟨rfl, same⟩
    · refine br_f (fun z => c (es.symm.trans z)) ⟨cn_in hg, ?_⟩
      rw [show vp_nar .byte 0 = nI 0 from cn_vb (n := 0) (by omega)]
      refine nm_e (cz_ou1 hg (by decide) (br_t rfl ⟨cn_in (by omega), ?_⟩))
      exact br_f c ⟨cn_in (by omega), nm_e ⟨rfl, fin⟩⟩
theorem i_vc_resume {k : Nat} {u : SX} {v : SY} (I : i_Rel k u v) (hk : k + 4 ≤ 2048) (v1 : Int32) : wpX_resume (fun r u' => wpY_resume (fun r' v' => r' = r ∧ i_Rel (k + 4) u' v') v v1) u v1 := by
  obtain ⟨N, M, hN, hM, hR⟩ := I
  refine c_el (P := fun u v => wpX_resume (fun r u' => wpY_resume (fun r' v' => r' = r ∧ i_Rel (k + 4) u' v') v v1) u v1) ?_ hR
  intro tn lf xwhr pag stp int xnew xold hel xfro xbef xbeh yusd xword xcon xop xreg xadr xuse xsht yword xsha xsta xtab xpsw xpen xrgs xkep ysta ytab ypsw ypen yrgs ykep xsai ytal H
  have same := iz_mk hN hM (c_mk (pag := pag) (stp := stp) (int := int) (xwhr := xwhr) H)
  unfold wpX_resume wpY_resume
  dsimp only
  rcases cz_ix v1 3 (by decide) with h | ⟨g, hg, rfl⟩
  · exact cz_ig0 h (br_t rfl (cz_ou0 h (br_f (by decide) ⟨rfl, same⟩)))
  · obtain ⟨hT, hF, hM2, hS, hG, hL⟩ := H
    have cg : (nI g).toNatClampNeg = g := nI_clamp (by omega)
    have es := (hG.2.1 g hg).1
    have fin := iz_mk hN hM (c_mk (pag := pag) (stp := stp) (int := int) (xwhr := xwhr) ⟨hT, hF, hM2, hS, cg_sta (s := 1) hg (by omega) hG, hL⟩)
    refine cz_ig1 hg (br_f (by decide) ⟨cn_in hg, ?_⟩)
    rw [cg]
    by_cases c : ysta g = 0
    · refine br_t (es.trans c) ⟨cn_in hg, ?_⟩
      rw [show vp_nar .byte 1 = nI 1 from cn_vb (n := 1) (by omega)]
      refine nm_e (cz_ou1 hg (by decide) (br_t rfl ⟨cn_in (by omega), ?_⟩))
      exact br_t c ⟨cn_in (by omega), nm_e ⟨rfl, fin⟩⟩
    · refine br_f (fun z => c (es.symm.trans z)) (cz_ou1 hg (by decide) (br_t rfl ⟨cn_in (by omega), ?_⟩))
      exact br_f c ⟨rfl, same⟩
theorem i_vc_post {k : Nat} {u : SX} {v : SY} (I : i_Rel k u v) (hk : k + 4 ≤ 2048) (v1 : Int32) (v2 : Int32) : wpX_post (fun r u' => wpY_post (fun r' v' => r' = r ∧ i_Rel (k + 4) u' v') v v1 v2) u v1 v2 := by
  obtain ⟨N, M, hN, hM, hR⟩ := I
  refine c_el (P := fun u v => wpX_post (fun r u' => wpY_post (fun r' v' => r' = r ∧ i_Rel (k + 4) u' v') v v1 v2) u v1 v2) ?_ hR
  intro tn lf xwhr pag stp int xnew xold hel xfro xbef xbeh yusd xword xcon xop xreg xadr xuse xsht yword xsha xsta xtab xpsw xpen xrgs xkep ysta ytab ypsw ypen yrgs ykep xsai ytal H
  have same := iz_mk hN hM (c_mk (pag := pag) (stp := stp) (int := int) (xwhr := xwhr) H)
  unfold wpX_post wpY_post
  dsimp only
  rcases cz_ix v1 3 (by decide) with h | ⟨g, hg, rfl⟩
  · exact cz_ig0 h (br_t rfl (cz_ou0 h (br_f (by decide) ⟨rfl, same⟩)))
  · rcases cz_ix v2 256 (by decide) with h | ⟨a, ha, rfl⟩
    · exact cz_ig1 hg (br_f (by decide) (cz_r0 (n := 255) (by decide) h (cz_ou1 hg (by decide) (br_t rfl (cz_ou0 h (br_f (by decide) ⟨rfl, same⟩))))))
    · obtain ⟨hT, hF, hM2, hS, hG, hL⟩ := H
      have cg : (nI g).toNatClampNeg = g := nI_clamp (by omega)
      have fin := iz_mk hN hM (c_mk (pag := pag) (stp := stp) (int := int) (xwhr := xwhr) ⟨hT, hF, hM2, hS, cg_pen (c := nI a) hg (Or.inr ⟨a, ha, rfl⟩) hG, hL⟩)
      refine cz_ig1 hg (br_f (by decide) (cz_r1 (n := 255) (by decide) ha ⟨cn_in hg, ?_⟩))
      rw [cg, cn_vss (by omega)]
      refine nm_e (cz_ou1 hg (by decide) (br_t rfl (cz_ou1 ha (by decide) (br_t rfl ⟨cn_in (by omega), ?_⟩))))
      exact nm_e ⟨rfl, fin⟩
theorem i_vc_turn {k : Nat} {u : SX} {v : SY} (I : i_Rel k u v) (hk : k + 4 ≤ 2048) (v1 : Int32) : wpX_turn (fun r => wpY_turn (fun r' => r' = r ∧ i_Rel (k + 4) u v) v (lw_bz v1)) u (lw_bz v1) := by
  obtain ⟨N, M, hN, hM, hR⟩ := I
  refine c_el (P := fun u v => wpX_turn (fun r => wpY_turn (fun r' => r' = r ∧ i_Rel (k + 4) u v) v (lw_bz v1)) u (lw_bz v1)) ?_ hR
  intro tn lf xwhr pag stp int xnew xold hel xfro xbef xbeh yusd xword xcon xop xreg xadr xuse xsht yword xsha xsta xtab xpsw xpen xrgs xkep ysta ytab ypsw ypen yrgs ykep xsai ytal H
  have same := iz_mk hN hM (c_mk (pag := pag) (stp := stp) (int := int) (xwhr := xwhr) H)
  unfold wpX_turn wpY_turn
  dsimp only
  exact br_c (fun c => br_t c ⟨rfl, same⟩) (fun c => br_f c ⟨rfl, same⟩)
theorem i_vc_told {k : Nat} {u : SX} {v : SY} (I : i_Rel k u v) (hk : k + 4 ≤ 2048) (v1 : Int32) : wpX_told (fun r => wpY_told (fun r' => r' = r ∧ i_Rel (k + 4) u v) v v1) u v1 := by
  obtain ⟨N, M, hN, hM, hR⟩ := I
  refine c_el (P := fun u v => wpX_told (fun r => wpY_told (fun r' => r' = r ∧ i_Rel (k + 4) u v) v v1) u v1) ?_ hR
  intro tn lf xwhr pag stp int xnew xold hel xfro xbef xbeh yusd xword xcon xop xreg xadr xuse xsht yword xsha xsta xtab xpsw xpen xrgs xkep ysta ytab ypsw ypen yrgs ykep xsai ytal H
  have same := iz_mk hN hM (c_mk (pag := pag) (stp := stp) (int := int) (xwhr := xwhr) H)
  unfold wpX_told wpY_told
  dsimp only
  rcases cz_ix v1 8 (by decide) with h | ⟨j, hj, rfl⟩
  · exact cz_s0 (n := 7) (by decide) h (cz_ou0 h (br_f (by decide) ⟨rfl, same⟩))
  · have cj : (nI j).toNatClampNeg = j := nI_clamp (by omega)
    have hT := H.2.2.2.2.2 j hj
    refine cz_s1 (n := 7) (by decide) hj ?_
    by_cases c : j < M
    · rw [if_pos c] at hT
      have i1 : (nI M - 1) - nI j = nI (M - 1 - j) := by
        rw [show nI M - 1 = nI (M - 1) from pk_sub (b := 1) (by omega), pk_sub (by omega)]
      have c8 : (nI ((M - 1 - j) % 8)).toNatClampNeg = (M - 1 - j) % 8 := nI_clamp (by omega)
      refine br_t (nI_lt c (by omega)) ?_
      rw [i1, cn_a7 (by omega), c8]
      refine ⟨cn_in (by omega), cz_ou1 hj (by decide) (br_t rfl ⟨cn_in hj, ?_⟩)⟩
      rw [cj]
      exact ⟨hT, same⟩
    · rw [if_neg c] at hT
      refine br_f (nI_nlt (by omega) (by omega)) (cz_ou1 hj (by decide) (br_t rfl ⟨cn_in hj, ?_⟩))
      rw [cj]
      exact ⟨hT, same⟩
theorem i_vc_leads {k : Nat} {u : SX} {v : SY} (I : i_Rel k u v) (hk : k + 4 ≤ 2048) (v1 : Int32) (v2 : Int32) (v3 : Int32) : wpX_leads (fun r u' => wpY_leads (fun r' => r' = r ∧ i_Rel (k + 4) u' v) v v1 v2 (lw_bz v3)) u v1 v2 (lw_bz v3) := by
  obtain ⟨N, M, hN, hM, hR⟩ := I
  refine c_el (P := fun u v => wpX_leads (fun r u' => wpY_leads (fun r' => r' = r ∧ i_Rel (k + 4) u' v) v v1 v2 (lw_bz v3)) u v1 v2 (lw_bz v3)) ?_ hR
  intro tn lf xwhr pag stp int xnew xold hel xfro xbef xbeh yusd xword xcon xop xreg xadr xuse xsht yword xsha xsta xtab xpsw xpen xrgs xkep ysta ytab ypsw ypen yrgs ykep xsai ytal H
  have same := iz_mk hN hM (c_mk (pag := pag) (stp := stp) (int := int) (xwhr := xwhr) H)
  unfold wpX_leads wpY_leads
  dsimp only
  rcases cz_ix v1 3 (by decide) with h | ⟨g, hg, rfl⟩
  · exact cz_ig0 h (br_t rfl (cz_ou0 h (br_f (by decide) ⟨rfl, same⟩)))
  · obtain ⟨hT, hF, hM2, hS, hG, hL⟩ := H
    obtain ⟨s, t, p, c, hs, ht, hp, hc, _, _, et, et2, ep, ep2, _, _⟩ := cg_get hg hG
    obtain ⟨a, ha, ea⟩ := cn_x63 v2
    obtain ⟨r, s1, hS1, hr, hX, hY⟩ := cw_map (lw_bz v3) hg ha ht et et2 (ep.trans ep2.symm) hM2 hS
    have fin := iz_mk hN hM (c_mk (pag := pag) (stp := stp) (int := int) (xwhr := xwhr) ⟨hT, hF, hM2, hS1, hG, hL⟩)
    refine cz_ig1 hg (br_f (by decide) ?_)
    rw [ea]
    exact hX _ (cz_ou1 hg (by decide) (br_t rfl (hY _ ea _ ⟨rfl, fin⟩)))
theorem i_vc_run {k : Nat} {u : SX} {v : SY} (I : i_Rel k u v) (hk : k + 4 ≤ 2048) (v1 : Int32) : wpX_run (fun r u' => wpY_run (fun r' v' => r' = r ∧ i_Rel (k + 4) u' v') v v1) u v1 := by
  obtain ⟨N, M, hN, hM, hR⟩ := I
  refine c_el (P := fun u v => wpX_run (fun r u' => wpY_run (fun r' v' => r' = r ∧ i_Rel (k + 4) u' v') v v1) u v1) ?_ hR
  intro tn lf xwhr pag stp int xnew xold hel xfro xbef xbeh yusd xword xcon xop xreg xadr xuse xsht yword xsha xsta xtab xpsw xpen xrgs xkep ysta ytab ypsw ypen yrgs ykep xsai ytal H
  have same := iz_mk hN hM (c_mk (pag := pag) (stp := stp) (int := int) (xwhr := xwhr) H)
  unfold wpX_run wpY_run
  dsimp only
  rcases cz_ix v1 101 (by decide) with h | ⟨n, hn, rfl⟩
  · exact cz_r0 (n := 100) (by decide) h (cz_ou0 h (br_f (by decide) ⟨rfl, same⟩))
  · obtain ⟨r, N', M', u', v', hN', hM', hR', kX, kY⟩ := cr_all (n := n) (by omega) n 0 N M _ _ (by omega) (by omega) (by omega) (c_mk (pag := pag) (stp := stp) (int := int) (xwhr := xwhr) H)
    have fin : i_Rel (k + 4) u' v' := ⟨N', M', by omega, by omega, hR'⟩
    exact cz_r1 (n := 100) (by decide) hn ⟨n + 1, kX _ (cz_ou1 hn (by decide) (br_t rfl ⟨n + 1, kY _ ⟨rfl, fin⟩⟩))⟩
end
section
/-! what is owed: start, copy, keep, back, guest, frame -/
theorem i_vc_start {k : Nat} {u : SX} {v : SY} (I : i_Rel k u v) (hk : k + 4 ≤ 2048) (v1 : Int32) (v2 : Int32) : wpX_start (fun r u' => wpY_start (fun r' v' => r' = r ∧ i_Rel (k + 4) u' v') v v1 v2) u v1 v2 := by
  obtain ⟨N, M, hN, hM, hR⟩ := I
  refine c_el (P := fun u v => wpX_start (fun r u' => wpY_start (fun r' v' => r' = r ∧ i_Rel (k + 4) u' v') v v1 v2) u v1 v2) ?_ hR
  intro tn lf xwhr pag stp int xnew xold hel xfro xbef xbeh yusd xword xcon xop xreg xadr xuse xsht yword xsha xsta xtab xpsw xpen xrgs xkep ysta ytab ypsw ypen yrgs ykep xsai ytal H
  have same := iz_mk hN hM (c_mk (pag := pag) (stp := stp) (int := int) (xwhr := xwhr) H)
  unfold wpX_start wpY_start
  dsimp only
  rcases cz_ix v1 3 (by decide) with h | ⟨g, hg, rfl⟩
  · exact cz_ig0 h (br_t rfl (cz_ou0 h (br_f (by decide) ⟨rfl, same⟩)))
  · obtain ⟨hT, hF, hM2, hS, hG, hL⟩ := H
    have cg : (nI g).toNatClampNeg = g := nI_clamp (by omega)
    obtain ⟨p, hp, ep⟩ := cn_x511 v2
    obtain ⟨s1, hS1, hXr⟩ := ct_retable (t' := 0) hg (by decide) hS
    have hG2 := cg_at (s := 1) (t := 0) (c := -1) hg (by decide) (by decide) hp (Or.inl rfl) hG
    have hG3 := cg_regs (xrgs' := cm_st xrgs (4 * g) 0 4) (yrgs' := cm_st yrgs (4 * g) 0 4) (fun j hj => by
      by_cases c : 4 * g ≤ j ∧ j < 4 * g + 4
      · rw [cm_stI c, cm_stI c]
      · rw [cm_stO c, cm_stO c]
        exact hG.2.2.1 j hj) (fun j hj => cm_stO (by omega)) hG2
    have fin := iz_mk hN hM (c_mk (pag := upd pag g 0) (stp := upd stp g 0) (int := upd int g 0) (xwhr := xwhr) ⟨hT, hF, hM2, hS1, hG3, hL⟩)
    refine cz_ig1 hg (br_f (by decide) ⟨cn_in hg, ?_⟩)
    rw [cg, ep, cn_vss (by omega)]
    refine nm_e (hXr _ (nm_r (cn_4 g) ⟨5, ?_⟩))
    have k := cz_x31 (post := fun r u' => wpY_out (fun r_1 => (r_1 = 0 → vp_in (nI g) 5 ∧ ∀ a_psw_4 : Nat → Int32, a_psw_4 = upd ypsw g (nI p) → ∃ n23 : Nat, wY_start_23 (fun r' v' => r' = r ∧ i_Rel (k + 4) u' v') (nI g) (lN N) (nI tn) (nI lf) n23 0 yword yrgs a_psw_4 ytab ypen ysta ykep pag stp int hel yusd ytal) ∧ (¬ r_1 = 0 → 0 = r ∧ i_Rel (k + 4) u' (lN N, nI tn, nI lf, yword, yrgs, ypsw, ytab, ypen, ysta, ykep, pag, stp, int, hel, yusd, ytal))) (nI g) 3) (xrgs := xrgs) hg (cz_ou1 hg (by decide) (br_t rfl ⟨cn_in (by omega), nm_e ⟨5, by
      have y := cz_y23 (yrgs := yrgs) (post := fun r' v' => r' = 1 ∧ i_Rel (k + 4) _ v') hg ⟨rfl, fin⟩ 4 0 rfl
      rw [cm_st0] at y
      exact y⟩⟩)) 4 0 rfl
    rw [cm_st0] at k
    exact k
theorem cz_Skeep {xsha xtab yword : Nat → Int32} {d e : Nat} (hd : 3 ≤ d) (S : cm_S xsha xtab yword) : cm_S xsha xtab (cm_cp yword (64 * d) (64 * e) 64) := by
  intro g hg t ht et p hp
  rw [cm_cpO (by omega)]
  exact S g hg t ht et p hp
theorem cz_Scopy {xsha xtab yword : Nat → Int32} {d e : Nat} (x : Int32) (S : cm_S xsha xtab yword) : cm_S (cm_st xsha (8 * d) (-1) 8) (upd xtab d x) (cm_cp yword (64 * d) (64 * e) 64) := by
  refine cm_Sclear ?_
  intro g hg ne t ht et p hp
  rw [cn_un ne] at et
  rw [cm_cpO (by omega)]
  exact S g hg t ht et p hp
theorem i_vc_copy {k : Nat} {u : SX} {v : SY} (I : i_Rel k u v) (hk : k + 4 ≤ 2048) (v1 : Int32) (v2 : Int32) : wpX_copy (fun r u' => wpY_copy (fun r' v' => r' = r ∧ i_Rel (k + 4) u' v') v v1 v2) u v1 v2 := by
  obtain ⟨N, M, hN, hM, hR⟩ := I
  refine c_el (P := fun u v => wpX_copy (fun r u' => wpY_copy (fun r' v' => r' = r ∧ i_Rel (k + 4) u' v') v v1 v2) u v1 v2) ?_ hR
  intro tn lf xwhr pag stp int xnew xold hel xfro xbef xbeh yusd xword xcon xop xreg xadr xuse xsht yword xsha xsta xtab xpsw xpen xrgs xkep ysta ytab ypsw ypen yrgs ykep xsai ytal H
  have same := iz_mk hN hM (c_mk (pag := pag) (stp := stp) (int := int) (xwhr := xwhr) H)
  rcases cz_ix v1 3 (by decide) with h | ⟨fr, hf, rfl⟩
  · unfold wpX_copy wpY_copy
    dsimp only
    exact cz_ig0 h (br_t rfl (cz_ou0 h (br_f (by decide) ⟨rfl, same⟩)))
  · rcases cz_ix v2 3 (by decide) with h | ⟨to, ht, rfl⟩
    · unfold wpX_copy wpY_copy
      dsimp only
      exact cz_ig1 hf (br_f (by decide) (cz_ig0 h (br_t rfl (cz_ou1 hf (by decide) (br_t rfl (cz_ou0 h (br_f (by decide) ⟨rfl, same⟩)))))))
    · by_cases e : fr = to
      · subst e
        unfold wpX_copy wpY_copy
        dsimp only
        exact cz_ig1 hf (br_f (by decide) (cz_ig1 hf (br_f (by decide) (br_t rfl (cz_ou1 hf (by decide) (br_t rfl (cz_ou1 hf (by decide) (br_t rfl (br_t rfl ⟨rfl, same⟩)))))))))
      · have ne : ¬ nI fr = nI to := fun z => e (cn_inj z (by omega) (by omega))
        have c1 : (nI fr).toNatClampNeg = fr := nI_clamp (by omega)
        have c2 : (nI to).toNatClampNeg = to := nI_clamp (by omega)
        obtain ⟨hT, hF, hM2, hS, hG, hL⟩ := H
        obtain ⟨s, t, p, c, hs, ht2, hp, hc, e1, e2, e3, e4, e5, e6, e7, e8⟩ := cg_get hf hG
        obtain ⟨u1, hM3, hXs⟩ := cs_share (fr := fr) (to := to) (by omega) (by omega) e hM2
        obtain ⟨n1, o1, f1, b1, h1, hF1, hXv⟩ := cv_vacate ht hF
        have hG2 := cg_copy hf ht e hG
        have hS2 := cz_Scopy (d := to) (e := fr) (ytab fr) hS
        have fin := iz_mk hN hM (c_mk (pag := upd pag to 0) (stp := upd stp to 0) (int := upd int to 0) (xwhr := xwhr) ⟨hT, hF1, hM3, hS2, hG2, hL⟩)
        have hX : ∀ post : Int32 → SX → Prop, post 1 (n1, o1, nI tn, nI lf, nI M, 0, xwhr, xword, xcon, xop, xreg, xadr, u1, cm_cp xsht (8 * to) (8 * fr) 8, xkep, upd xsta to (ysta fr), upd xtab to (ytab fr), upd xpsw to (ypsw fr), upd xpen to (ypen fr), cm_cp xrgs (4 * to) (4 * fr) 4, upd pag to 0, upd stp to 0, upd int to 0, cm_st xsha (8 * to) (-1) 8, cv_h hel to 8, f1, b1, h1, xsai) → wpX_copy post (xnew, xold, nI tn, nI lf, nI M, 0, xwhr, xword, xcon, xop, xreg, xadr, xuse, xsht, xkep, xsta, xtab, xpsw, xpen, xrgs, pag, stp, int, xsha, hel, xfro, xbef, xbeh, xsai) (nI fr) (nI to) := by
          intro post h
          rw [e2, e4, e6, e8] at h
          unfold wpX_copy
          dsimp only
          rw [c1, c2]
          refine cz_ig1 hf (br_f (by decide) (cz_ig1 ht (br_f (by decide) (br_f ne (hXs _ (And.intro (cn_in hf) (And.intro (cn_in ht) ?_)))))))
          dsimp only
          rw [e1, e3, e5, e7, cn_vb (n := s) (by omega), cn_vb (n := t) (by omega), cn_vs (n := p) (by omega), cn_vsx (hc.imp id (fun ⟨c', h1, h2⟩ => ⟨c', by omega, h2⟩))]
          refine nm_e ⟨cn_in hf, cn_in ht, nm_e ⟨cn_in hf, cn_in ht, nm_e ⟨cn_in hf, cn_in ht, nm_e ⟨5, ?_⟩⟩⟩⟩
          have y := cz_x77 (xrgs := xrgs) (post := post) hf ht e (hXv _ h) 4 0 rfl
          rw [cm_cp0] at y
          exact y
        have hY : ∀ post : Int32 → SY → Prop, post 1 (lN N, nI tn, nI lf, cm_cp yword (64 * to) (64 * fr) 64, cm_cp yrgs (4 * to) (4 * fr) 4, upd ypsw to (ypsw fr), upd ytab to (ytab fr), upd ypen to (ypen fr), upd ysta to (ysta fr), ykep, upd pag to 0, upd stp to 0, upd int to 0, cv_h hel to 8, yusd, ytal) → wpY_copy post (lN N, nI tn, nI lf, yword, yrgs, ypsw, ytab, ypen, ysta, ykep, pag, stp, int, hel, yusd, ytal) (nI fr) (nI to) := by
          intro post h
          unfold wpY_copy
          dsimp only
          exact cz_ou1 hf (by decide) (br_t rfl (cz_ou1 ht (by decide) (br_t rfl (br_f ne (cs_become (by omega) (by omega) e (cz_forget ht (cv_clear ht hF h)))))))
        exact hX _ (hY _ ⟨rfl, fin⟩)
theorem i_vc_keep {k : Nat} {u : SX} {v : SY} (I : i_Rel k u v) (hk : k + 4 ≤ 2048) (v1 : Int32) (v2 : Int32) : wpX_keep (fun r u' => wpY_keep (fun r' v' => r' = r ∧ i_Rel (k + 4) u' v') v v1 v2) u v1 v2 := by
  obtain ⟨N, M, hN, hM, hR⟩ := I
  refine c_el (P := fun u v => wpX_keep (fun r u' => wpY_keep (fun r' v' => r' = r ∧ i_Rel (k + 4) u' v') v v1 v2) u v1 v2) ?_ hR
  intro tn lf xwhr pag stp int xnew xold hel xfro xbef xbeh yusd xword xcon xop xreg xadr xuse xsht yword xsha xsta xtab xpsw xpen xrgs xkep ysta ytab ypsw ypen yrgs ykep xsai ytal H
  have same := iz_mk hN hM (c_mk (pag := pag) (stp := stp) (int := int) (xwhr := xwhr) H)
  rcases cz_ix v1 3 (by decide) with h | ⟨g, hg, rfl⟩
  · unfold wpX_keep wpY_keep
    dsimp only
    exact cz_ig0 h (br_t rfl (cz_ou0 h (br_f (by decide) ⟨rfl, same⟩)))
  · rcases cz_ix v2 2 (by decide) with h | ⟨s, hs, rfl⟩
    · unfold wpX_keep wpY_keep
      dsimp only
      exact cz_ig1 hg (br_f (by decide) (cz_r0 (n := 1) (by decide) h (cz_ou1 hg (by decide) (br_t rfl (cz_ou0 h (br_f (by decide) ⟨rfl, same⟩))))))
    · have cg : (nI g).toNatClampNeg = g := nI_clamp (by omega)
      have cs : (nI s).toNatClampNeg = s := nI_clamp (by omega)
      have i3 : (3 : Int32) + nI s = nI (3 + s) := nI_add 3 s
      obtain ⟨hT, hF, hM2, hS, hG, hL⟩ := H
      obtain ⟨a1, a2, a3, a4⟩ := hG.2.1 g hg
      obtain ⟨u1, hM3, hXs⟩ := cs_share (fr := g) (to := 3 + s) (by omega) (by omega) (by omega) hM2
      have hG2 := cg_keep hg hs hG
      have hS2 := cz_Skeep (d := 3 + s) (e := g) (by omega) hS
      have fin := iz_mk hN hM (c_mk (pag := pag) (stp := stp) (int := int) (xwhr := xwhr) ⟨hT, hF, hM3, hS2, hG2, hL⟩)
      have hX : ∀ post : Int32 → SX → Prop, post 1 (xnew, xold, nI tn, nI lf, nI M, 0, xwhr, xword, xcon, xop, xreg, xadr, u1, cm_cp xsht (8 * (3 + s)) (8 * g) 8, cm_c2 (upd (upd (upd (upd xkep (8 * s) (ysta g)) (8 * s + 1) (ytab g)) (8 * s + 2) (ypsw g)) (8 * s + 3) (ypen g)) xrgs (8 * s + 4) (4 * g) 4, xsta, xtab, xpsw, xpen, xrgs, pag, stp, int, xsha, hel, xfro, xbef, xbeh, xsai) → wpX_keep post (xnew, xold, nI tn, nI lf, nI M, 0, xwhr, xword, xcon, xop, xreg, xadr, xuse, xsht, xkep, xsta, xtab, xpsw, xpen, xrgs, pag, stp, int, xsha, hel, xfro, xbef, xbeh, xsai) (nI g) (nI s) := by
        intro post h
        have j1 : nI (8 * s) + 1 = nI (8 * s + 1) := nI_1 _
        have j2 : nI (8 * s) + 2 = nI (8 * s + 2) := nI_add _ 2
        have j3 : nI (8 * s) + 3 = nI (8 * s + 3) := nI_add _ 3
        have d0 : (nI (8 * s)).toNatClampNeg = 8 * s := nI_clamp (by omega)
        have d1 : (nI (8 * s + 1)).toNatClampNeg = 8 * s + 1 := nI_clamp (by omega)
        have d2 : (nI (8 * s + 2)).toNatClampNeg = 8 * s + 2 := nI_clamp (by omega)
        have d3 : (nI (8 * s + 3)).toNatClampNeg = 8 * s + 3 := nI_clamp (by omega)
        unfold wpX_keep
        dsimp only
        rw [i3]
        refine cz_ig1 hg (br_f (by decide) (cz_r1 (n := 1) (by decide) hs (hXs _ (nm_r (cn_8 s) (And.intro (cn_in hg) (And.intro (cn_in (by omega)) ?_))))))
        dsimp only
        rw [cg, j1, j2, j3, d0, d1, d2, d3, a1, a2, a3, a4]
        refine nm_e ⟨cn_in hg, cn_in (by omega), nm_e ⟨cn_in hg, cn_in (by omega), nm_e ⟨cn_in hg, cn_in (by omega), nm_e ⟨5, ?_⟩⟩⟩⟩
        have y := cz_x88 (post := post) hg hs h 4 0 rfl
        rw [cm_c20] at y
        exact y
      have hY : ∀ post : Int32 → SY → Prop, post 1 (lN N, nI tn, nI lf, cm_cp yword (64 * (3 + s)) (64 * g) 64, cm_cp yrgs (4 * (3 + s)) (4 * g) 4, upd ypsw (3 + s) (ypsw g), upd ytab (3 + s) (ytab g), upd ypen (3 + s) (ypen g), upd ysta (3 + s) (ysta g), upd ykep s 1, pag, stp, int, hel, yusd, ytal) → wpY_keep post (lN N, nI tn, nI lf, yword, yrgs, ypsw, ytab, ypen, ysta, ykep, pag, stp, int, hel, yusd, ytal) (nI g) (nI s) := by
        intro post h
        unfold wpY_keep
        dsimp only
        rw [i3]
        refine cz_ou1 hg (by decide) (br_t rfl (cz_ou1 hs (by decide) (br_t rfl (cs_become (by omega) (by omega) (by omega) (And.intro (cn_in hs) ?_)))))
        exact nm_r (e' := upd ykep s 1) (by rw [cs]; rfl) h
      exact hX _ (hY _ ⟨rfl, fin⟩)
theorem i_vc_back {k : Nat} {u : SX} {v : SY} (I : i_Rel k u v) (hk : k + 4 ≤ 2048) (v1 : Int32) (v2 : Int32) : wpX_back (fun r u' => wpY_back (fun r' v' => r' = r ∧ i_Rel (k + 4) u' v') v v1 v2) u v1 v2 := by
  obtain ⟨N, M, hN, hM, hR⟩ := I
  refine c_el (P := fun u v => wpX_back (fun r u' => wpY_back (fun r' v' => r' = r ∧ i_Rel (k + 4) u' v') v v1 v2) u v1 v2) ?_ hR
  intro tn lf xwhr pag stp int xnew xold hel xfro xbef xbeh yusd xword xcon xop xreg xadr xuse xsht yword xsha xsta xtab xpsw xpen xrgs xkep ysta ytab ypsw ypen yrgs ykep xsai ytal H
  have same := iz_mk hN hM (c_mk (pag := pag) (stp := stp) (int := int) (xwhr := xwhr) H)
  rcases cz_ix v1 3 (by decide) with h | ⟨g, hg, rfl⟩
  · unfold wpX_back wpY_back
    dsimp only
    exact cz_ig0 h (br_t rfl (cz_ou0 h (br_f (by decide) ⟨rfl, same⟩)))
  · rcases cz_ix v2 2 (by decide) with h | ⟨s, hs, rfl⟩
    · unfold wpX_back wpY_back
      dsimp only
      exact cz_ig1 hg (br_f (by decide) (cz_s0 (n := 1) (by decide) h (cz_ou1 hg (by decide) (br_t rfl (cz_ou0 h (br_f (by decide) ⟨rfl, same⟩))))))
    · have cg : (nI g).toNatClampNeg = g := nI_clamp (by omega)
      have cs : (nI s).toNatClampNeg = s := nI_clamp (by omega)
      have i3 : (3 : Int32) + nI s = nI (3 + s) := nI_add 3 s
      have i8 : (8 : Int32) * nI s = nI (8 * s) := cn_8 s
      have d0 : (nI (8 * s)).toNatClampNeg = 8 * s := nI_clamp (by omega)
      rcases H.2.2.2.2.1.2.2.2 s hs with ⟨k0, k1⟩ | ⟨k0, k1, k2, k3, k4, k5⟩
      · unfold wpX_back wpY_back
        dsimp only
        rw [i8, d0, k1, cs]
        exact cz_ig1 hg (br_f (by decide) (cz_s1 (n := 1) (by decide) hs ⟨cn_in (by omega), br_f cn_01 (cz_ou1 hg (by decide) (br_t rfl (cz_ou1 hs (by decide) (br_t rfl ⟨cn_in hs, br_t k0 ⟨rfl, same⟩⟩))))⟩))
      · obtain ⟨hT, hF, hM2, hS, hG, hL⟩ := H
        obtain ⟨⟨s', hs', e2⟩, ⟨t, ht2, e4⟩, ⟨p, hp, e6⟩, hc⟩ := hG.1 (3 + s) (by omega)
        obtain ⟨u1, hM3, hXs⟩ := cs_share (fr := 3 + s) (to := g) (by omega) (by omega) (by omega) hM2
        obtain ⟨n1, o1, f1, b1, h1, hF1, hXv⟩ := cv_vacate hg hF
        have hG2 := cg_back hg hs k5 hG
        have hS2 := cz_Scopy (d := g) (e := 3 + s) (ytab (3 + s)) hS
        have fin := iz_mk hN hM (c_mk (pag := pag) (stp := stp) (int := int) (xwhr := xwhr) ⟨hT, hF1, hM3, hS2, hG2, hL⟩)
        have hX : ∀ post : Int32 → SX → Prop, post 1 (n1, o1, nI tn, nI lf, nI M, 0, xwhr, xword, xcon, xop, xreg, xadr, u1, cm_cp xsht (8 * g) (8 * (3 + s)) 8, xkep, upd xsta g (ysta (3 + s)), upd xtab g (ytab (3 + s)), upd xpsw g (ypsw (3 + s)), upd xpen g (ypen (3 + s)), cm_c2 xrgs xkep (4 * g) (8 * s + 4) 4, pag, stp, int, cm_st xsha (8 * g) (-1) 8, cv_h hel g 8, f1, b1, h1, xsai) → wpX_back post (xnew, xold, nI tn, nI lf, nI M, 0, xwhr, xword, xcon, xop, xreg, xadr, xuse, xsht, xkep, xsta, xtab, xpsw, xpen, xrgs, pag, stp, int, xsha, hel, xfro, xbef, xbeh, xsai) (nI g) (nI s) := by
          intro post h
          have j1 : nI (8 * s) + 1 = nI (8 * s + 1) := nI_1 _
          have j2 : nI (8 * s) + 2 = nI (8 * s + 2) := nI_add _ 2
          have j3 : nI (8 * s) + 3 = nI (8 * s + 3) := nI_add _ 3
          have d1 : (nI (8 * s + 1)).toNatClampNeg = 8 * s + 1 := nI_clamp (by omega)
          have d2 : (nI (8 * s + 2)).toNatClampNeg = 8 * s + 2 := nI_clamp (by omega)
          have d3 : (nI (8 * s + 3)).toNatClampNeg = 8 * s + 3 := nI_clamp (by omega)
          have v3 : vp_nar .short (ypen (3 + s)).toInt16.toInt32 = ypen (3 + s) := by
            rcases hc with hc | ⟨c, hc, ec⟩
            · rw [hc]
              decide
            · rw [ec, cn_vss (by omega)]
          rw [e2, e4, e6] at h
          unfold wpX_back
          dsimp only
          rw [i3, i8, d0, k1]
          refine cz_ig1 hg (br_f (by decide) (cz_s1 (n := 1) (by decide) hs ⟨cn_in (by omega), br_t (by rw [e2]; exact cn_ge0 (by omega)) (hXs _ (nm_e (And.intro (cn_in (by omega)) (And.intro (cn_in hg) ?_))))⟩))
          dsimp only
          rw [cg, j1, j2, j3, d0, d1, d2, d3, k1, k2, k3, k4, v3, e2, e4, e6, cn_vbb (n := s') (by omega), cn_vbb (n := t) (by omega), cn_vss (n := p) (by omega)]
          refine nm_e ⟨cn_in (by omega), cn_in hg, nm_e ⟨cn_in (by omega), cn_in hg, nm_e ⟨cn_in (by omega), cn_in hg, nm_e ⟨5, ?_⟩⟩⟩⟩
          have y := cz_x104 (post := post) hg hs (hXv _ h) 4 0 rfl
          rw [cm_c20] at y
          exact y
        have hY : ∀ post : Int32 → SY → Prop, post 1 (lN N, nI tn, nI lf, cm_cp yword (64 * g) (64 * (3 + s)) 64, cm_cp yrgs (4 * g) (4 * (3 + s)) 4, upd ypsw g (ypsw (3 + s)), upd ytab g (ytab (3 + s)), upd ypen g (ypen (3 + s)), upd ysta g (ysta (3 + s)), ykep, pag, stp, int, cv_h hel g 8, yusd, ytal) → wpY_back post (lN N, nI tn, nI lf, yword, yrgs, ypsw, ytab, ypen, ysta, ykep, pag, stp, int, hel, yusd, ytal) (nI g) (nI s) := by
          intro post h
          unfold wpY_back
          dsimp only
          rw [i3, cs, k0]
          exact cz_ou1 hg (by decide) (br_t rfl (cz_ou1 hs (by decide) (br_t rfl ⟨cn_in hs, br_f (by decide) (cs_become (by omega) (by omega) (by omega) (cv_clear hg hF h))⟩)))
        exact hX _ (hY _ ⟨rfl, fin⟩)
end
section
/-! what is owed: guest, frame -/
section
variable {xnew : Int32} {xold : Int32} {turn : Int32} {left : Int32} {xsay : Int32} {xfail : Int32} {xwhr : Int32} {xword : Nat → Int32} {xcon : Nat → Int32} {xop : Nat → Int32} {xreg : Nat → Int32} {xadr : Nat → Int32} {xuse : Nat → Int32} {xsht : Nat → Int32} {xkep : Nat → Int32} {xsta : Nat → Int32} {xtab : Nat → Int32} {xpsw : Nat → Int32} {xpen : Nat → Int32} {xrgs : Nat → Int32} {pag : Nat → Int32} {stp : Nat → Int32} {int : Nat → Int32} {xsha : Nat → Int32} {hel : Nat → Int32} {xfro : Nat → Int32} {xbef : Nat → Int32} {xbeh : Nat → Int32} {xsai : Nat → Int64}
variable {ynow : Int64} {yword : Nat → Int32} {yrgs : Nat → Int32} {ypsw : Nat → Int32} {ytab : Nat → Int32} {ypen : Nat → Int32} {ysta : Nat → Int32} {ykep : Nat → Int32} {yusd : Nat → Int64} {ytal : Nat → Int64}
theorem cz_xg {g j : Nat} {r : Int32} (hg : g < 3) (hj : j < 11)
    (h0 : j = 0 → xsta g = r) (h1 : j = 1 → xpsw g = r) (h2 : j = 2 → xtab g = r) (h3 : ∀ i, i < 4 → j = 3 + i → xrgs (4 * g + i) = r) (h7 : j = 7 → xpen g = r) (h8 : j = 8 → pag g = r) (h9 : j = 9 → stp g = r) (h10 : j = 10 → int g = r)
    {post : Int32 → Prop} (h : post r) : wpX_guest post (xnew, xold, turn, left, xsay, xfail, xwhr, xword, xcon, xop, xreg, xadr, xuse, xsht, xkep, xsta, xtab, xpsw, xpen, xrgs, pag, stp, int, xsha, hel, xfro, xbef, xbeh, xsai) (nI g) (nI j) := by
  have cg : (nI g).toNatClampNeg = g := nI_clamp (by omega)
  have k89 : ∀ i, i < 4 → j = 3 + i → wX_guest_89 post (nI g) (nI j) xnew xold turn left xsay xfail xwhr xword xcon xop xreg xadr xuse xsht xkep xsta xtab xpsw xpen xrgs pag stp int xsha hel xfro xbef xbeh xsai := by
    intro i hi hji
    have e : ((4 * nI g) + nI j) - 3 = nI (4 * g + i) := by
      rw [cn_4, nI_add, show nI (4 * g + j) - 3 = nI (4 * g + j - 3) from pk_sub (b := 3) (by omega)]
      exact congrArg nI (by omega)
    have ce : (nI (4 * g + i)).toNatClampNeg = 4 * g + i := nI_clamp (by omega)
    unfold wX_guest_89
    rw [e, ce, h3 i hi hji]
    exact ⟨cn_in (by omega), h⟩
  unfold wpX_guest
  dsimp only
  rw [cg]
  refine cz_ig1 hg (br_f (by decide) (cz_s1 (n := 10) (by decide) hj ?_))
  refine pk_eq j 0 (fun c => ⟨cn_in hg, by rw [h0 c]; exact h⟩) (fun n0 => ?_)
  refine pk_eq j 1 (fun c => ⟨cn_in hg, by rw [h1 c]; exact h⟩) (fun n1 => ?_)
  refine pk_eq j 2 (fun c => ⟨cn_in hg, by rw [h2 c]; exact h⟩) (fun n2 => ?_)
  refine pk_eq j 3 (fun c => k89 0 (by omega) c) (fun n3 => ?_)
  refine pk_eq j 4 (fun c => k89 1 (by omega) c) (fun n4 => ?_)
  refine pk_eq j 5 (fun c => k89 2 (by omega) c) (fun n5 => ?_)
  refine pk_eq j 6 (fun c => k89 3 (by omega) c) (fun n6 => ?_)
  refine pk_eq j 7 (fun c => ⟨cn_in hg, by rw [h7 c]; exact h⟩) (fun n7 => ?_)
  refine pk_eq j 8 (fun c => ⟨cn_in hg, by rw [h8 c]; exact h⟩) (fun n8 => ?_)
  refine pk_eq j 9 (fun c => ⟨cn_in hg, by rw [h9 c]; exact h⟩) (fun n9 => ?_)
  exact pk_eq j 10 (fun c => ⟨cn_in hg, by rw [h10 c]; exact h⟩) (fun _ => trivial)
theorem cz_yg {g j : Nat} {r : Int32} (hg : g < 3) (hj : j < 11)
    (h0 : j = 0 → ysta g = r) (h1 : j = 1 → ypsw g = r) (h2 : j = 2 → ytab g = r) (h3 : ∀ i, i < 4 → j = 3 + i → yrgs (4 * g + i) = r) (h7 : j = 7 → ypen g = r) (h8 : j = 8 → pag g = r) (h9 : j = 9 → stp g = r) (h10 : j = 10 → int g = r)
    {post : Int32 → Prop} (h : post r) : wpY_guest post (ynow, turn, left, yword, yrgs, ypsw, ytab, ypen, ysta, ykep, pag, stp, int, hel, yusd, ytal) (nI g) (nI j) := by
  have cg : (nI g).toNatClampNeg = g := nI_clamp (by omega)
  have k89 : ∀ i, i < 4 → j = 3 + i → wY_guest_89 post (nI g) (nI j) ynow turn left yword yrgs ypsw ytab ypen ysta ykep pag stp int hel yusd ytal := by
    intro i hi hji
    have e : ((4 * nI g) + nI j) - 3 = nI (4 * g + i) := by
      rw [cn_4, nI_add, show nI (4 * g + j) - 3 = nI (4 * g + j - 3) from pk_sub (b := 3) (by omega)]
      exact congrArg nI (by omega)
    have ce : (nI (4 * g + i)).toNatClampNeg = 4 * g + i := nI_clamp (by omega)
    unfold wY_guest_89
    rw [e, ce, h3 i hi hji]
    exact ⟨cn_in (by omega), h⟩
  have c5 : vp_in (nI g) 5 := cn_in (by omega)
  unfold wpY_guest
  dsimp only
  rw [cg]
  refine cz_ou1 hg (by decide) (br_t rfl (cz_s1 (n := 10) (by decide) hj ?_))
  refine pk_eq j 0 (fun c => ⟨c5, by rw [h0 c]; exact h⟩) (fun n0 => ?_)
  refine pk_eq j 1 (fun c => ⟨c5, by rw [h1 c]; exact h⟩) (fun n1 => ?_)
  refine pk_eq j 2 (fun c => ⟨c5, by rw [h2 c]; exact h⟩) (fun n2 => ?_)
  refine pk_eq j 3 (fun c => k89 0 (by omega) c) (fun n3 => ?_)
  refine pk_eq j 4 (fun c => k89 1 (by omega) c) (fun n4 => ?_)
  refine pk_eq j 5 (fun c => k89 2 (by omega) c) (fun n5 => ?_)
  refine pk_eq j 6 (fun c => k89 3 (by omega) c) (fun n6 => ?_)
  refine pk_eq j 7 (fun c => ⟨c5, by rw [h7 c]; exact h⟩) (fun n7 => ?_)
  refine pk_eq j 8 (fun c => ⟨cn_in hg, by rw [h8 c]; exact h⟩) (fun n8 => ?_)
  refine pk_eq j 9 (fun c => ⟨cn_in hg, by rw [h9 c]; exact h⟩) (fun n9 => ?_)
  exact pk_eq j 10 (fun c => ⟨cn_in hg, by rw [h10 c]; exact h⟩) (fun _ => trivial)
/-- what a guest answers -/
def cz_ans (sta psw tab rgs pen pag stp int : Nat → Int32) (g j : Nat) : Int32 :=
  if j = 0 then sta g else if j = 1 then psw g else if j = 2 then tab g else if j < 7 then rgs (4 * g + (j - 3)) else if j = 7 then pen g else if j = 8 then pag g else if j = 9 then stp g else int g
theorem cz_yf {g p F : Nat} {r : Int32} {post : Int32 → Prop} (hg : g < 3) (hp : p < 8) (hF : F ≤ 6) (hl : ∀ j, j < F → ¬ hel j = nI (8 * g + p)) (hf : F < 6 → hel F = nI (8 * g + p)) (hr : F < 6 → r = nI F) (hr6 : F = 6 → r = -1) (h : post r) :
    ∀ d i, i + d = F → wY_frame_22 post (nI g) (nI p) ynow turn left yword yrgs ypsw ytab ypen ysta ykep pag stp int hel yusd ytal (d + 1) (nI i) := by
  have e : (8 * nI g) + nI p = nI (8 * g + p) := by rw [cn_8, nI_add]
  intro d
  induction d with
  | zero =>
    intro i hi
    have hi : i = F := hi
    subst hi
    have ci : (nI i).toNatClampNeg = i := nI_clamp (by omega)
    by_cases c : i < 6
    · refine br_f (nI_ge (b := 6) c (by decide)) ⟨cn_in c, br_t (by rw [ci, e]; exact hf c) ?_⟩
      rw [← hr c]
      exact h
    · refine br_t (nI_le (a := 6) (by omega) (by omega)) ?_
      rw [← hr6 (by omega)]
      exact h
  | succ d ih =>
    intro i hi
    have ci : (nI i).toNatClampNeg = i := nI_clamp (by omega)
    exact br_f (nI_ge (b := 6) (by omega) (by decide)) ⟨cn_in (by omega), br_f (by rw [ci, e]; exact hl i (by omega)) (nm_r (nI_1 i) (ih (i + 1) (by omega)))⟩
end
theorem i_vc_guest {k : Nat} {u : SX} {v : SY} (I : i_Rel k u v) (hk : k + 4 ≤ 2048) (v1 : Int32) (v2 : Int32) : wpX_guest (fun r => wpY_guest (fun r' => r' = r ∧ i_Rel (k + 4) u v) v v1 v2) u v1 v2 := by
  obtain ⟨N, M, hN, hM, hR⟩ := I
  refine c_el (P := fun u v => wpX_guest (fun r => wpY_guest (fun r' => r' = r ∧ i_Rel (k + 4) u v) v v1 v2) u v1 v2) ?_ hR
  intro tn lf xwhr pag stp int xnew xold hel xfro xbef xbeh yusd xword xcon xop xreg xadr xuse xsht yword xsha xsta xtab xpsw xpen xrgs xkep ysta ytab ypsw ypen yrgs ykep xsai ytal H
  have same := iz_mk hN hM (c_mk (pag := pag) (stp := stp) (int := int) (xwhr := xwhr) H)
  rcases cz_ix v1 3 (by decide) with h | ⟨g, hg, rfl⟩
  · unfold wpX_guest wpY_guest
    dsimp only
    exact cz_ig0 h (br_t rfl (cz_ou0 h (br_f (by decide) ⟨rfl, same⟩)))
  · rcases cz_ix v2 11 (by decide) with h | ⟨j, hj, rfl⟩
    · unfold wpX_guest wpY_guest
      dsimp only
      exact cz_ig1 hg (br_f (by decide) (cz_s0 (n := 10) (by decide) h (cz_ou1 hg (by decide) (br_t rfl (cz_s0 (n := 10) (by decide) h ⟨rfl, same⟩)))))
    · have hG := H.2.2.2.2.1
      obtain ⟨a1, a2, a3, a4⟩ := hG.2.1 g hg
      obtain ⟨r, b0, b1, b2, b3, b7, b8, b9, b10⟩ : ∃ r : Int32, (j = 0 → ysta g = r) ∧ (j = 1 → ypsw g = r) ∧ (j = 2 → ytab g = r) ∧ (∀ i, i < 4 → j = 3 + i → yrgs (4 * g + i) = r) ∧ (j = 7 → ypen g = r) ∧ (j = 8 → pag g = r) ∧ (j = 9 → stp g = r) ∧ (j = 10 → int g = r) := by
        have c : j = 0 ∨ j = 1 ∨ j = 2 ∨ (∃ i, i < 4 ∧ j = 3 + i) ∨ j = 7 ∨ j = 8 ∨ j = 9 ∨ j = 10 := by
          by_cases c : 3 ≤ j ∧ j < 7
          · exact Or.inr (Or.inr (Or.inr (Or.inl ⟨j - 3, by omega, by omega⟩)))
          · omega
        rcases c with rfl | rfl | rfl | ⟨i, hi, rfl⟩ | rfl | rfl | rfl | rfl
        · exact ⟨ysta g, fun _ => rfl, fun z => by omega, fun z => by omega, fun i hi z => by omega, fun z => by omega, fun z => by omega, fun z => by omega, fun z => by omega⟩
        · exact ⟨ypsw g, fun z => by omega, fun _ => rfl, fun z => by omega, fun i hi z => by omega, fun z => by omega, fun z => by omega, fun z => by omega, fun z => by omega⟩
        · exact ⟨ytab g, fun z => by omega, fun z => by omega, fun _ => rfl, fun i hi z => by omega, fun z => by omega, fun z => by omega, fun z => by omega, fun z => by omega⟩
        · exact ⟨yrgs (4 * g + i), fun z => by omega, fun z => by omega, fun z => by omega, fun i' hi' z => by rw [show i' = i from by omega], fun z => by omega, fun z => by omega, fun z => by omega, fun z => by omega⟩
        · exact ⟨ypen g, fun z => by omega, fun z => by omega, fun z => by omega, fun i hi z => by omega, fun _ => rfl, fun z => by omega, fun z => by omega, fun z => by omega⟩
        · exact ⟨pag g, fun z => by omega, fun z => by omega, fun z => by omega, fun i hi z => by omega, fun z => by omega, fun _ => rfl, fun z => by omega, fun z => by omega⟩
        · exact ⟨stp g, fun z => by omega, fun z => by omega, fun z => by omega, fun i hi z => by omega, fun z => by omega, fun z => by omega, fun _ => rfl, fun z => by omega⟩
        · exact ⟨int g, fun z => by omega, fun z => by omega, fun z => by omega, fun i hi z => by omega, fun z => by omega, fun z => by omega, fun z => by omega, fun _ => rfl⟩
      exact cz_xg hg hj (fun c => a1.trans (b0 c)) (fun c => a3.trans (b1 c)) (fun c => a2.trans (b2 c)) (fun i hi c => (hG.2.2.1 _ (by omega)).trans (b3 i hi c)) (fun c => a4.trans (b7 c)) b8 b9 b10 (cz_yg hg hj b0 b1 b2 b3 b7 b8 b9 b10 ⟨rfl, same⟩)
theorem i_vc_frame {k : Nat} {u : SX} {v : SY} (I : i_Rel k u v) (hk : k + 4 ≤ 2048) (v1 : Int32) (v2 : Int32) : wpX_frame (fun r => wpY_frame (fun r' => r' = r ∧ i_Rel (k + 4) u v) v v1 v2) u v1 v2 := by
  obtain ⟨N, M, hN, hM, hR⟩ := I
  refine c_el (P := fun u v => wpX_frame (fun r => wpY_frame (fun r' => r' = r ∧ i_Rel (k + 4) u v) v v1 v2) u v1 v2) ?_ hR
  intro tn lf xwhr pag stp int xnew xold hel xfro xbef xbeh yusd xword xcon xop xreg xadr xuse xsht yword xsha xsta xtab xpsw xpen xrgs xkep ysta ytab ypsw ypen yrgs ykep xsai ytal H
  have same := iz_mk hN hM (c_mk (pag := pag) (stp := stp) (int := int) (xwhr := xwhr) H)
  unfold wpX_frame wpY_frame
  dsimp only
  rcases cz_ix v1 3 (by decide) with h | ⟨g, hg, rfl⟩
  · exact cz_ig0 h (br_t rfl (cz_ou0 h (br_f (by decide) ⟨rfl, same⟩)))
  · rcases cz_ix v2 8 (by decide) with h | ⟨p, hp, rfl⟩
    · exact cz_ig1 hg (br_f (by decide) (cz_r0 (n := 7) (by decide) h (cz_ou1 hg (by decide) (br_t rfl (cz_ou0 h (br_f (by decide) ⟨rfl, same⟩))))))
    · obtain ⟨L, hn, hK, hH, hA⟩ := H.2.1
      have e : (8 * nI g) + nI p = nI (8 * g + p) := by rw [cn_8, nI_add]
      have ce : (nI (8 * g + p)).toNatClampNeg = 8 * g + p := nI_clamp (by omega)
      have hq : 8 * g + p < 24 := by omega
      have hpage : ∀ f, f < 6 → hel f = nI (8 * g + p) → xfro (8 * g + p) = nI f := by
        intro f hf e
        by_cases m : f ∈ L
        · obtain ⟨_, q, hq1, e1, e2⟩ := hH.2.1 f m
          have : q = 8 * g + p := cn_inj (e1.symm.trans e) (by omega) (by omega)
          exact this ▸ e2
        · exact absurd (e.symm.trans (hH.1 f hf m)) (cn_neq1 (by omega))
      refine cz_ig1 hg (br_f (by decide) (cz_r1 (n := 7) (by decide) hp ?_))
      rw [e, ce]
      refine ⟨cn_in hq, cz_ou1 hg (by decide) (br_t rfl (cz_ou1 hp (by decide) (br_t rfl ?_)))⟩
      rcases hH.2.2 _ hq with e1 | ⟨f, hf, e1, e2⟩
      · exact ⟨7, cz_yf (F := 6) (r := -1) hg hp (by omega) (fun j hj z => cn_neq1 (by omega) ((hpage j hj z).symm.trans e1)) (fun z => by omega) (fun z => by omega) (fun _ => rfl) ⟨e1.symm, same⟩ 6 0 rfl⟩
      · have hf6 := (hH.2.1 f hf).1
        exact ⟨f + 1, cz_yf (F := f) (r := nI f) hg hp (by omega) (fun j hj z => by
          have := cn_inj ((hpage j (by omega) z).symm.trans e1) (by omega) (by omega)
          omega) (fun _ => e2) (fun _ => rfl) (fun z => by omega) ⟨e1.symm, same⟩ f 0 (by omega)⟩
end
