section
/-! pure rows to paste: stores, nI and lN arithmetic, masks, shifts, narrowing, branches by naturals (pk_le, pk_lt, pk_eq), loops (lp1 .. lp16: the measure of the state; rp1 ..: recursion), negatives. Take what you need -/
theorem pk_us {f : Nat → Int32} {k : Nat} {x : Int32} : upd f k x k = x := if_pos rfl
theorem pk_un {f : Nat → Int32} {k j : Nat} {x : Int32} (h : j ≠ k) : upd f k x j = f j := if_neg h
theorem pk_uLs {f : Nat → Int64} {k : Nat} {x : Int64} : vp_updL f k x k = x := if_pos rfl
theorem pk_uLn {f : Nat → Int64} {k j : Nat} {x : Int64} (h : j ≠ k) : vp_updL f k x j = f j := if_neg h
theorem pk_sub {a b : Nat} (h : b ≤ a) : nI a - nI b = nI (a - b) := by
  obtain ⟨c, rfl⟩ : ∃ c, a = c + b := ⟨a - b, by omega⟩
  rw [← nI_add, Int32.add_sub_cancel, Nat.add_sub_cancel]
theorem pk_m1 (n : Nat) : nI (n + 1) + (-1) = nI n := by
  rw [← nI_1, Int32.add_assoc, show (1 : Int32) + (-1) = 0 from rfl, Int32.add_zero]
theorem pk_mul (a b : Nat) : nI a * nI b = nI (a * b) := (Int32.ofNat_mul a b).symm
theorem pk_div {a d : Nat} (ha : a < 2 ^ 31) (h0 : 0 < d) (hd : d < 2 ^ 31) : nI a / nI d = nI (a / d) := by
  apply Int32.toInt_inj.mp
  rw [lg_idiv_nonneg (by rw [nI_toInt ha]; omega) (by rw [nI_toInt hd]; omega), nI_toInt ha, nI_toInt hd, nI_toInt (Nat.lt_of_le_of_lt (Nat.div_le_self a d) ha)]
  first | rfl | exact (Int.natCast_ediv _ _).symm
theorem pk_rem {a d : Nat} (ha : a < 2 ^ 31) (h0 : 0 < d) (hd : d < 2 ^ 31) : nI a - nI a / nI d * nI d = nI (a % d) := by
  rw [pk_div ha h0 hd, pk_mul, pk_sub (Nat.div_mul_le_self a d)]
  exact congrArg nI (by have := Nat.div_add_mod' a d; omega)
theorem pk_sub_toInt {a b : Nat} (ha : a < 2 ^ 30) (hb : b < 2 ^ 30) : (nI a - nI b).toInt = (a : Int) - b := by
  rw [Int32.toInt_sub, nI_toInt (by omega), nI_toInt (by omega)]
  exact Int.bmod_eq_of_le (by omega) (by omega)
theorem pk_sneg {a b : Nat} (hb : b < 2 ^ 30) (h : a < b) : nI a - nI b < 0 := by
  rw [Int32.lt_iff_toInt_lt, pk_sub_toInt (by omega) hb, show (0 : Int32).toInt = 0 from by decide]
  omega
theorem pk_ix (x : Int32) {n : Nat} (hn : n < 2 ^ 31) : x < 0 ∨ nI n ≤ x ∨ ∃ j : Nat, j < n ∧ x = nI j := by
  by_cases h : x < 0
  · exact Or.inl h
  · obtain ⟨j, hj, rfl⟩ := nI_of h
    by_cases h2 : j < n
    · exact Or.inr (Or.inr ⟨j, h2, rfl⟩)
    · exact Or.inr (Or.inl (nI_le (by omega) hj))
theorem pk_le {x y : Int32} {A B : Prop} (a b : Nat) (f : a ≤ b → A) (g : b < a → B) (hx : x = nI a := by rfl) (hy : y = nI b := by rfl) (ha : a < 2 ^ 31 := by omega) (hb : b < 2 ^ 31 := by omega) : (x ≤ y → A) ∧ (¬ x ≤ y → B) := by
  subst hx hy
  rw [nI_leI ha hb]
  exact ⟨f, fun z => g (by omega)⟩
theorem pk_lt {x y : Int32} {A B : Prop} (a b : Nat) (f : a < b → A) (g : b ≤ a → B) (hx : x = nI a := by rfl) (hy : y = nI b := by rfl) (ha : a < 2 ^ 31 := by omega) (hb : b < 2 ^ 31 := by omega) : (x < y → A) ∧ (¬ x < y → B) := by
  subst hx hy
  rw [nI_ltI ha hb]
  exact ⟨f, fun z => g (by omega)⟩
theorem pk_eq {x y : Int32} {A B : Prop} (a b : Nat) (f : a = b → A) (g : a ≠ b → B) (hx : x = nI a := by rfl) (hy : y = nI b := by rfl) (ha : a < 2 ^ 31 := by omega) (hb : b < 2 ^ 31 := by omega) : (x = y → A) ∧ (¬ x = y → B) := by
  subst hx hy
  rw [nI_eq ha hb]
  exact ⟨f, g⟩
theorem pk_in {x : Int32} (n N : Nat) (h : n < N) (hx : x = nI n := by rfl) (hN : N < 2 ^ 31 := by omega) : vp_in x N := by
  subst hx
  exact vp_in_nI h hN
theorem pk_cl {x : Int32} (n : Nat) (hx : x = nI n := by rfl) (h : n < 2 ^ 31 := by omega) : x.toNatClampNeg = n := by
  subst hx
  exact nI_clamp h
theorem pk_tn {n : Nat} (h : n < 2 ^ 32) : (nI n).toBitVec.toNat = n := Nat.mod_eq_of_lt h
theorem pk_and (x : Int32) {m : Int32} (k : Nat) (hm : m.toBitVec.toNat = 2 ^ k - 1) : x &&& m = nI (x.toBitVec.toNat % 2 ^ k) := by
  apply Int32.toBitVec_inj.mp
  apply BitVec.eq_of_toNat_eq
  rw [Int32.toBitVec_and, BitVec.toNat_and, hm, Nat.and_two_pow_sub_one_eq_mod]
  show _ = (BitVec.ofNat 32 _).toNat
  rw [BitVec.toNat_ofNat]
  exact (Nat.mod_eq_of_lt (Nat.lt_of_le_of_lt (Nat.mod_le _ _) x.toBitVec.isLt)).symm
theorem pk_andN {n : Nat} (h : n < 2 ^ 32) {m : Int32} (k : Nat) (hm : m.toBitVec.toNat = 2 ^ k - 1) : nI n &&& m = nI (n % 2 ^ k) := by
  rw [pk_and _ k hm, pk_tn h]
theorem pk_andE (x : Int32) {m : Int32} (k : Nat) (hm : m.toBitVec.toNat = 2 ^ k - 1) : ∃ j : Nat, j < 2 ^ k ∧ x &&& m = nI j := ⟨_, Nat.mod_lt _ (Nat.two_pow_pos k), pk_and x k hm⟩
theorem pk_andIn (x : Int32) {m : Int32} (k : Nat) (hm : m.toBitVec.toNat = 2 ^ k - 1) (hk : k ≤ 30) : vp_in (x &&& m) (2 ^ k) := by
  obtain ⟨j, hj, e⟩ := pk_andE x k hm
  rw [e]
  exact vp_in_nI hj (Nat.lt_of_le_of_lt (Nat.pow_le_pow_right (by decide) hk) (by decide))
theorem pk_shl (a s : Int32) (k : Nat) (hs : (s.toBitVec.smod 32).toNat = k) : (a <<< s).toBitVec.toNat = a.toBitVec.toNat * 2 ^ k % 2 ^ 32 := by
  show (a.toBitVec <<< (s.toBitVec.smod 32).toNat).toNat = _
  rw [hs, BitVec.toNat_shiftLeft, Nat.shiftLeft_eq]
theorem pk_shlN {n : Nat} (s : Int32) (k : Nat) (hs : (s.toBitVec.smod 32).toNat = k) (h : n * 2 ^ k < 2 ^ 32) : nI n <<< s = nI (n * 2 ^ k) := by
  apply Int32.toBitVec_inj.mp
  apply BitVec.eq_of_toNat_eq
  have hn : n < 2 ^ 32 := Nat.lt_of_le_of_lt (Nat.le_mul_of_pos_right n (Nat.two_pow_pos k)) h
  rw [pk_shl _ _ k hs, pk_tn hn, pk_tn h, Nat.mod_eq_of_lt h]
theorem pk_shr (a s : Int32) (k : Nat) (hs : (s.toBitVec.smod 32).toNat = k) : (a >>> s).toInt = a.toInt >>> k := by
  show (a.toBitVec.sshiftRight (s.toBitVec.smod 32).toNat).toInt = _
  rw [hs, BitVec.toInt_sshiftRight]
  rfl
theorem pk_shrN {n : Nat} (h : n < 2 ^ 31) (s : Int32) (k : Nat) (hs : (s.toBitVec.smod 32).toNat = k) : nI n >>> s = nI (n / 2 ^ k) := by
  apply Int32.toInt_inj.mp
  have h2 : n / 2 ^ k ≤ n := Nat.div_le_self _ _
  rw [pk_shr _ _ k hs, nI_toInt h, nI_toInt (by omega), Int.shiftRight_eq_div_pow]
  rfl
theorem pk_ushr (x s : Int32) (k : Nat) (hs : ((s.toUInt32 &&& Int32.toUInt32 31).toBitVec % 32).toNat = k) : (x.toUInt32 >>> (s.toUInt32 &&& Int32.toUInt32 31)).toInt32.toBitVec.toNat = x.toBitVec.toNat / 2 ^ k := by
  have e : (x.toUInt32 >>> (s.toUInt32 &&& Int32.toUInt32 31)).toInt32.toBitVec = x.toBitVec >>> k := by
    rw [← hs]
    exact UInt32.toBitVec_shiftRight _ _
  rw [e, BitVec.toNat_ushiftRight, Nat.shiftRight_eq_div_pow]
theorem pk_ushrN {n : Nat} (hn : n < 2 ^ 32) (s : Int32) (k : Nat) (hs : ((s.toUInt32 &&& Int32.toUInt32 31).toBitVec % 32).toNat = k) : ((nI n).toUInt32 >>> (s.toUInt32 &&& Int32.toUInt32 31)).toInt32 = nI (n / 2 ^ k) := by
  apply Int32.toBitVec_inj.mp
  apply BitVec.eq_of_toNat_eq
  rw [pk_ushr _ s k hs, pk_tn hn, pk_tn (Nat.lt_of_le_of_lt (Nat.div_le_self _ _) hn)]
theorem pk_nb (z : Int32) : narrow .byte (.int z.toInt8.toInt32) = .int z.toInt8.toInt32 := congrArg Value.int (by simp)
theorem pk_ns (z : Int32) : narrow .short (.int z.toInt16.toInt32) = .int z.toInt16.toInt32 := congrArg Value.int (by simp)
theorem pk_fb (r : Int32) : fits .byte (.int r.toInt8.toInt32) = true := by
  have ⟨a, b⟩ := lg_i2b_range r
  have h1 : (-128 : Int32).toInt = -128 := by decide
  have h2 : (127 : Int32).toInt = 127 := by decide
  simp only [fits, Bool.and_eq_true, decide_eq_true_eq, Int32.le_iff_toInt_le, h1, h2]
  omega
theorem pk_fs (r : Int32) : fits .short (.int r.toInt16.toInt32) = true := by
  have ⟨a, b⟩ := lg_i2s_range r
  have h1 : (-32768 : Int32).toInt = -32768 := by decide
  have h2 : (32767 : Int32).toInt = 32767 := by decide
  simp only [fits, Bool.and_eq_true, decide_eq_true_eq, Int32.le_iff_toInt_le, h1, h2]
  omega
theorem pk_charN {q : Nat} (hq : q < 65536) : narrow .char (.int (nI q)) = .int (nI q) ∧ fits .char (.int (nI q)) = true := by
  constructor
  · have e : (nI q).toUInt32.toUInt16.toUInt32.toInt32 = nI q := by
      apply Int32.toBitVec_inj.mp
      apply BitVec.eq_of_toNat_eq
      show (nI q).toUInt32.toUInt16.toUInt32.toNat = q % 2 ^ 32
      rw [UInt16.toNat_toUInt32, UInt32.toNat_toUInt16, show (nI q).toUInt32.toNat = q % 2 ^ 32 from rfl]
      omega
    exact congrArg Value.int e
  · have a : (0 : Int32) ≤ nI q := nI_pos' (by omega)
    have b : nI q ≤ 65535 := nI_le (b := 65535) (by omega) (by decide)
    show (decide ((0 : Int32) ≤ nI q) && decide (nI q ≤ 65535)) = true
    rw [decide_eq_true a, decide_eq_true b]
    rfl
theorem pk_char (x : Int32) : (x.toUInt32 % 65536).toInt32 = nI (x.toBitVec.toNat % 65536) := by
  apply Int32.toBitVec_inj.mp
  apply BitVec.eq_of_toNat_eq
  rw [pk_tn (by omega)]
  show (x.toUInt32 % 65536).toNat = _
  rw [UInt32.toNat_mod]
  rfl
theorem pk_nc (x : Int32) : narrow .char (.int (x.toUInt32 % 65536).toInt32) = .int (x.toUInt32 % 65536).toInt32 := by
  rw [pk_char]
  exact (pk_charN (Nat.mod_lt _ (by decide))).1
theorem pk_fc (x : Int32) : fits .char (.int (x.toUInt32 % 65536).toInt32) = true := by
  rw [pk_char]
  exact (pk_charN (Nat.mod_lt _ (by decide))).2
theorem pk_vb (z : Int32) : vp_nar .byte z.toInt8.toInt32 = z.toInt8.toInt32 := by rw [vp_nar_byte]; simp
theorem pk_vs (z : Int32) : vp_nar .short z.toInt16.toInt32 = z.toInt16.toInt32 := by rw [vp_nar_short]; simp
theorem pk_vc (z : Int32) : vp_nar .char (z.toUInt32 % 65536).toInt32 = (z.toUInt32 % 65536).toInt32 := Value.int.inj (pk_nc z)
theorem pk_lT {n : Nat} (h : n < 2 ^ 63) : (lN n).toInt = (n : Int) := lg_ofNat_toInt h
theorem pk_lLT {a b : Nat} (ha : a < 2 ^ 63) (hb : b < 2 ^ 63) : lN a < lN b ↔ a < b := by
  rw [Int64.lt_iff_toInt_lt, pk_lT ha, pk_lT hb]; omega
theorem pk_lLE {a b : Nat} (ha : a < 2 ^ 63) (hb : b < 2 ^ 63) : lN a ≤ lN b ↔ a ≤ b := by
  rw [Int64.le_iff_toInt_le, pk_lT ha, pk_lT hb]; omega
theorem pk_lEQ {a b : Nat} (ha : a < 2 ^ 63) (hb : b < 2 ^ 63) : lN a = lN b ↔ a = b := by
  rw [← Int64.toInt_inj, pk_lT ha, pk_lT hb]; omega
theorem pk_lOf {x : Int64} (h : ¬ x < 0) : ∃ k : Nat, k < 2 ^ 63 ∧ x = lN k := by
  rw [Int64.lt_iff_toInt_lt] at h
  have h0 : (0 : Int64).toInt = 0 := by decide
  have hx := Int64.toInt_lt x
  refine ⟨x.toInt.toNat, by omega, Int64.toInt_inj.mp ?_⟩
  rw [pk_lT (by omega)]
  omega
theorem pk_lDiv {a b : Nat} (ha : a < 2 ^ 63) (h0 : 0 < b) (hb : b < 2 ^ 63) : lN a / lN b = lN (a / b) := by
  apply Int64.toInt_inj.mp
  rw [lg_ldiv_nonneg (by rw [pk_lT ha]; omega) (by rw [pk_lT hb]; omega), pk_lT ha, pk_lT hb, pk_lT (Nat.lt_of_le_of_lt (Nat.div_le_self a b) ha)]
  rfl
theorem pk_lRem {a b : Nat} (ha : a < 2 ^ 63) (h0 : 0 < b) (hb : b < 2 ^ 63) : lN a - lN a / lN b * lN b = lN (a % b) := by
  rw [pk_lDiv ha h0 hb, lN_mul, lN_sub (Nat.div_mul_le_self a b)]
  exact congrArg lN (by have := Nat.div_add_mod' a b; omega)
theorem pk_loop {σ : Type} (W : Nat → Nat → σ → Prop) (I : Nat → σ → Prop) (e i0 : Nat) (s : σ) (hi : i0 ≤ e) (h0 : I i0 s) (hx : ∀ n s, I e s → W (n + 1) e s)
    (hs : ∀ n i s, i < e → I i s → (∀ s', I (i + 1) s' → W n (i + 1) s') → W (n + 1) i s) : ∃ n, W n i0 s :=
  ⟨e + 1, loop_i W I e hx hs (e + 1) i0 s hi (by omega) h0⟩
theorem pk_loopD {σ : Type} (W : Nat → Nat → σ → Prop) (I : Nat → σ → Prop) (hx : ∀ n s, I 0 s → W (n + 1) 0 s)
    (hs : ∀ n i s, I (i + 1) s → (∀ s', I i s' → W n i s') → W (n + 1) (i + 1) s) : ∀ (e : Nat) (s : σ), I e s → W (e + 1) e s := by
  intro e
  induction e with
  | zero => exact fun s h => hx 0 s h
  | succ e ih => exact fun s h => hs (e + 1) e s h (fun s' h' => ih s' h')
theorem lp1 {A1 : Type} (W : Nat → A1 → Prop) (I : A1 → Prop) (μ : A1 → Nat) (hs : ∀ (n : Nat) (a1 : A1), I a1 → (∀ (b1 : A1), I b1 → μ b1 < μ a1 → W n b1) → W (n + 1) a1) (a1 : A1) (h : I a1) : ∃ n, W n a1 :=
  loop_m (σ := A1) (fun n s => W n s) (fun s => I s) (fun s => μ s) (fun n s hI hk => hs n s hI (fun b1 h9 hm => hk b1 h9 hm)) a1 h
theorem lp2 {A1 A2 : Type} (W : Nat → A1 → A2 → Prop) (I : A1 → A2 → Prop) (μ : A1 → A2 → Nat) (hs : ∀ (n : Nat) (a1 : A1) (a2 : A2), I a1 a2 → (∀ (b1 : A1) (b2 : A2), I b1 b2 → μ b1 b2 < μ a1 a2 → W n b1 b2) → W (n + 1) a1 a2) (a1 : A1) (a2 : A2) (h : I a1 a2) : ∃ n, W n a1 a2 :=
  loop_m (σ := A1 × A2) (fun n s => W n s.1 s.2) (fun s => I s.1 s.2) (fun s => μ s.1 s.2) (fun n s hI hk => hs n s.1 s.2 hI (fun b1 b2 h9 hm => hk (b1, b2) h9 hm)) (a1, a2) h
theorem lp3 {A1 A2 A3 : Type} (W : Nat → A1 → A2 → A3 → Prop) (I : A1 → A2 → A3 → Prop) (μ : A1 → A2 → A3 → Nat) (hs : ∀ (n : Nat) (a1 : A1) (a2 : A2) (a3 : A3), I a1 a2 a3 → (∀ (b1 : A1) (b2 : A2) (b3 : A3), I b1 b2 b3 → μ b1 b2 b3 < μ a1 a2 a3 → W n b1 b2 b3) → W (n + 1) a1 a2 a3) (a1 : A1) (a2 : A2) (a3 : A3) (h : I a1 a2 a3) : ∃ n, W n a1 a2 a3 :=
  loop_m (σ := A1 × A2 × A3) (fun n s => W n s.1 s.2.1 s.2.2) (fun s => I s.1 s.2.1 s.2.2) (fun s => μ s.1 s.2.1 s.2.2) (fun n s hI hk => hs n s.1 s.2.1 s.2.2 hI (fun b1 b2 b3 h9 hm => hk (b1, b2, b3) h9 hm)) (a1, a2, a3) h
theorem lp4 {A1 A2 A3 A4 : Type} (W : Nat → A1 → A2 → A3 → A4 → Prop) (I : A1 → A2 → A3 → A4 → Prop) (μ : A1 → A2 → A3 → A4 → Nat) (hs : ∀ (n : Nat) (a1 : A1) (a2 : A2) (a3 : A3) (a4 : A4), I a1 a2 a3 a4 → (∀ (b1 : A1) (b2 : A2) (b3 : A3) (b4 : A4), I b1 b2 b3 b4 → μ b1 b2 b3 b4 < μ a1 a2 a3 a4 → W n b1 b2 b3 b4) → W (n + 1) a1 a2 a3 a4) (a1 : A1) (a2 : A2) (a3 : A3) (a4 : A4) (h : I a1 a2 a3 a4) : ∃ n, W n a1 a2 a3 a4 :=
  loop_m (σ := A1 × A2 × A3 × A4) (fun n s => W n s.1 s.2.1 s.2.2.1 s.2.2.2) (fun s => I s.1 s.2.1 s.2.2.1 s.2.2.2) (fun s => μ s.1 s.2.1 s.2.2.1 s.2.2.2) (fun n s hI hk => hs n s.1 s.2.1 s.2.2.1 s.2.2.2 hI (fun b1 b2 b3 b4 h9 hm => hk (b1, b2, b3, b4) h9 hm)) (a1, a2, a3, a4) h
theorem lp5 {A1 A2 A3 A4 A5 : Type} (W : Nat → A1 → A2 → A3 → A4 → A5 → Prop) (I : A1 → A2 → A3 → A4 → A5 → Prop) (μ : A1 → A2 → A3 → A4 → A5 → Nat) (hs : ∀ (n : Nat) (a1 : A1) (a2 : A2) (a3 : A3) (a4 : A4) (a5 : A5), I a1 a2 a3 a4 a5 → (∀ (b1 : A1) (b2 : A2) (b3 : A3) (b4 : A4) (b5 : A5), I b1 b2 b3 b4 b5 → μ b1 b2 b3 b4 b5 < μ a1 a2 a3 a4 a5 → W n b1 b2 b3 b4 b5) → W (n + 1) a1 a2 a3 a4 a5) (a1 : A1) (a2 : A2) (a3 : A3) (a4 : A4) (a5 : A5) (h : I a1 a2 a3 a4 a5) : ∃ n, W n a1 a2 a3 a4 a5 :=
  loop_m (σ := A1 × A2 × A3 × A4 × A5) (fun n s => W n s.1 s.2.1 s.2.2.1 s.2.2.2.1 s.2.2.2.2) (fun s => I s.1 s.2.1 s.2.2.1 s.2.2.2.1 s.2.2.2.2) (fun s => μ s.1 s.2.1 s.2.2.1 s.2.2.2.1 s.2.2.2.2) (fun n s hI hk => hs n s.1 s.2.1 s.2.2.1 s.2.2.2.1 s.2.2.2.2 hI (fun b1 b2 b3 b4 b5 h9 hm => hk (b1, b2, b3, b4, b5) h9 hm)) (a1, a2, a3, a4, a5) h
theorem lp6 {A1 A2 A3 A4 A5 A6 : Type} (W : Nat → A1 → A2 → A3 → A4 → A5 → A6 → Prop) (I : A1 → A2 → A3 → A4 → A5 → A6 → Prop) (μ : A1 → A2 → A3 → A4 → A5 → A6 → Nat) (hs : ∀ (n : Nat) (a1 : A1) (a2 : A2) (a3 : A3) (a4 : A4) (a5 : A5) (a6 : A6), I a1 a2 a3 a4 a5 a6 → (∀ (b1 : A1) (b2 : A2) (b3 : A3) (b4 : A4) (b5 : A5) (b6 : A6), I b1 b2 b3 b4 b5 b6 → μ b1 b2 b3 b4 b5 b6 < μ a1 a2 a3 a4 a5 a6 → W n b1 b2 b3 b4 b5 b6) → W (n + 1) a1 a2 a3 a4 a5 a6) (a1 : A1) (a2 : A2) (a3 : A3) (a4 : A4) (a5 : A5) (a6 : A6) (h : I a1 a2 a3 a4 a5 a6) : ∃ n, W n a1 a2 a3 a4 a5 a6 :=
  loop_m (σ := A1 × A2 × A3 × A4 × A5 × A6) (fun n s => W n s.1 s.2.1 s.2.2.1 s.2.2.2.1 s.2.2.2.2.1 s.2.2.2.2.2) (fun s => I s.1 s.2.1 s.2.2.1 s.2.2.2.1 s.2.2.2.2.1 s.2.2.2.2.2) (fun s => μ s.1 s.2.1 s.2.2.1 s.2.2.2.1 s.2.2.2.2.1 s.2.2.2.2.2) (fun n s hI hk => hs n s.1 s.2.1 s.2.2.1 s.2.2.2.1 s.2.2.2.2.1 s.2.2.2.2.2 hI (fun b1 b2 b3 b4 b5 b6 h9 hm => hk (b1, b2, b3, b4, b5, b6) h9 hm)) (a1, a2, a3, a4, a5, a6) h
theorem lp7 {A1 A2 A3 A4 A5 A6 A7 : Type} (W : Nat → A1 → A2 → A3 → A4 → A5 → A6 → A7 → Prop) (I : A1 → A2 → A3 → A4 → A5 → A6 → A7 → Prop) (μ : A1 → A2 → A3 → A4 → A5 → A6 → A7 → Nat) (hs : ∀ (n : Nat) (a1 : A1) (a2 : A2) (a3 : A3) (a4 : A4) (a5 : A5) (a6 : A6) (a7 : A7), I a1 a2 a3 a4 a5 a6 a7 → (∀ (b1 : A1) (b2 : A2) (b3 : A3) (b4 : A4) (b5 : A5) (b6 : A6) (b7 : A7), I b1 b2 b3 b4 b5 b6 b7 → μ b1 b2 b3 b4 b5 b6 b7 < μ a1 a2 a3 a4 a5 a6 a7 → W n b1 b2 b3 b4 b5 b6 b7) → W (n + 1) a1 a2 a3 a4 a5 a6 a7) (a1 : A1) (a2 : A2) (a3 : A3) (a4 : A4) (a5 : A5) (a6 : A6) (a7 : A7) (h : I a1 a2 a3 a4 a5 a6 a7) : ∃ n, W n a1 a2 a3 a4 a5 a6 a7 :=
  loop_m (σ := A1 × A2 × A3 × A4 × A5 × A6 × A7) (fun n s => W n s.1 s.2.1 s.2.2.1 s.2.2.2.1 s.2.2.2.2.1 s.2.2.2.2.2.1 s.2.2.2.2.2.2) (fun s => I s.1 s.2.1 s.2.2.1 s.2.2.2.1 s.2.2.2.2.1 s.2.2.2.2.2.1 s.2.2.2.2.2.2) (fun s => μ s.1 s.2.1 s.2.2.1 s.2.2.2.1 s.2.2.2.2.1 s.2.2.2.2.2.1 s.2.2.2.2.2.2) (fun n s hI hk => hs n s.1 s.2.1 s.2.2.1 s.2.2.2.1 s.2.2.2.2.1 s.2.2.2.2.2.1 s.2.2.2.2.2.2 hI (fun b1 b2 b3 b4 b5 b6 b7 h9 hm => hk (b1, b2, b3, b4, b5, b6, b7) h9 hm)) (a1, a2, a3, a4, a5, a6, a7) h
theorem lp8 {A1 A2 A3 A4 A5 A6 A7 A8 : Type} (W : Nat → A1 → A2 → A3 → A4 → A5 → A6 → A7 → A8 → Prop) (I : A1 → A2 → A3 → A4 → A5 → A6 → A7 → A8 → Prop) (μ : A1 → A2 → A3 → A4 → A5 → A6 → A7 → A8 → Nat) (hs : ∀ (n : Nat) (a1 : A1) (a2 : A2) (a3 : A3) (a4 : A4) (a5 : A5) (a6 : A6) (a7 : A7) (a8 : A8), I a1 a2 a3 a4 a5 a6 a7 a8 → (∀ (b1 : A1) (b2 : A2) (b3 : A3) (b4 : A4) (b5 : A5) (b6 : A6) (b7 : A7) (b8 : A8), I b1 b2 b3 b4 b5 b6 b7 b8 → μ b1 b2 b3 b4 b5 b6 b7 b8 < μ a1 a2 a3 a4 a5 a6 a7 a8 → W n b1 b2 b3 b4 b5 b6 b7 b8) → W (n + 1) a1 a2 a3 a4 a5 a6 a7 a8) (a1 : A1) (a2 : A2) (a3 : A3) (a4 : A4) (a5 : A5) (a6 : A6) (a7 : A7) (a8 : A8) (h : I a1 a2 a3 a4 a5 a6 a7 a8) : ∃ n, W n a1 a2 a3 a4 a5 a6 a7 a8 :=
  loop_m (σ := A1 × A2 × A3 × A4 × A5 × A6 × A7 × A8) (fun n s => W n s.1 s.2.1 s.2.2.1 s.2.2.2.1 s.2.2.2.2.1 s.2.2.2.2.2.1 s.2.2.2.2.2.2.1 s.2.2.2.2.2.2.2) (fun s => I s.1 s.2.1 s.2.2.1 s.2.2.2.1 s.2.2.2.2.1 s.2.2.2.2.2.1 s.2.2.2.2.2.2.1 s.2.2.2.2.2.2.2) (fun s => μ s.1 s.2.1 s.2.2.1 s.2.2.2.1 s.2.2.2.2.1 s.2.2.2.2.2.1 s.2.2.2.2.2.2.1 s.2.2.2.2.2.2.2) (fun n s hI hk => hs n s.1 s.2.1 s.2.2.1 s.2.2.2.1 s.2.2.2.2.1 s.2.2.2.2.2.1 s.2.2.2.2.2.2.1 s.2.2.2.2.2.2.2 hI (fun b1 b2 b3 b4 b5 b6 b7 b8 h9 hm => hk (b1, b2, b3, b4, b5, b6, b7, b8) h9 hm)) (a1, a2, a3, a4, a5, a6, a7, a8) h
theorem lp9 {A1 A2 A3 A4 A5 A6 A7 A8 A9 : Type} (W : Nat → A1 → A2 → A3 → A4 → A5 → A6 → A7 → A8 → A9 → Prop) (I : A1 → A2 → A3 → A4 → A5 → A6 → A7 → A8 → A9 → Prop) (μ : A1 → A2 → A3 → A4 → A5 → A6 → A7 → A8 → A9 → Nat) (hs : ∀ (n : Nat) (a1 : A1) (a2 : A2) (a3 : A3) (a4 : A4) (a5 : A5) (a6 : A6) (a7 : A7) (a8 : A8) (a9 : A9), I a1 a2 a3 a4 a5 a6 a7 a8 a9 → (∀ (b1 : A1) (b2 : A2) (b3 : A3) (b4 : A4) (b5 : A5) (b6 : A6) (b7 : A7) (b8 : A8) (b9 : A9), I b1 b2 b3 b4 b5 b6 b7 b8 b9 → μ b1 b2 b3 b4 b5 b6 b7 b8 b9 < μ a1 a2 a3 a4 a5 a6 a7 a8 a9 → W n b1 b2 b3 b4 b5 b6 b7 b8 b9) → W (n + 1) a1 a2 a3 a4 a5 a6 a7 a8 a9) (a1 : A1) (a2 : A2) (a3 : A3) (a4 : A4) (a5 : A5) (a6 : A6) (a7 : A7) (a8 : A8) (a9 : A9) (h : I a1 a2 a3 a4 a5 a6 a7 a8 a9) : ∃ n, W n a1 a2 a3 a4 a5 a6 a7 a8 a9 :=
  loop_m (σ := A1 × A2 × A3 × A4 × A5 × A6 × A7 × A8 × A9) (fun n s => W n s.1 s.2.1 s.2.2.1 s.2.2.2.1 s.2.2.2.2.1 s.2.2.2.2.2.1 s.2.2.2.2.2.2.1 s.2.2.2.2.2.2.2.1 s.2.2.2.2.2.2.2.2) (fun s => I s.1 s.2.1 s.2.2.1 s.2.2.2.1 s.2.2.2.2.1 s.2.2.2.2.2.1 s.2.2.2.2.2.2.1 s.2.2.2.2.2.2.2.1 s.2.2.2.2.2.2.2.2) (fun s => μ s.1 s.2.1 s.2.2.1 s.2.2.2.1 s.2.2.2.2.1 s.2.2.2.2.2.1 s.2.2.2.2.2.2.1 s.2.2.2.2.2.2.2.1 s.2.2.2.2.2.2.2.2) (fun n s hI hk => hs n s.1 s.2.1 s.2.2.1 s.2.2.2.1 s.2.2.2.2.1 s.2.2.2.2.2.1 s.2.2.2.2.2.2.1 s.2.2.2.2.2.2.2.1 s.2.2.2.2.2.2.2.2 hI (fun b1 b2 b3 b4 b5 b6 b7 b8 b9 h9 hm => hk (b1, b2, b3, b4, b5, b6, b7, b8, b9) h9 hm)) (a1, a2, a3, a4, a5, a6, a7, a8, a9) h
theorem lp10 {A1 A2 A3 A4 A5 A6 A7 A8 A9 A10 : Type} (W : Nat → A1 → A2 → A3 → A4 → A5 → A6 → A7 → A8 → A9 → A10 → Prop) (I : A1 → A2 → A3 → A4 → A5 → A6 → A7 → A8 → A9 → A10 → Prop) (μ : A1 → A2 → A3 → A4 → A5 → A6 → A7 → A8 → A9 → A10 → Nat) (hs : ∀ (n : Nat) (a1 : A1) (a2 : A2) (a3 : A3) (a4 : A4) (a5 : A5) (a6 : A6) (a7 : A7) (a8 : A8) (a9 : A9) (a10 : A10), I a1 a2 a3 a4 a5 a6 a7 a8 a9 a10 → (∀ (b1 : A1) (b2 : A2) (b3 : A3) (b4 : A4) (b5 : A5) (b6 : A6) (b7 : A7) (b8 : A8) (b9 : A9) (b10 : A10), I b1 b2 b3 b4 b5 b6 b7 b8 b9 b10 → μ b1 b2 b3 b4 b5 b6 b7 b8 b9 b10 < μ a1 a2 a3 a4 a5 a6 a7 a8 a9 a10 → W n b1 b2 b3 b4 b5 b6 b7 b8 b9 b10) → W (n + 1) a1 a2 a3 a4 a5 a6 a7 a8 a9 a10) (a1 : A1) (a2 : A2) (a3 : A3) (a4 : A4) (a5 : A5) (a6 : A6) (a7 : A7) (a8 : A8) (a9 : A9) (a10 : A10) (h : I a1 a2 a3 a4 a5 a6 a7 a8 a9 a10) : ∃ n, W n a1 a2 a3 a4 a5 a6 a7 a8 a9 a10 :=
  loop_m (σ := A1 × A2 × A3 × A4 × A5 × A6 × A7 × A8 × A9 × A10) (fun n s => W n s.1 s.2.1 s.2.2.1 s.2.2.2.1 s.2.2.2.2.1 s.2.2.2.2.2.1 s.2.2.2.2.2.2.1 s.2.2.2.2.2.2.2.1 s.2.2.2.2.2.2.2.2.1 s.2.2.2.2.2.2.2.2.2) (fun s => I s.1 s.2.1 s.2.2.1 s.2.2.2.1 s.2.2.2.2.1 s.2.2.2.2.2.1 s.2.2.2.2.2.2.1 s.2.2.2.2.2.2.2.1 s.2.2.2.2.2.2.2.2.1 s.2.2.2.2.2.2.2.2.2) (fun s => μ s.1 s.2.1 s.2.2.1 s.2.2.2.1 s.2.2.2.2.1 s.2.2.2.2.2.1 s.2.2.2.2.2.2.1 s.2.2.2.2.2.2.2.1 s.2.2.2.2.2.2.2.2.1 s.2.2.2.2.2.2.2.2.2) (fun n s hI hk => hs n s.1 s.2.1 s.2.2.1 s.2.2.2.1 s.2.2.2.2.1 s.2.2.2.2.2.1 s.2.2.2.2.2.2.1 s.2.2.2.2.2.2.2.1 s.2.2.2.2.2.2.2.2.1 s.2.2.2.2.2.2.2.2.2 hI (fun b1 b2 b3 b4 b5 b6 b7 b8 b9 b10 h9 hm => hk (b1, b2, b3, b4, b5, b6, b7, b8, b9, b10) h9 hm)) (a1, a2, a3, a4, a5, a6, a7, a8, a9, a10) h
theorem lp11 {A1 A2 A3 A4 A5 A6 A7 A8 A9 A10 A11 : Type} (W : Nat → A1 → A2 → A3 → A4 → A5 → A6 → A7 → A8 → A9 → A10 → A11 → Prop) (I : A1 → A2 → A3 → A4 → A5 → A6 → A7 → A8 → A9 → A10 → A11 → Prop) (μ : A1 → A2 → A3 → A4 → A5 → A6 → A7 → A8 → A9 → A10 → A11 → Nat) (hs : ∀ (n : Nat) (a1 : A1) (a2 : A2) (a3 : A3) (a4 : A4) (a5 : A5) (a6 : A6) (a7 : A7) (a8 : A8) (a9 : A9) (a10 : A10) (a11 : A11), I a1 a2 a3 a4 a5 a6 a7 a8 a9 a10 a11 → (∀ (b1 : A1) (b2 : A2) (b3 : A3) (b4 : A4) (b5 : A5) (b6 : A6) (b7 : A7) (b8 : A8) (b9 : A9) (b10 : A10) (b11 : A11), I b1 b2 b3 b4 b5 b6 b7 b8 b9 b10 b11 → μ b1 b2 b3 b4 b5 b6 b7 b8 b9 b10 b11 < μ a1 a2 a3 a4 a5 a6 a7 a8 a9 a10 a11 → W n b1 b2 b3 b4 b5 b6 b7 b8 b9 b10 b11) → W (n + 1) a1 a2 a3 a4 a5 a6 a7 a8 a9 a10 a11) (a1 : A1) (a2 : A2) (a3 : A3) (a4 : A4) (a5 : A5) (a6 : A6) (a7 : A7) (a8 : A8) (a9 : A9) (a10 : A10) (a11 : A11) (h : I a1 a2 a3 a4 a5 a6 a7 a8 a9 a10 a11) : ∃ n, W n a1 a2 a3 a4 a5 a6 a7 a8 a9 a10 a11 :=
  loop_m (σ := A1 × A2 × A3 × A4 × A5 × A6 × A7 × A8 × A9 × A10 × A11) (fun n s => W n s.1 s.2.1 s.2.2.1 s.2.2.2.1 s.2.2.2.2.1 s.2.2.2.2.2.1 s.2.2.2.2.2.2.1 s.2.2.2.2.2.2.2.1 s.2.2.2.2.2.2.2.2.1 s.2.2.2.2.2.2.2.2.2.1 s.2.2.2.2.2.2.2.2.2.2) (fun s => I s.1 s.2.1 s.2.2.1 s.2.2.2.1 s.2.2.2.2.1 s.2.2.2.2.2.1 s.2.2.2.2.2.2.1 s.2.2.2.2.2.2.2.1 s.2.2.2.2.2.2.2.2.1 s.2.2.2.2.2.2.2.2.2.1 s.2.2.2.2.2.2.2.2.2.2) (fun s => μ s.1 s.2.1 s.2.2.1 s.2.2.2.1 s.2.2.2.2.1 s.2.2.2.2.2.1 s.2.2.2.2.2.2.1 s.2.2.2.2.2.2.2.1 s.2.2.2.2.2.2.2.2.1 s.2.2.2.2.2.2.2.2.2.1 s.2.2.2.2.2.2.2.2.2.2) (fun n s hI hk => hs n s.1 s.2.1 s.2.2.1 s.2.2.2.1 s.2.2.2.2.1 s.2.2.2.2.2.1 s.2.2.2.2.2.2.1 s.2.2.2.2.2.2.2.1 s.2.2.2.2.2.2.2.2.1 s.2.2.2.2.2.2.2.2.2.1 s.2.2.2.2.2.2.2.2.2.2 hI (fun b1 b2 b3 b4 b5 b6 b7 b8 b9 b10 b11 h9 hm => hk (b1, b2, b3, b4, b5, b6, b7, b8, b9, b10, b11) h9 hm)) (a1, a2, a3, a4, a5, a6, a7, a8, a9, a10, a11) h
theorem lp12 {A1 A2 A3 A4 A5 A6 A7 A8 A9 A10 A11 A12 : Type} (W : Nat → A1 → A2 → A3 → A4 → A5 → A6 → A7 → A8 → A9 → A10 → A11 → A12 → Prop) (I : A1 → A2 → A3 → A4 → A5 → A6 → A7 → A8 → A9 → A10 → A11 → A12 → Prop) (μ : A1 → A2 → A3 → A4 → A5 → A6 → A7 → A8 → A9 → A10 → A11 → A12 → Nat) (hs : ∀ (n : Nat) (a1 : A1) (a2 : A2) (a3 : A3) (a4 : A4) (a5 : A5) (a6 : A6) (a7 : A7) (a8 : A8) (a9 : A9) (a10 : A10) (a11 : A11) (a12 : A12), I a1 a2 a3 a4 a5 a6 a7 a8 a9 a10 a11 a12 → (∀ (b1 : A1) (b2 : A2) (b3 : A3) (b4 : A4) (b5 : A5) (b6 : A6) (b7 : A7) (b8 : A8) (b9 : A9) (b10 : A10) (b11 : A11) (b12 : A12), I b1 b2 b3 b4 b5 b6 b7 b8 b9 b10 b11 b12 → μ b1 b2 b3 b4 b5 b6 b7 b8 b9 b10 b11 b12 < μ a1 a2 a3 a4 a5 a6 a7 a8 a9 a10 a11 a12 → W n b1 b2 b3 b4 b5 b6 b7 b8 b9 b10 b11 b12) → W (n + 1) a1 a2 a3 a4 a5 a6 a7 a8 a9 a10 a11 a12) (a1 : A1) (a2 : A2) (a3 : A3) (a4 : A4) (a5 : A5) (a6 : A6) (a7 : A7) (a8 : A8) (a9 : A9) (a10 : A10) (a11 : A11) (a12 : A12) (h : I a1 a2 a3 a4 a5 a6 a7 a8 a9 a10 a11 a12) : ∃ n, W n a1 a2 a3 a4 a5 a6 a7 a8 a9 a10 a11 a12 :=
  loop_m (σ := A1 × A2 × A3 × A4 × A5 × A6 × A7 × A8 × A9 × A10 × A11 × A12) (fun n s => W n s.1 s.2.1 s.2.2.1 s.2.2.2.1 s.2.2.2.2.1 s.2.2.2.2.2.1 s.2.2.2.2.2.2.1 s.2.2.2.2.2.2.2.1 s.2.2.2.2.2.2.2.2.1 s.2.2.2.2.2.2.2.2.2.1 s.2.2.2.2.2.2.2.2.2.2.1 s.2.2.2.2.2.2.2.2.2.2.2) (fun s => I s.1 s.2.1 s.2.2.1 s.2.2.2.1 s.2.2.2.2.1 s.2.2.2.2.2.1 s.2.2.2.2.2.2.1 s.2.2.2.2.2.2.2.1 s.2.2.2.2.2.2.2.2.1 s.2.2.2.2.2.2.2.2.2.1 s.2.2.2.2.2.2.2.2.2.2.1 s.2.2.2.2.2.2.2.2.2.2.2) (fun s => μ s.1 s.2.1 s.2.2.1 s.2.2.2.1 s.2.2.2.2.1 s.2.2.2.2.2.1 s.2.2.2.2.2.2.1 s.2.2.2.2.2.2.2.1 s.2.2.2.2.2.2.2.2.1 s.2.2.2.2.2.2.2.2.2.1 s.2.2.2.2.2.2.2.2.2.2.1 s.2.2.2.2.2.2.2.2.2.2.2) (fun n s hI hk => hs n s.1 s.2.1 s.2.2.1 s.2.2.2.1 s.2.2.2.2.1 s.2.2.2.2.2.1 s.2.2.2.2.2.2.1 s.2.2.2.2.2.2.2.1 s.2.2.2.2.2.2.2.2.1 s.2.2.2.2.2.2.2.2.2.1 s.2.2.2.2.2.2.2.2.2.2.1 s.2.2.2.2.2.2.2.2.2.2.2 hI (fun b1 b2 b3 b4 b5 b6 b7 b8 b9 b10 b11 b12 h9 hm => hk (b1, b2, b3, b4, b5, b6, b7, b8, b9, b10, b11, b12) h9 hm)) (a1, a2, a3, a4, a5, a6, a7, a8, a9, a10, a11, a12) h
theorem lp13 {A1 A2 A3 A4 A5 A6 A7 A8 A9 A10 A11 A12 A13 : Type} (W : Nat → A1 → A2 → A3 → A4 → A5 → A6 → A7 → A8 → A9 → A10 → A11 → A12 → A13 → Prop) (I : A1 → A2 → A3 → A4 → A5 → A6 → A7 → A8 → A9 → A10 → A11 → A12 → A13 → Prop) (μ : A1 → A2 → A3 → A4 → A5 → A6 → A7 → A8 → A9 → A10 → A11 → A12 → A13 → Nat) (hs : ∀ (n : Nat) (a1 : A1) (a2 : A2) (a3 : A3) (a4 : A4) (a5 : A5) (a6 : A6) (a7 : A7) (a8 : A8) (a9 : A9) (a10 : A10) (a11 : A11) (a12 : A12) (a13 : A13), I a1 a2 a3 a4 a5 a6 a7 a8 a9 a10 a11 a12 a13 → (∀ (b1 : A1) (b2 : A2) (b3 : A3) (b4 : A4) (b5 : A5) (b6 : A6) (b7 : A7) (b8 : A8) (b9 : A9) (b10 : A10) (b11 : A11) (b12 : A12) (b13 : A13), I b1 b2 b3 b4 b5 b6 b7 b8 b9 b10 b11 b12 b13 → μ b1 b2 b3 b4 b5 b6 b7 b8 b9 b10 b11 b12 b13 < μ a1 a2 a3 a4 a5 a6 a7 a8 a9 a10 a11 a12 a13 → W n b1 b2 b3 b4 b5 b6 b7 b8 b9 b10 b11 b12 b13) → W (n + 1) a1 a2 a3 a4 a5 a6 a7 a8 a9 a10 a11 a12 a13) (a1 : A1) (a2 : A2) (a3 : A3) (a4 : A4) (a5 : A5) (a6 : A6) (a7 : A7) (a8 : A8) (a9 : A9) (a10 : A10) (a11 : A11) (a12 : A12) (a13 : A13) (h : I a1 a2 a3 a4 a5 a6 a7 a8 a9 a10 a11 a12 a13) : ∃ n, W n a1 a2 a3 a4 a5 a6 a7 a8 a9 a10 a11 a12 a13 :=
  loop_m (σ := A1 × A2 × A3 × A4 × A5 × A6 × A7 × A8 × A9 × A10 × A11 × A12 × A13) (fun n s => W n s.1 s.2.1 s.2.2.1 s.2.2.2.1 s.2.2.2.2.1 s.2.2.2.2.2.1 s.2.2.2.2.2.2.1 s.2.2.2.2.2.2.2.1 s.2.2.2.2.2.2.2.2.1 s.2.2.2.2.2.2.2.2.2.1 s.2.2.2.2.2.2.2.2.2.2.1 s.2.2.2.2.2.2.2.2.2.2.2.1 s.2.2.2.2.2.2.2.2.2.2.2.2) (fun s => I s.1 s.2.1 s.2.2.1 s.2.2.2.1 s.2.2.2.2.1 s.2.2.2.2.2.1 s.2.2.2.2.2.2.1 s.2.2.2.2.2.2.2.1 s.2.2.2.2.2.2.2.2.1 s.2.2.2.2.2.2.2.2.2.1 s.2.2.2.2.2.2.2.2.2.2.1 s.2.2.2.2.2.2.2.2.2.2.2.1 s.2.2.2.2.2.2.2.2.2.2.2.2) (fun s => μ s.1 s.2.1 s.2.2.1 s.2.2.2.1 s.2.2.2.2.1 s.2.2.2.2.2.1 s.2.2.2.2.2.2.1 s.2.2.2.2.2.2.2.1 s.2.2.2.2.2.2.2.2.1 s.2.2.2.2.2.2.2.2.2.1 s.2.2.2.2.2.2.2.2.2.2.1 s.2.2.2.2.2.2.2.2.2.2.2.1 s.2.2.2.2.2.2.2.2.2.2.2.2) (fun n s hI hk => hs n s.1 s.2.1 s.2.2.1 s.2.2.2.1 s.2.2.2.2.1 s.2.2.2.2.2.1 s.2.2.2.2.2.2.1 s.2.2.2.2.2.2.2.1 s.2.2.2.2.2.2.2.2.1 s.2.2.2.2.2.2.2.2.2.1 s.2.2.2.2.2.2.2.2.2.2.1 s.2.2.2.2.2.2.2.2.2.2.2.1 s.2.2.2.2.2.2.2.2.2.2.2.2 hI (fun b1 b2 b3 b4 b5 b6 b7 b8 b9 b10 b11 b12 b13 h9 hm => hk (b1, b2, b3, b4, b5, b6, b7, b8, b9, b10, b11, b12, b13) h9 hm)) (a1, a2, a3, a4, a5, a6, a7, a8, a9, a10, a11, a12, a13) h
theorem lp14 {A1 A2 A3 A4 A5 A6 A7 A8 A9 A10 A11 A12 A13 A14 : Type} (W : Nat → A1 → A2 → A3 → A4 → A5 → A6 → A7 → A8 → A9 → A10 → A11 → A12 → A13 → A14 → Prop) (I : A1 → A2 → A3 → A4 → A5 → A6 → A7 → A8 → A9 → A10 → A11 → A12 → A13 → A14 → Prop) (μ : A1 → A2 → A3 → A4 → A5 → A6 → A7 → A8 → A9 → A10 → A11 → A12 → A13 → A14 → Nat) (hs : ∀ (n : Nat) (a1 : A1) (a2 : A2) (a3 : A3) (a4 : A4) (a5 : A5) (a6 : A6) (a7 : A7) (a8 : A8) (a9 : A9) (a10 : A10) (a11 : A11) (a12 : A12) (a13 : A13) (a14 : A14), I a1 a2 a3 a4 a5 a6 a7 a8 a9 a10 a11 a12 a13 a14 → (∀ (b1 : A1) (b2 : A2) (b3 : A3) (b4 : A4) (b5 : A5) (b6 : A6) (b7 : A7) (b8 : A8) (b9 : A9) (b10 : A10) (b11 : A11) (b12 : A12) (b13 : A13) (b14 : A14), I b1 b2 b3 b4 b5 b6 b7 b8 b9 b10 b11 b12 b13 b14 → μ b1 b2 b3 b4 b5 b6 b7 b8 b9 b10 b11 b12 b13 b14 < μ a1 a2 a3 a4 a5 a6 a7 a8 a9 a10 a11 a12 a13 a14 → W n b1 b2 b3 b4 b5 b6 b7 b8 b9 b10 b11 b12 b13 b14) → W (n + 1) a1 a2 a3 a4 a5 a6 a7 a8 a9 a10 a11 a12 a13 a14) (a1 : A1) (a2 : A2) (a3 : A3) (a4 : A4) (a5 : A5) (a6 : A6) (a7 : A7) (a8 : A8) (a9 : A9) (a10 : A10) (a11 : A11) (a12 : A12) (a13 : A13) (a14 : A14) (h : I a1 a2 a3 a4 a5 a6 a7 a8 a9 a10 a11 a12 a13 a14) : ∃ n, W n a1 a2 a3 a4 a5 a6 a7 a8 a9 a10 a11 a12 a13 a14 :=
  loop_m (σ := A1 × A2 × A3 × A4 × A5 × A6 × A7 × A8 × A9 × A10 × A11 × A12 × A13 × A14) (fun n s => W n s.1 s.2.1 s.2.2.1 s.2.2.2.1 s.2.2.2.2.1 s.2.2.2.2.2.1 s.2.2.2.2.2.2.1 s.2.2.2.2.2.2.2.1 s.2.2.2.2.2.2.2.2.1 s.2.2.2.2.2.2.2.2.2.1 s.2.2.2.2.2.2.2.2.2.2.1 s.2.2.2.2.2.2.2.2.2.2.2.1 s.2.2.2.2.2.2.2.2.2.2.2.2.1 s.2.2.2.2.2.2.2.2.2.2.2.2.2) (fun s => I s.1 s.2.1 s.2.2.1 s.2.2.2.1 s.2.2.2.2.1 s.2.2.2.2.2.1 s.2.2.2.2.2.2.1 s.2.2.2.2.2.2.2.1 s.2.2.2.2.2.2.2.2.1 s.2.2.2.2.2.2.2.2.2.1 s.2.2.2.2.2.2.2.2.2.2.1 s.2.2.2.2.2.2.2.2.2.2.2.1 s.2.2.2.2.2.2.2.2.2.2.2.2.1 s.2.2.2.2.2.2.2.2.2.2.2.2.2) (fun s => μ s.1 s.2.1 s.2.2.1 s.2.2.2.1 s.2.2.2.2.1 s.2.2.2.2.2.1 s.2.2.2.2.2.2.1 s.2.2.2.2.2.2.2.1 s.2.2.2.2.2.2.2.2.1 s.2.2.2.2.2.2.2.2.2.1 s.2.2.2.2.2.2.2.2.2.2.1 s.2.2.2.2.2.2.2.2.2.2.2.1 s.2.2.2.2.2.2.2.2.2.2.2.2.1 s.2.2.2.2.2.2.2.2.2.2.2.2.2) (fun n s hI hk => hs n s.1 s.2.1 s.2.2.1 s.2.2.2.1 s.2.2.2.2.1 s.2.2.2.2.2.1 s.2.2.2.2.2.2.1 s.2.2.2.2.2.2.2.1 s.2.2.2.2.2.2.2.2.1 s.2.2.2.2.2.2.2.2.2.1 s.2.2.2.2.2.2.2.2.2.2.1 s.2.2.2.2.2.2.2.2.2.2.2.1 s.2.2.2.2.2.2.2.2.2.2.2.2.1 s.2.2.2.2.2.2.2.2.2.2.2.2.2 hI (fun b1 b2 b3 b4 b5 b6 b7 b8 b9 b10 b11 b12 b13 b14 h9 hm => hk (b1, b2, b3, b4, b5, b6, b7, b8, b9, b10, b11, b12, b13, b14) h9 hm)) (a1, a2, a3, a4, a5, a6, a7, a8, a9, a10, a11, a12, a13, a14) h
theorem lp15 {A1 A2 A3 A4 A5 A6 A7 A8 A9 A10 A11 A12 A13 A14 A15 : Type} (W : Nat → A1 → A2 → A3 → A4 → A5 → A6 → A7 → A8 → A9 → A10 → A11 → A12 → A13 → A14 → A15 → Prop) (I : A1 → A2 → A3 → A4 → A5 → A6 → A7 → A8 → A9 → A10 → A11 → A12 → A13 → A14 → A15 → Prop) (μ : A1 → A2 → A3 → A4 → A5 → A6 → A7 → A8 → A9 → A10 → A11 → A12 → A13 → A14 → A15 → Nat) (hs : ∀ (n : Nat) (a1 : A1) (a2 : A2) (a3 : A3) (a4 : A4) (a5 : A5) (a6 : A6) (a7 : A7) (a8 : A8) (a9 : A9) (a10 : A10) (a11 : A11) (a12 : A12) (a13 : A13) (a14 : A14) (a15 : A15), I a1 a2 a3 a4 a5 a6 a7 a8 a9 a10 a11 a12 a13 a14 a15 → (∀ (b1 : A1) (b2 : A2) (b3 : A3) (b4 : A4) (b5 : A5) (b6 : A6) (b7 : A7) (b8 : A8) (b9 : A9) (b10 : A10) (b11 : A11) (b12 : A12) (b13 : A13) (b14 : A14) (b15 : A15), I b1 b2 b3 b4 b5 b6 b7 b8 b9 b10 b11 b12 b13 b14 b15 → μ b1 b2 b3 b4 b5 b6 b7 b8 b9 b10 b11 b12 b13 b14 b15 < μ a1 a2 a3 a4 a5 a6 a7 a8 a9 a10 a11 a12 a13 a14 a15 → W n b1 b2 b3 b4 b5 b6 b7 b8 b9 b10 b11 b12 b13 b14 b15) → W (n + 1) a1 a2 a3 a4 a5 a6 a7 a8 a9 a10 a11 a12 a13 a14 a15) (a1 : A1) (a2 : A2) (a3 : A3) (a4 : A4) (a5 : A5) (a6 : A6) (a7 : A7) (a8 : A8) (a9 : A9) (a10 : A10) (a11 : A11) (a12 : A12) (a13 : A13) (a14 : A14) (a15 : A15) (h : I a1 a2 a3 a4 a5 a6 a7 a8 a9 a10 a11 a12 a13 a14 a15) : ∃ n, W n a1 a2 a3 a4 a5 a6 a7 a8 a9 a10 a11 a12 a13 a14 a15 :=
  loop_m (σ := A1 × A2 × A3 × A4 × A5 × A6 × A7 × A8 × A9 × A10 × A11 × A12 × A13 × A14 × A15) (fun n s => W n s.1 s.2.1 s.2.2.1 s.2.2.2.1 s.2.2.2.2.1 s.2.2.2.2.2.1 s.2.2.2.2.2.2.1 s.2.2.2.2.2.2.2.1 s.2.2.2.2.2.2.2.2.1 s.2.2.2.2.2.2.2.2.2.1 s.2.2.2.2.2.2.2.2.2.2.1 s.2.2.2.2.2.2.2.2.2.2.2.1 s.2.2.2.2.2.2.2.2.2.2.2.2.1 s.2.2.2.2.2.2.2.2.2.2.2.2.2.1 s.2.2.2.2.2.2.2.2.2.2.2.2.2.2) (fun s => I s.1 s.2.1 s.2.2.1 s.2.2.2.1 s.2.2.2.2.1 s.2.2.2.2.2.1 s.2.2.2.2.2.2.1 s.2.2.2.2.2.2.2.1 s.2.2.2.2.2.2.2.2.1 s.2.2.2.2.2.2.2.2.2.1 s.2.2.2.2.2.2.2.2.2.2.1 s.2.2.2.2.2.2.2.2.2.2.2.1 s.2.2.2.2.2.2.2.2.2.2.2.2.1 s.2.2.2.2.2.2.2.2.2.2.2.2.2.1 s.2.2.2.2.2.2.2.2.2.2.2.2.2.2) (fun s => μ s.1 s.2.1 s.2.2.1 s.2.2.2.1 s.2.2.2.2.1 s.2.2.2.2.2.1 s.2.2.2.2.2.2.1 s.2.2.2.2.2.2.2.1 s.2.2.2.2.2.2.2.2.1 s.2.2.2.2.2.2.2.2.2.1 s.2.2.2.2.2.2.2.2.2.2.1 s.2.2.2.2.2.2.2.2.2.2.2.1 s.2.2.2.2.2.2.2.2.2.2.2.2.1 s.2.2.2.2.2.2.2.2.2.2.2.2.2.1 s.2.2.2.2.2.2.2.2.2.2.2.2.2.2) (fun n s hI hk => hs n s.1 s.2.1 s.2.2.1 s.2.2.2.1 s.2.2.2.2.1 s.2.2.2.2.2.1 s.2.2.2.2.2.2.1 s.2.2.2.2.2.2.2.1 s.2.2.2.2.2.2.2.2.1 s.2.2.2.2.2.2.2.2.2.1 s.2.2.2.2.2.2.2.2.2.2.1 s.2.2.2.2.2.2.2.2.2.2.2.1 s.2.2.2.2.2.2.2.2.2.2.2.2.1 s.2.2.2.2.2.2.2.2.2.2.2.2.2.1 s.2.2.2.2.2.2.2.2.2.2.2.2.2.2 hI (fun b1 b2 b3 b4 b5 b6 b7 b8 b9 b10 b11 b12 b13 b14 b15 h9 hm => hk (b1, b2, b3, b4, b5, b6, b7, b8, b9, b10, b11, b12, b13, b14, b15) h9 hm)) (a1, a2, a3, a4, a5, a6, a7, a8, a9, a10, a11, a12, a13, a14, a15) h
theorem lp16 {A1 A2 A3 A4 A5 A6 A7 A8 A9 A10 A11 A12 A13 A14 A15 A16 : Type} (W : Nat → A1 → A2 → A3 → A4 → A5 → A6 → A7 → A8 → A9 → A10 → A11 → A12 → A13 → A14 → A15 → A16 → Prop) (I : A1 → A2 → A3 → A4 → A5 → A6 → A7 → A8 → A9 → A10 → A11 → A12 → A13 → A14 → A15 → A16 → Prop) (μ : A1 → A2 → A3 → A4 → A5 → A6 → A7 → A8 → A9 → A10 → A11 → A12 → A13 → A14 → A15 → A16 → Nat) (hs : ∀ (n : Nat) (a1 : A1) (a2 : A2) (a3 : A3) (a4 : A4) (a5 : A5) (a6 : A6) (a7 : A7) (a8 : A8) (a9 : A9) (a10 : A10) (a11 : A11) (a12 : A12) (a13 : A13) (a14 : A14) (a15 : A15) (a16 : A16), I a1 a2 a3 a4 a5 a6 a7 a8 a9 a10 a11 a12 a13 a14 a15 a16 → (∀ (b1 : A1) (b2 : A2) (b3 : A3) (b4 : A4) (b5 : A5) (b6 : A6) (b7 : A7) (b8 : A8) (b9 : A9) (b10 : A10) (b11 : A11) (b12 : A12) (b13 : A13) (b14 : A14) (b15 : A15) (b16 : A16), I b1 b2 b3 b4 b5 b6 b7 b8 b9 b10 b11 b12 b13 b14 b15 b16 → μ b1 b2 b3 b4 b5 b6 b7 b8 b9 b10 b11 b12 b13 b14 b15 b16 < μ a1 a2 a3 a4 a5 a6 a7 a8 a9 a10 a11 a12 a13 a14 a15 a16 → W n b1 b2 b3 b4 b5 b6 b7 b8 b9 b10 b11 b12 b13 b14 b15 b16) → W (n + 1) a1 a2 a3 a4 a5 a6 a7 a8 a9 a10 a11 a12 a13 a14 a15 a16) (a1 : A1) (a2 : A2) (a3 : A3) (a4 : A4) (a5 : A5) (a6 : A6) (a7 : A7) (a8 : A8) (a9 : A9) (a10 : A10) (a11 : A11) (a12 : A12) (a13 : A13) (a14 : A14) (a15 : A15) (a16 : A16) (h : I a1 a2 a3 a4 a5 a6 a7 a8 a9 a10 a11 a12 a13 a14 a15 a16) : ∃ n, W n a1 a2 a3 a4 a5 a6 a7 a8 a9 a10 a11 a12 a13 a14 a15 a16 :=
  loop_m (σ := A1 × A2 × A3 × A4 × A5 × A6 × A7 × A8 × A9 × A10 × A11 × A12 × A13 × A14 × A15 × A16) (fun n s => W n s.1 s.2.1 s.2.2.1 s.2.2.2.1 s.2.2.2.2.1 s.2.2.2.2.2.1 s.2.2.2.2.2.2.1 s.2.2.2.2.2.2.2.1 s.2.2.2.2.2.2.2.2.1 s.2.2.2.2.2.2.2.2.2.1 s.2.2.2.2.2.2.2.2.2.2.1 s.2.2.2.2.2.2.2.2.2.2.2.1 s.2.2.2.2.2.2.2.2.2.2.2.2.1 s.2.2.2.2.2.2.2.2.2.2.2.2.2.1 s.2.2.2.2.2.2.2.2.2.2.2.2.2.2.1 s.2.2.2.2.2.2.2.2.2.2.2.2.2.2.2) (fun s => I s.1 s.2.1 s.2.2.1 s.2.2.2.1 s.2.2.2.2.1 s.2.2.2.2.2.1 s.2.2.2.2.2.2.1 s.2.2.2.2.2.2.2.1 s.2.2.2.2.2.2.2.2.1 s.2.2.2.2.2.2.2.2.2.1 s.2.2.2.2.2.2.2.2.2.2.1 s.2.2.2.2.2.2.2.2.2.2.2.1 s.2.2.2.2.2.2.2.2.2.2.2.2.1 s.2.2.2.2.2.2.2.2.2.2.2.2.2.1 s.2.2.2.2.2.2.2.2.2.2.2.2.2.2.1 s.2.2.2.2.2.2.2.2.2.2.2.2.2.2.2) (fun s => μ s.1 s.2.1 s.2.2.1 s.2.2.2.1 s.2.2.2.2.1 s.2.2.2.2.2.1 s.2.2.2.2.2.2.1 s.2.2.2.2.2.2.2.1 s.2.2.2.2.2.2.2.2.1 s.2.2.2.2.2.2.2.2.2.1 s.2.2.2.2.2.2.2.2.2.2.1 s.2.2.2.2.2.2.2.2.2.2.2.1 s.2.2.2.2.2.2.2.2.2.2.2.2.1 s.2.2.2.2.2.2.2.2.2.2.2.2.2.1 s.2.2.2.2.2.2.2.2.2.2.2.2.2.2.1 s.2.2.2.2.2.2.2.2.2.2.2.2.2.2.2) (fun n s hI hk => hs n s.1 s.2.1 s.2.2.1 s.2.2.2.1 s.2.2.2.2.1 s.2.2.2.2.2.1 s.2.2.2.2.2.2.1 s.2.2.2.2.2.2.2.1 s.2.2.2.2.2.2.2.2.1 s.2.2.2.2.2.2.2.2.2.1 s.2.2.2.2.2.2.2.2.2.2.1 s.2.2.2.2.2.2.2.2.2.2.2.1 s.2.2.2.2.2.2.2.2.2.2.2.2.1 s.2.2.2.2.2.2.2.2.2.2.2.2.2.1 s.2.2.2.2.2.2.2.2.2.2.2.2.2.2.1 s.2.2.2.2.2.2.2.2.2.2.2.2.2.2.2 hI (fun b1 b2 b3 b4 b5 b6 b7 b8 b9 b10 b11 b12 b13 b14 b15 b16 h9 hm => hk (b1, b2, b3, b4, b5, b6, b7, b8, b9, b10, b11, b12, b13, b14, b15, b16) h9 hm)) (a1, a2, a3, a4, a5, a6, a7, a8, a9, a10, a11, a12, a13, a14, a15, a16) h
theorem pk_least (P : Nat → Prop) (h : ∃ k, P k) : ∃ k, P k ∧ ∀ j, j < k → ¬ P j := by
  obtain ⟨k, hk⟩ := h
  induction k using Nat.strongRecOn with
  | ind k ih =>
    by_cases e : ∃ j, j < k ∧ P j
    · obtain ⟨j, hj, pj⟩ := e
      exact ih j hj pj
    · exact ⟨k, hk, fun j hj pj => e ⟨j, hj, pj⟩⟩
theorem rp1 {ρ A1 : Type} (W : Nat → (ρ → Prop) → A1 → Prop) (ok : A1 → Prop) (μ : A1 → Nat) (val : A1 → ρ)
    (hs : ∀ (d : Nat) (post : ρ → Prop) (a1 : A1), ok a1 → post (val a1) → (∀ (post' : ρ → Prop) (b1 : A1), ok b1 → μ b1 < μ a1 → post' (val b1) → W d post' b1) → W (d + 1) post a1) :
    ∀ (d : Nat) (post : ρ → Prop) (a1 : A1), ok a1 → μ a1 < d → post (val a1) → W d post a1 := by
  intro d
  induction d with
  | zero => intro post a1 _ h; omega
  | succ d ih =>
    intro post a1 ho hm hp
    exact hs d post a1 ho hp (fun post' b1 ho' hm' hp' => ih post' b1 ho' (by omega) hp')
theorem rp2 {ρ A1 A2 : Type} (W : Nat → (ρ → Prop) → A1 → A2 → Prop) (ok : A1 → A2 → Prop) (μ : A1 → A2 → Nat) (val : A1 → A2 → ρ)
    (hs : ∀ (d : Nat) (post : ρ → Prop) (a1 : A1) (a2 : A2), ok a1 a2 → post (val a1 a2) → (∀ (post' : ρ → Prop) (b1 : A1) (b2 : A2), ok b1 b2 → μ b1 b2 < μ a1 a2 → post' (val b1 b2) → W d post' b1 b2) → W (d + 1) post a1 a2) :
    ∀ (d : Nat) (post : ρ → Prop) (a1 : A1) (a2 : A2), ok a1 a2 → μ a1 a2 < d → post (val a1 a2) → W d post a1 a2 := by
  intro d
  induction d with
  | zero => intro post a1 a2 _ h; omega
  | succ d ih =>
    intro post a1 a2 ho hm hp
    exact hs d post a1 a2 ho hp (fun post' b1 b2 ho' hm' hp' => ih post' b1 b2 ho' (by omega) hp')
theorem rp3 {ρ A1 A2 A3 : Type} (W : Nat → (ρ → Prop) → A1 → A2 → A3 → Prop) (ok : A1 → A2 → A3 → Prop) (μ : A1 → A2 → A3 → Nat) (val : A1 → A2 → A3 → ρ)
    (hs : ∀ (d : Nat) (post : ρ → Prop) (a1 : A1) (a2 : A2) (a3 : A3), ok a1 a2 a3 → post (val a1 a2 a3) → (∀ (post' : ρ → Prop) (b1 : A1) (b2 : A2) (b3 : A3), ok b1 b2 b3 → μ b1 b2 b3 < μ a1 a2 a3 → post' (val b1 b2 b3) → W d post' b1 b2 b3) → W (d + 1) post a1 a2 a3) :
    ∀ (d : Nat) (post : ρ → Prop) (a1 : A1) (a2 : A2) (a3 : A3), ok a1 a2 a3 → μ a1 a2 a3 < d → post (val a1 a2 a3) → W d post a1 a2 a3 := by
  intro d
  induction d with
  | zero => intro post a1 a2 a3 _ h; omega
  | succ d ih =>
    intro post a1 a2 a3 ho hm hp
    exact hs d post a1 a2 a3 ho hp (fun post' b1 b2 b3 ho' hm' hp' => ih post' b1 b2 b3 ho' (by omega) hp')
theorem rp4 {ρ A1 A2 A3 A4 : Type} (W : Nat → (ρ → Prop) → A1 → A2 → A3 → A4 → Prop) (ok : A1 → A2 → A3 → A4 → Prop) (μ : A1 → A2 → A3 → A4 → Nat) (val : A1 → A2 → A3 → A4 → ρ)
    (hs : ∀ (d : Nat) (post : ρ → Prop) (a1 : A1) (a2 : A2) (a3 : A3) (a4 : A4), ok a1 a2 a3 a4 → post (val a1 a2 a3 a4) → (∀ (post' : ρ → Prop) (b1 : A1) (b2 : A2) (b3 : A3) (b4 : A4), ok b1 b2 b3 b4 → μ b1 b2 b3 b4 < μ a1 a2 a3 a4 → post' (val b1 b2 b3 b4) → W d post' b1 b2 b3 b4) → W (d + 1) post a1 a2 a3 a4) :
    ∀ (d : Nat) (post : ρ → Prop) (a1 : A1) (a2 : A2) (a3 : A3) (a4 : A4), ok a1 a2 a3 a4 → μ a1 a2 a3 a4 < d → post (val a1 a2 a3 a4) → W d post a1 a2 a3 a4 := by
  intro d
  induction d with
  | zero => intro post a1 a2 a3 a4 _ h; omega
  | succ d ih =>
    intro post a1 a2 a3 a4 ho hm hp
    exact hs d post a1 a2 a3 a4 ho hp (fun post' b1 b2 b3 b4 ho' hm' hp' => ih post' b1 b2 b3 b4 ho' (by omega) hp')
theorem rp5 {ρ A1 A2 A3 A4 A5 : Type} (W : Nat → (ρ → Prop) → A1 → A2 → A3 → A4 → A5 → Prop) (ok : A1 → A2 → A3 → A4 → A5 → Prop) (μ : A1 → A2 → A3 → A4 → A5 → Nat) (val : A1 → A2 → A3 → A4 → A5 → ρ)
    (hs : ∀ (d : Nat) (post : ρ → Prop) (a1 : A1) (a2 : A2) (a3 : A3) (a4 : A4) (a5 : A5), ok a1 a2 a3 a4 a5 → post (val a1 a2 a3 a4 a5) → (∀ (post' : ρ → Prop) (b1 : A1) (b2 : A2) (b3 : A3) (b4 : A4) (b5 : A5), ok b1 b2 b3 b4 b5 → μ b1 b2 b3 b4 b5 < μ a1 a2 a3 a4 a5 → post' (val b1 b2 b3 b4 b5) → W d post' b1 b2 b3 b4 b5) → W (d + 1) post a1 a2 a3 a4 a5) :
    ∀ (d : Nat) (post : ρ → Prop) (a1 : A1) (a2 : A2) (a3 : A3) (a4 : A4) (a5 : A5), ok a1 a2 a3 a4 a5 → μ a1 a2 a3 a4 a5 < d → post (val a1 a2 a3 a4 a5) → W d post a1 a2 a3 a4 a5 := by
  intro d
  induction d with
  | zero => intro post a1 a2 a3 a4 a5 _ h; omega
  | succ d ih =>
    intro post a1 a2 a3 a4 a5 ho hm hp
    exact hs d post a1 a2 a3 a4 a5 ho hp (fun post' b1 b2 b3 b4 b5 ho' hm' hp' => ih post' b1 b2 b3 b4 b5 ho' (by omega) hp')
theorem rp6 {ρ A1 A2 A3 A4 A5 A6 : Type} (W : Nat → (ρ → Prop) → A1 → A2 → A3 → A4 → A5 → A6 → Prop) (ok : A1 → A2 → A3 → A4 → A5 → A6 → Prop) (μ : A1 → A2 → A3 → A4 → A5 → A6 → Nat) (val : A1 → A2 → A3 → A4 → A5 → A6 → ρ)
    (hs : ∀ (d : Nat) (post : ρ → Prop) (a1 : A1) (a2 : A2) (a3 : A3) (a4 : A4) (a5 : A5) (a6 : A6), ok a1 a2 a3 a4 a5 a6 → post (val a1 a2 a3 a4 a5 a6) → (∀ (post' : ρ → Prop) (b1 : A1) (b2 : A2) (b3 : A3) (b4 : A4) (b5 : A5) (b6 : A6), ok b1 b2 b3 b4 b5 b6 → μ b1 b2 b3 b4 b5 b6 < μ a1 a2 a3 a4 a5 a6 → post' (val b1 b2 b3 b4 b5 b6) → W d post' b1 b2 b3 b4 b5 b6) → W (d + 1) post a1 a2 a3 a4 a5 a6) :
    ∀ (d : Nat) (post : ρ → Prop) (a1 : A1) (a2 : A2) (a3 : A3) (a4 : A4) (a5 : A5) (a6 : A6), ok a1 a2 a3 a4 a5 a6 → μ a1 a2 a3 a4 a5 a6 < d → post (val a1 a2 a3 a4 a5 a6) → W d post a1 a2 a3 a4 a5 a6 := by
  intro d
  induction d with
  | zero => intro post a1 a2 a3 a4 a5 a6 _ h; omega
  | succ d ih =>
    intro post a1 a2 a3 a4 a5 a6 ho hm hp
    exact hs d post a1 a2 a3 a4 a5 a6 ho hp (fun post' b1 b2 b3 b4 b5 b6 ho' hm' hp' => ih post' b1 b2 b3 b4 b5 b6 ho' (by omega) hp')
theorem rec_p {σ ρ : Type} (W : Nat → (ρ → Prop) → σ → Prop) (ok : σ → Prop) (μ : σ → Nat) (val : σ → ρ)
    (hs : ∀ d s post, ok s → post (val s) → (∀ s' post', ok s' → μ s' < μ s → post' (val s') → W d post' s') → W (d + 1) post s) :
    ∀ d s post, ok s → μ s < d → post (val s) → W d post s := by
  intro d
  induction d with
  | zero => intro s post _ h; omega
  | succ d ih =>
    intro s post ho hm hp
    exact hs d s post ho hp (fun s' post' ho' hm' hp' => ih s' post' ho' (by omega) hp')
theorem rec_q {σ ρ : Type} (W : Nat → (ρ → Prop) → σ → Prop) (ok : σ → Prop) (μ : σ → Nat) (Q : σ → ρ → Prop)
    (hs : ∀ d s post, ok s → (∀ r, Q s r → post r) → (∀ s' post', ok s' → μ s' < μ s → (∀ r, Q s' r → post' r) → W d post' s') → W (d + 1) post s) :
    ∀ d s post, ok s → μ s < d → (∀ r, Q s r → post r) → W d post s := by
  intro d
  induction d with
  | zero => intro s post _ h; omega
  | succ d ih =>
    intro s post ho hm hp
    exact hs d s post ho hp (fun s' post' ho' hm' hp' => ih s' post' ho' (by omega) hp')
def bx_sum (f : Nat → Int32) : Nat → Int32
  | 0 => 0
  | n + 1 => bx_sum f n + f n
theorem ek_u {A : Prop} {B : Nat → Prop} {k N : Nat} (hk : k < N) (h : B k) : (some k = none → A) ∧ (∀ y : Nat, some k = some y → (y < N ∧ B y)) :=
  ⟨fun z => absurd z (Option.some_ne_none k), fun _ e => (by cases e; exact ⟨hk, h⟩)⟩
theorem ek_nu {A : Prop} {B : Nat → Prop} (h : A) : ((none : Option Nat) = none → A) ∧ (∀ y : Nat, (none : Option Nat) = some y → B y) :=
  ⟨fun _ => h, fun _ e => (by cases e)⟩
theorem ek_if {c d A B : Prop} (e : c ↔ d) (f : d → A) (g : ¬ d → B) : (c → A) ∧ (¬ c → B) :=
  ⟨fun z => f (e.mp z), fun z => g (fun y => z (e.mpr y))⟩
theorem ek_v {α : Sort _} {P : α → Prop} {a b : α} (e : a = b) (h : P b) : P a := e ▸ h
theorem co_some {x : Option Nat} {A : Prop} {B : Nat → Prop} (i : Nat) (h : B i) (hx : x = some i := by rfl) : (x = none → A) ∧ (∀ y : Nat, x = some y → B y) := by
  subst hx
  exact ⟨fun e => (nomatch e), fun y e => Option.some.inj e ▸ h⟩
theorem co_none {x : Option Nat} {A : Prop} {B : Nat → Prop} (h : A) (hx : x = none := by rfl) : (x = none → A) ∧ (∀ y : Nat, x = some y → B y) := by
  subst hx
  exact ⟨fun _ => h, fun y e => (nomatch e)⟩
theorem co_any {x : Option Nat} {A : Prop} {B : Nat → Prop} (hn : x = none → A) (hs : ∀ i : Nat, x = some i → B i) : (x = none → A) ∧ (∀ y : Nat, x = some y → B y) := ⟨hn, hs⟩
theorem co_2 {P : Nat → Prop} (h0 : P 0) (h1 : P 1) {i : Nat} (hi : i < 2) : P i :=
  match i, hi with
  | 0, _ => h0
  | 1, _ => h1
theorem co_3 {P : Nat → Prop} (h0 : P 0) (h1 : P 1) (h2 : P 2) {i : Nat} (hi : i < 3) : P i :=
  match i, hi with
  | 0, _ => h0
  | 1, _ => h1
  | 2, _ => h2
theorem co_4 {P : Nat → Prop} (h0 : P 0) (h1 : P 1) (h2 : P 2) (h3 : P 3) {i : Nat} (hi : i < 4) : P i :=
  match i, hi with
  | 0, _ => h0
  | 1, _ => h1
  | 2, _ => h2
  | 3, _ => h3
theorem co_dec {N : Nat} {P : Nat → Prop} [DecidablePred P] (h : (List.range N).all (fun i => decide (P i)) = true) {i : Nat} (hi : i < N) : P i := by
  have := List.all_eq_true.mp h i (List.mem_range.mpr hi)
  exact of_decide_eq_true this
theorem co_tab {α : Type} {l : List α} {d : α} {P : α → Prop} (h : ∀ a, a ∈ l → P a) {i : Nat} (hi : i < l.length) : P (l.getD i d) := by
  rw [List.getD_eq_getElem?_getD, List.getElem?_eq_getElem hi]
  exact h _ (List.getElem_mem hi)
theorem pk_mu {x : Int32} {L : Nat} (h0 : ¬ x < 0) (h : ¬ nI L ≤ x) (hL : L < 2 ^ 31) : ∃ j : Nat, j < L ∧ x = nI j ∧ x + 1 = nI (j + 1) ∧ x.toNatClampNeg = j ∧ L - (x + 1).toNatClampNeg < L - x.toNatClampNeg := by
  obtain ⟨j, hj, rfl⟩ := nI_of h0
  have hl : j < L := Nat.not_le.mp fun q => h (nI_le q hj)
  refine ⟨j, hl, rfl, nI_1 j, nI_clamp hj, ?_⟩
  rw [nI_1, nI_clamp (by omega), nI_clamp hj]
  omega
theorem op_s {α : Type} {r : Option α} {A : Prop} {B : α → Prop} {y : α} (h : r = some y) (b : B y) : (r = none → A) ∧ ∀ z, r = some z → B z :=
  ⟨fun e => (by rw [h] at e; cases e), fun z e => (by rw [h] at e; cases e; exact b)⟩
def l_holds {α : Type} (a : Nat → Option Nat) (LP : List Nat) (p : Nat → α) (c : Nat) (b : Nat → α) : Prop :=
  ∀ j, j < c → ∃ y, a j = some y ∧ y ∈ LP ∧ p y = b j
theorem l_holds_0 {α : Type} {a : Nat → Option Nat} {LP : List Nat} {p b : Nat → α} : l_holds a LP p 0 b := fun j h => absurd h (Nat.not_lt_zero j)
theorem l_in_new (LP : List Nat) (q : Nat) : q ∈ LP ++ [q] := List.mem_append.mpr (Or.inr (List.mem_singleton.mpr rfl))
def l_sum (b : Nat → Int32) : Nat → Int32
  | 0 => 0
  | k + 1 => l_sum b k + b k
theorem sb_shr0 (x : Int32) : x >>> ((0 : Int32) &&& 31) = x := by
  rw [show ((0 : Int32) &&& 31) = 0 by decide]
  simp
theorem sb_shl0 (x : Int32) : x <<< ((0 : Int32) &&& 31) = x := by
  rw [show ((0 : Int32) &&& 31) = 0 by decide]
  simp
theorem sb_cl0 : (0 : Int32).toNatClampNeg = 0 := by decide
theorem sb_m1 {p : Nat} (h : 0 < p) : nI p + (-1) = nI (p - 1) := by
  obtain ⟨q, rfl⟩ : ∃ q, p = q + 1 := ⟨p - 1, by omega⟩
  exact pk_m1 q
def sb_b (c : Nat) : Int32 := (nI c).toInt8.toInt32
theorem sb_byte : ∀ c, c < 256 → sb_b c &&& 255 = nI c ∧ ((nI c).toUInt32 % 65536).toInt32 = nI c ∧ nI c ≤ 255 := by decide +kernel
def sb_Fit (a : Nat → Int32) : Prop := ∀ j, fits .byte (.int (a j)) = true
def sb_Lat (t : Nat → Nat) (n : Nat) (a : Nat → Int32) : Prop := ∀ j, j < n → t j < 256 ∧ a j = sb_b (t j)
theorem sb_fitB (c : Nat) : fits .byte (.int (sb_b c)) = true := pk_fb _
theorem sb_fit0 : sb_Fit (fun _ => 0) := fun _ => by
  show fits .byte (.int 0) = true
  decide
theorem sb_fitU {a : Nat → Int32} {k : Nat} {x : Int32} (h : sb_Fit a) (hx : fits .byte (.int x) = true) : sb_Fit (upd a k x) := by
  intro j
  by_cases e : j = k
  · subst e
    rw [pk_us]
    exact hx
  · rw [pk_un e]
    exact h j
def sb_cat (t : Nat → Nat) (n : Nat) (s : Nat → Nat) : Nat → Nat := fun j => if j < n then t j else s (j - n)
theorem sb_cat_lo {t s : Nat → Nat} {n j : Nat} (h : j < n) : sb_cat t n s j = t j := if_pos h
theorem sb_cat_hi {t s : Nat → Nat} {n j : Nat} : sb_cat t n s (n + j) = s j := by
  show (if n + j < n then t (n + j) else s (n + j - n)) = s j
  rw [if_neg (by omega), Nat.add_sub_cancel_left]
theorem sb_latPut {t s : Nat → Nat} {n w : Nat} {a a' : Nat → Int32} (h : sb_Lat t n a) (hk : ∀ j, j < n → a' j = a j) (hs : ∀ i, i < w → s i < 256 ∧ a' (n + i) = sb_b (s i)) : sb_Lat (sb_cat t n s) (n + w) a' := by
  intro j hj
  by_cases e : j < n
  · rw [sb_cat_lo e, hk j e]
    exact h j e
  · obtain ⟨i, rfl⟩ : ∃ i, j = n + i := ⟨j - n, by omega⟩
    rw [sb_cat_hi]
    exact hs i (by omega)
theorem sb_latKeep {t : Nat → Nat} {n : Nat} {a a' : Nat → Int32} (h : sb_Lat t n a) (hk : ∀ j, j < n → a' j = a j) : sb_Lat t n a' := fun j hj => by
  rw [hk j hj]
  exact h j hj
def sb_cap (q m : Nat) : Nat := if q ≤ m then m else if 2 * m + 2 < q then q else 2 * m + 2
def sb_Room (q m mc ms : Nat) : Prop := q ≤ m ∨ (1 ≤ mc ∧ sb_cap q m ≤ ms ∧ sb_cap q m ≤ 65536)
theorem sb_cap_ge (q m : Nat) : q ≤ sb_cap q m := by
  unfold sb_cap
  split
  · omega
  · split <;> omega
theorem sb_cap_gem (q m : Nat) : m ≤ sb_cap q m := by
  unfold sb_cap
  split
  · omega
  · split <;> omega
theorem sb_cap_le {q m mc ms : Nat} (hm : m ≤ 65536) (hr : sb_Room q m mc ms) : sb_cap q m ≤ 65536 := by
  rcases hr with h | h
  · rw [sb_cap, if_pos h]
    exact hm
  · exact h.2.2
theorem sb_at {P : Int32 → Prop} {x y : Int32} (e : x = y) (h : P y) : P x := e ▸ h
def sb_dg (w : Nat) : Nat := if w < 10 then 1 else if w < 100 then 2 else if w < 1000 then 3 else if w < 10000 then 4 else if w < 100000 then 5 else if w < 1000000 then 6 else if w < 10000000 then 7 else if w < 100000000 then 8 else if w < 1000000000 then 9 else 10
def sb_dec (v : Nat) : Nat → Nat := fun i => 48 + v / 10 ^ (sb_dg v - 1 - i) % 10
theorem sb_dg_in (w : Nat) : 1 ≤ sb_dg w ∧ sb_dg w ≤ 10 := by
  unfold sb_dg
  constructor <;> (repeat' split) <;> omega
theorem sb_dg100 {w : Nat} (h : 100 ≤ w) (hw : w < 2 ^ 31) : sb_dg w = sb_dg (w / 100) + 2 := by
  rw [sb_dg, sb_dg, if_neg (show ¬ w < 10 by omega), if_neg (show ¬ w < 100 by omega)]
  by_cases h3 : w < 1000
  · rw [if_pos h3, if_pos (show w / 100 < 10 by omega)]
  rw [if_neg h3, if_neg (show ¬ w / 100 < 10 by omega)]
  by_cases h4 : w < 10000
  · rw [if_pos h4, if_pos (show w / 100 < 100 by omega)]
  rw [if_neg h4, if_neg (show ¬ w / 100 < 100 by omega)]
  by_cases h5 : w < 100000
  · rw [if_pos h5, if_pos (show w / 100 < 1000 by omega)]
  rw [if_neg h5, if_neg (show ¬ w / 100 < 1000 by omega)]
  by_cases h6 : w < 1000000
  · rw [if_pos h6, if_pos (show w / 100 < 10000 by omega)]
  rw [if_neg h6, if_neg (show ¬ w / 100 < 10000 by omega)]
  by_cases h7 : w < 10000000
  · rw [if_pos h7, if_pos (show w / 100 < 100000 by omega)]
  rw [if_neg h7, if_neg (show ¬ w / 100 < 100000 by omega)]
  by_cases h8 : w < 100000000
  · rw [if_pos h8, if_pos (show w / 100 < 1000000 by omega)]
  rw [if_neg h8, if_neg (show ¬ w / 100 < 1000000 by omega)]
  by_cases h9 : w < 1000000000
  · rw [if_pos h9, if_pos (show w / 100 < 10000000 by omega)]
  rw [if_neg h9, if_neg (show ¬ w / 100 < 10000000 by omega)]
  rw [if_pos (show w / 100 < 100000000 by omega)]
theorem sb_negT {w : Nat} (h : w < 2 ^ 31) : (-nI w).toInt = -(w : Int) := by
  rw [Int32.toInt_neg, nI_toInt h]
  exact Int.bmod_eq_of_le (by omega) (by omega)
theorem sb_nle {a b : Nat} (ha : a < 2 ^ 31) (hb : b < 2 ^ 31) : -nI a ≤ -nI b ↔ b ≤ a := by
  rw [Int32.le_iff_toInt_le, sb_negT ha, sb_negT hb]
  omega
theorem sb_nlt {a b : Nat} (ha : a < 2 ^ 31) (hb : b < 2 ^ 31) : -nI a < -nI b ↔ b < a := by
  rw [Int32.lt_iff_toInt_lt, sb_negT ha, sb_negT hb]
  omega
theorem sb_cmp {A B : Prop} {x : Int32} (v c : Nat) (f : c ≤ v → A) (g : v < c → B) (hv : v < 2 ^ 31) (hx : x = -nI c := by rfl) (hc : c < 2 ^ 31 := by omega) : (-nI v ≤ x → A) ∧ (¬ -nI v ≤ x → B) := by
  subst hx
  rw [sb_nle hv hc]
  exact ⟨f, fun z => g (by omega)⟩
theorem sb_ndiv {w : Nat} (hw : w < 2 ^ 31) : (-nI w) / 100 = -nI (w / 100) := by
  apply Int32.toInt_inj.mp
  have h100 : (100 : Int32).toInt = 100 := by decide
  rw [Int32.toInt_div, sb_negT hw, h100, sb_negT (by omega), Int.neg_tdiv, Int.tdiv_eq_ediv_of_nonneg (by omega), Int.bmod_eq_of_le (by omega) (by omega)]
  omega
theorem sb_nrem {w : Nat} (hw : w < 2 ^ 31) : (-nI (w / 100)) * 100 - (-nI w) = nI (w % 100) := by
  have h := pk_rem (a := w) (d := 100) hw (by decide) (by decide)
  rw [pk_div hw (by decide) (by decide)] at h
  rw [← h]
  show (-nI (w / 100)) * nI 100 - (-nI w) = nI w - nI (w / 100) * nI 100
  rw [Int32.neg_mul, Int32.sub_neg, Int32.add_comm, ← Int32.sub_eq_add_neg]
end
section
/-! rows on bits, shifts and unsigned numbers, to paste: each family out of a closed proof of our own, whole with what it rests on; each by itself clean at Lean in its own claim (generation 39, form 5). Take a family whole -/
/-! ===== Int32 by its bits: bt x i ===== -/
def bt (x : Int32) (i : Nat) : Bool := x.toBitVec.getLsbD i
theorem b_ext {x y : Int32} (h : ∀ i, i < 32 → bt x i = bt y i) : x = y := Int32.toBitVec_inj.mp (BitVec.eq_of_getLsbD_eq (fun i hi => h i hi))
theorem b_or (x y : Int32) (i : Nat) : bt (x ||| y) i = (bt x i || bt y i) := by unfold bt; rw [Int32.toBitVec_or, BitVec.getLsbD_or]
theorem b_and (x y : Int32) (i : Nat) : bt (x &&& y) i = (bt x i && bt y i) := by unfold bt; rw [Int32.toBitVec_and, BitVec.getLsbD_and]
theorem b_xor (x y : Int32) (i : Nat) : bt (x ^^^ y) i = (bt x i ^^ bt y i) := by unfold bt; rw [Int32.toBitVec_xor, BitVec.getLsbD_xor]
theorem b_big {x : Int32} {i : Nat} (h : 32 ≤ i) : bt x i = false := BitVec.getLsbD_of_ge _ _ h
theorem b_255 (i : Nat) : bt 255 i = decide (i < 8) := by
  rcases Nat.lt_or_ge i 32 with h | h
  · exact (by decide +kernel : ∀ i, i < 32 → bt 255 i = decide (i < 8)) i h
  · rw [b_big h, decide_eq_false (by omega)]
theorem b_65535 (i : Nat) : bt 65535 i = decide (i < 16) := by
  rcases Nat.lt_or_ge i 32 with h | h
  · exact (by decide +kernel : ∀ i, i < 32 → bt 65535 i = decide (i < 16)) i h
  · rw [b_big h, decide_eq_false (by omega)]
theorem b_m1 : ∀ i, i < 32 → bt (-1) i = true := by decide +kernel
theorem b_0 (i : Nat) : bt 0 i = false := BitVec.getLsbD_zero
theorem s_l : ∀ n, n < 32 → ((nI n &&& 31).toBitVec.smod 32).toNat = n := by decide +kernel
theorem s_u : ∀ n, n < 32 → (((nI n).toUInt32 &&& Int32.toUInt32 31).toBitVec % 32).toNat = n := by decide +kernel
theorem b_shl (n : Nat) (hn : n < 32) (x : Int32) {i : Nat} (hi : i < 32) : bt (x <<< (nI n &&& 31)) i = (decide (n ≤ i) && bt x (i - n)) := by
  unfold bt
  rw [Int32.toBitVec_shiftLeft]
  show (x.toBitVec <<< ((nI n &&& 31).toBitVec.smod 32).toNat).getLsbD i = _
  rw [s_l n hn, BitVec.getLsbD_shiftLeft]
  rcases Nat.lt_or_ge i n with h | h
  · simp [h, Nat.not_le.mpr h]
  · simp [hi, h, Nat.not_lt.mpr h]
theorem b_ushr (n : Nat) (hn : n < 32) (x : Int32) (i : Nat) : bt ((x.toUInt32 >>> ((nI n).toUInt32 &&& Int32.toUInt32 31)).toInt32) i = bt x (n + i) := by
  show (x.toUInt32 >>> ((nI n).toUInt32 &&& Int32.toUInt32 31)).toBitVec.getLsbD i = x.toUInt32.toBitVec.getLsbD (n + i)
  rw [UInt32.toBitVec_shiftRight]
  show (x.toUInt32.toBitVec >>> (((nI n).toUInt32 &&& Int32.toUInt32 31).toBitVec % 32).toNat).getLsbD i = _
  rw [s_u n hn, BitVec.getLsbD_ushiftRight]
theorem b_sshr (n : Nat) (hn : n < 32) (x : Int32) {i : Nat} (hi : i < 32) : bt (x >>> (nI n &&& 31)) i = if n + i < 32 then bt x (n + i) else bt x 31 := by
  unfold bt
  rw [Int32.toBitVec_shiftRight]
  show (x.toBitVec.sshiftRight ((nI n &&& 31).toBitVec.smod 32).toNat).getLsbD i = _
  rw [s_l n hn, BitVec.getLsbD_sshiftRight, BitVec.msb_eq_getLsbD_last]
  simp [hi]
theorem b_shl8 (x : Int32) {i : Nat} (hi : i < 32) : bt (x <<< ((8 : Int32) &&& 31)) i = (decide (8 ≤ i) && bt x (i - 8)) := b_shl 8 (by omega) x hi
theorem b_shl16 (x : Int32) {i : Nat} (hi : i < 32) : bt (x <<< ((16 : Int32) &&& 31)) i = (decide (16 ≤ i) && bt x (i - 16)) := b_shl 16 (by omega) x hi
theorem b_shl24 (x : Int32) {i : Nat} (hi : i < 32) : bt (x <<< ((24 : Int32) &&& 31)) i = (decide (24 ≤ i) && bt x (i - 24)) := b_shl 24 (by omega) x hi
theorem b_sshr8 (x : Int32) {i : Nat} (hi : i < 32) : bt (x >>> ((8 : Int32) &&& 31)) i = if 8 + i < 32 then bt x (8 + i) else bt x 31 := b_sshr 8 (by omega) x hi
/-! ===== nI under and, xor, >>>, one bit, 65535 ===== -/
theorem nx_and (a b : Nat) : nI a &&& nI b = nI (a &&& b) := by
  apply Int32.toBitVec_inj.1
  show BitVec.ofNat 32 a &&& BitVec.ofNat 32 b = BitVec.ofNat 32 (a &&& b)
  apply BitVec.eq_of_getLsbD_eq
  intro i hi
  simp [hi]
theorem nx_xor (a b : Nat) : nI a ^^^ nI b = nI (a ^^^ b) := by
  apply Int32.toBitVec_inj.1
  show BitVec.ofNat 32 a ^^^ BitVec.ofNat 32 b = BitVec.ofNat 32 (a ^^^ b)
  apply BitVec.eq_of_getLsbD_eq
  intro i hi
  simp [hi]
theorem nx_cnt : ∀ j : Fin 32, (UInt32.ofNat j.val &&& Int32.toUInt32 31).toNat % 32 = j.val := by decide +kernel
theorem nx_ush {k j : Nat} (hk : k < 65536) (hj : j < 32) : ((nI k).toUInt32 >>> ((nI j).toUInt32 &&& Int32.toUInt32 31)).toInt32 = nI (k >>> j) := by
  have hs : k >>> j ≤ k := by
    rw [Nat.shiftRight_eq_div_pow]
    exact Nat.div_le_self _ _
  have e2 : UInt32.ofNat k >>> (UInt32.ofNat j &&& Int32.toUInt32 31) = UInt32.ofNat (k >>> j) := by
    apply UInt32.toNat_inj.1
    have h1 : (UInt32.ofNat k).toNat = k := Nat.mod_eq_of_lt (by omega)
    have h2 : (UInt32.ofNat (k >>> j)).toNat = k >>> j := Nat.mod_eq_of_lt (by omega)
    rw [UInt32.toNat_shiftRight, nx_cnt ⟨j, hj⟩, h1, h2]
  show (UInt32.ofNat k >>> (UInt32.ofNat j &&& Int32.toUInt32 31)).toInt32 = _
  rw [e2]
  rfl
theorem nx_bit {k j : Nat} (hk : k < 65536) (hj : j < 16) : (((nI k).toUInt32 >>> ((nI j).toUInt32 &&& Int32.toUInt32 31)).toInt32 &&& 1) = 0 ↔ k.testBit j = false := by
  rw [nx_ush hk (by omega)]
  show nI (k >>> j) &&& nI 1 = 0 ↔ _
  rw [nx_and, Nat.and_one_is_mod, ← nI_0, nI_eq (by omega) (by omega), Nat.testBit_eq_decide_div_mod_eq, Nat.shiftRight_eq_div_pow, decide_eq_false_iff_not]
  generalize k / 2 ^ j = z
  omega
theorem nx_mod (k : Nat) : nI k &&& 65535 = nI (k % 65536) := by
  show nI k &&& nI 65535 = _
  rw [nx_and, show (65535 : Nat) = 2 ^ 16 - 1 from rfl, Nat.and_two_pow_sub_one_eq_mod]
theorem nx_m16 {k : Nat} (h : k < 65536) : nI k &&& 65535 = nI k := by rw [nx_mod, Nat.mod_eq_of_lt h]
theorem nx_mask (x : Int32) : ∃ k, k < 65536 ∧ x &&& 65535 = nI k := by
  have e : x = nI x.toBitVec.toNat := by
    apply Int32.toBitVec_inj.1
    show x.toBitVec = BitVec.ofNat 32 x.toBitVec.toNat
    simp
  refine ⟨x.toBitVec.toNat % 65536, Nat.mod_lt _ (by omega), ?_⟩
  rw [← nx_mod, ← e]
/-! ===== Int32 as a set of bits: test, set ===== -/
def nf_M (m : Int32) : Nat := 4294967296 - m.toBitVec.toNat
theorem nf_sh : ∀ l, l < 32 → ((1 : Int32) <<< (nI l &&& 31)).toBitVec = BitVec.twoPow 32 l := by decide +kernel
theorem nf_sl : ∀ l, l < 32 → (((nI l).toUInt32 &&& Int32.toUInt32 31).toBitVec % 32).toNat = l := by decide +kernel
theorem nf_tp : ∀ l, l < 32 → BitVec.twoPow 32 l ≠ 0#32 := by decide +kernel
theorem nf_bit (m : Int32) (l : Nat) (hl : l < 32) : ((m.toUInt32 >>> ((nI l).toUInt32 &&& Int32.toUInt32 31)).toInt32 &&& 1) = 0 ↔ (m &&& ((1 : Int32) <<< (nI l &&& 31))) = 0 := by
  have e : ((m.toUInt32 >>> ((nI l).toUInt32 &&& Int32.toUInt32 31)).toInt32).toBitVec = m.toBitVec >>> l := by
    show m.toBitVec >>> (((nI l).toUInt32 &&& Int32.toUInt32 31).toBitVec % 32) = m.toBitVec >>> l
    rw [BitVec.ushiftRight_eq', nf_sl l hl]
  rw [← Int32.toBitVec_inj, ← Int32.toBitVec_inj, Int32.toBitVec_and, Int32.toBitVec_and, nf_sh l hl, e, BitVec.and_twoPow]
  show (m.toBitVec >>> l &&& 1#32) = 0#32 ↔ _ = 0#32
  rw [BitVec.and_one_eq_setWidth_ofBool_getLsbD, BitVec.getLsbD_ushiftRight, Nat.add_zero]
  cases hb : m.toBitVec.getLsbD l
  · exact ⟨fun _ => by simp, fun _ => by decide⟩
  · exact ⟨fun z => absurd z (by decide), fun z => absurd ((if_pos rfl).symm.trans z) (nf_tp l hl)⟩
theorem nf_gr (m k : Int32) (h : m &&& k = 0) (hk : k ≠ 0) : nf_M (m ||| k) < nf_M m := by
  have hm := m.toBitVec.isLt
  have hm' := (m ||| k).toBitVec.isLt
  have h1 : m.toBitVec.toNat ≤ (m ||| k).toBitVec.toNat := by
    rw [Int32.toBitVec_or, BitVec.toNat_or]
    exact Nat.left_le_or
  have h2 : m.toBitVec.toNat ≠ (m ||| k).toBitVec.toNat := by
    intro e
    have e2 : m = m ||| k := Int32.toBitVec_inj.mp (BitVec.eq_of_toNat_eq e)
    apply hk
    apply Int32.toBitVec_inj.mp
    show k.toBitVec = 0#32
    apply BitVec.eq_of_getLsbD_eq
    intro i hi
    have a : m.toBitVec.getLsbD i = (m.toBitVec.getLsbD i || k.toBitVec.getLsbD i) := by rw [← BitVec.getLsbD_or, ← Int32.toBitVec_or, ← e2]
    have b : (m.toBitVec.getLsbD i && k.toBitVec.getLsbD i) = false := by
      rw [← BitVec.getLsbD_and, ← Int32.toBitVec_and, h]
      exact BitVec.getLsbD_zero
    rw [BitVec.getLsbD_zero]
    revert a b
    cases m.toBitVec.getLsbD i <;> cases k.toBitVec.getLsbD i <;> simp
  unfold nf_M
  omega
/-! ===== a byte read unsigned ===== -/
theorem bp_b (x : Int32) : x.toInt8.toInt32 &&& 255 = x &&& 255 := by
  apply Int32.toBitVec_inj.mp
  rw [Int32.toBitVec_and, Int32.toBitVec_and, Int8.toBitVec_toInt32, Int32.toBitVec_toInt8]
  apply BitVec.eq_of_getLsbD_eq
  intro i hi
  rw [BitVec.getLsbD_and, BitVec.getLsbD_and]
  have hm : ∀ i < 32, 8 ≤ i → (255 : Int32).toBitVec.getLsbD i = false := by decide
  rcases Nat.lt_or_ge i 8 with z | z
  · rw [BitVec.getLsbD_signExtend, BitVec.getLsbD_signExtend, if_pos z, if_pos hi]
    simp only [z, hi, decide_true, Bool.true_and]
  · rw [hm i hi z]; simp
/-! ===== the char cast and 65535 ===== -/
theorem em_w (v : Int32) : ∃ w : Nat, w < 65536 ∧ (v.toUInt32 % 65536).toInt32 = nI w ∧ v &&& 65535 = nI w := by
  have hr := lw_u16_r v
  have h0 : (0 : Int32).toInt = 0 := by decide
  obtain ⟨w, h1, h2⟩ := nI_of (x := lw_u16 v) (by rw [Int32.lt_iff_toInt_lt]; omega)
  have h3 : (v.toUInt32 % 65536).toInt32 = nI w := h2
  rw [h2, nI_toInt h1] at hr
  exact ⟨w, by omega, h3, by rw [← lg_i2c_mask, ← lg_i2c_nf, h3]⟩
/-! ===== Int64 as a set of bits: test, set, clear ===== -/
theorem ts_nf {x : Bool} (h : ¬ x = false) : x = true := by cases x <;> first | rfl | exact absurd rfl h
theorem ts_nt {x : Bool} (h : ¬ x = true) : x = false := by cases x <;> first | rfl | exact absurd rfl h
theorem ts_bit {w : Int64} {s : UInt64} {j : Nat} (hj : j < 64) (hs : s.toNat = j) : ((w.toUInt64 >>> s).toInt64 &&& 1) = 0 ↔ w.toBitVec.getLsbD j = false := by
  have e : (w.toUInt64 >>> s).toInt64.toBitVec = w.toBitVec >>> j := by
    apply BitVec.eq_of_toNat_eq
    show (w.toUInt64 >>> s).toNat = _
    rw [UInt64.toNat_shiftRight, hs, Nat.mod_eq_of_lt hj, BitVec.toNat_ushiftRight]
    rfl
  rw [← Int64.toBitVec_inj, Int64.toBitVec_and, e]
  show w.toBitVec >>> j &&& 1#64 = 0#64 ↔ _
  constructor
  · intro h
    have t := congrArg (fun x => x.getLsbD 0) h
    simpa using t
  · intro h
    apply BitVec.eq_of_getLsbD_eq
    intro i hi
    cases i with
    | zero => simp [h]
    | succ i => simp
theorem ts_or {w m : Int64} {j : Nat} (hj : j < 64) (hm : m.toBitVec = BitVec.twoPow 64 j) : (w ||| m) = w ↔ w.toBitVec.getLsbD j = true := by
  rw [← Int64.toBitVec_inj, Int64.toBitVec_or, hm]
  constructor
  · intro h
    have t := congrArg (fun x => x.getLsbD j) h
    simp only [BitVec.getLsbD_or, BitVec.getLsbD_twoPow] at t
    simpa [hj] using t.symm
  · intro h
    apply BitVec.eq_of_getLsbD_eq
    intro i hi
    rw [BitVec.getLsbD_or, BitVec.getLsbD_twoPow]
    by_cases e : j = i
    · subst e; rw [h, Bool.true_or]
    · simp [e]
theorem ts_and {w m : Int64} {j : Nat} (hj : j < 64) (hm : m.toBitVec = BitVec.twoPow 64 j) : (w &&& (m ^^^ (-1))) = w ↔ w.toBitVec.getLsbD j = false := by
  have ha : (-1 : Int64).toBitVec = BitVec.allOnes 64 := by decide
  rw [← Int64.toBitVec_inj, Int64.toBitVec_and, Int64.toBitVec_xor, hm, ha]
  constructor
  · intro h
    have t := congrArg (fun x => x.getLsbD j) h
    simp only [BitVec.getLsbD_and, BitVec.getLsbD_xor, BitVec.getLsbD_twoPow, BitVec.getLsbD_allOnes] at t
    simpa [hj] using t.symm
  · intro h
    apply BitVec.eq_of_getLsbD_eq
    intro i hi
    rw [BitVec.getLsbD_and, BitVec.getLsbD_xor, BitVec.getLsbD_twoPow, BitVec.getLsbD_allOnes]
    by_cases e : j = i
    · subst e; rw [h, Bool.false_and]
    · simp [e, hi]
/-! ===== lN n to 2^64: shifts, and, or, masks, one bit ===== -/
theorem wb_tb (n : Nat) : (lN n).toBitVec = BitVec.ofNat 64 n := rfl
theorem wb_inj {a b : Int64} (h : a.toBitVec = b.toBitVec) : a = b := Int64.toBitVec_inj.mp h
theorem wb_tn {n : Nat} (h : n < 2 ^ 64) : (lN n).toBitVec.toNat = n := by rw [wb_tb, BitVec.toNat_ofNat, Nat.mod_eq_of_lt h]
theorem wb_of (x : Int64) : ∃ n, n < 2 ^ 64 ∧ x = lN n := ⟨x.toBitVec.toNat, x.toBitVec.isLt, wb_inj (by rw [wb_tb]; simp)⟩
theorem wb_of32 (x : Int32) : ∃ n, n < 2 ^ 32 ∧ x = nI n := ⟨x.toBitVec.toNat, x.toBitVec.isLt, Int32.toBitVec_inj.mp (by show _ = BitVec.ofNat 32 _; simp)⟩
theorem wb_c : ∀ k, k < 64 → ((nI k).toInt64 &&& 63) = lN k := by decide +kernel
theorem wb_cu : ∀ k, k < 64 → ((nI k).toInt64.toUInt64 &&& Int64.toUInt64 63) = UInt64.ofNat k := by decide +kernel
theorem wb_sm : ∀ k, k < 64 → (BitVec.ofNat 64 k).smod 64 = BitVec.ofNat 64 k := by decide +kernel
theorem wb_pw {a b : Nat} (h : a ≤ b) : 2 ^ b = 2 ^ a * 2 ^ (b - a) := by rw [← Nat.pow_add]; congr 1; omega
theorem wb_lt2 {a b : Nat} (h : a < b) : 2 ^ a < 2 ^ b := Nat.pow_lt_pow_right (by decide) h
theorem wb_mod (n : Nat) : lN n = lN (n % 2 ^ 64) := wb_inj (by rw [wb_tb, wb_tb]; apply BitVec.eq_of_toNat_eq; rw [BitVec.toNat_ofNat, BitVec.toNat_ofNat, Nat.mod_mod])
theorem wb_shr {n k : Nat} (hn : n < 2 ^ 64) (hk : k < 64) : ((lN n).toUInt64 >>> ((nI k).toInt64.toUInt64 &&& Int64.toUInt64 63)).toInt64 = lN (n / 2 ^ k) := by
  rw [wb_cu k hk]
  apply wb_inj
  apply BitVec.eq_of_toNat_eq
  show ((lN n).toUInt64 >>> UInt64.ofNat k).toNat = (BitVec.ofNat 64 _).toNat
  have h1 : (UInt64.ofNat k).toNat = k := by
    show (BitVec.ofNat 64 k).toNat = k
    rw [BitVec.toNat_ofNat, Nat.mod_eq_of_lt (by omega)]
  have h2 : (lN n).toUInt64.toNat = n := wb_tn hn
  rw [UInt64.toNat_shiftRight, h1, h2, Nat.mod_eq_of_lt hk, Nat.shiftRight_eq_div_pow, BitVec.toNat_ofNat, Nat.mod_eq_of_lt (Nat.lt_of_le_of_lt (Nat.div_le_self _ _) hn)]
theorem wb_shl (n : Nat) {k : Nat} (hk : k < 64) : lN n <<< ((nI k).toInt64 &&& 63) = lN (n * 2 ^ k) := by
  rw [wb_c k hk]
  apply wb_inj
  rw [Int64.toBitVec_shiftLeft, wb_tb, wb_tb, wb_tb, wb_sm k hk]
  apply BitVec.eq_of_toNat_eq
  rw [BitVec.shiftLeft_eq', BitVec.toNat_shiftLeft, BitVec.toNat_ofNat, BitVec.toNat_ofNat, BitVec.toNat_ofNat, Nat.mod_eq_of_lt (show k < 2 ^ 64 by omega), Nat.shiftLeft_eq, Nat.mul_mod, Nat.mod_mod, ← Nat.mul_mod]
theorem wb_and {a b : Nat} (ha : a < 2 ^ 64) (hb : b < 2 ^ 64) : lN a &&& lN b = lN (a &&& b) := by
  apply wb_inj
  rw [Int64.toBitVec_and, wb_tb, wb_tb, wb_tb]
  apply BitVec.eq_of_toNat_eq
  rw [BitVec.toNat_and, BitVec.toNat_ofNat, BitVec.toNat_ofNat, BitVec.toNat_ofNat, Nat.mod_eq_of_lt ha, Nat.mod_eq_of_lt hb, Nat.mod_eq_of_lt (Nat.and_lt_two_pow _ hb)]
theorem wb_or {a b : Nat} (ha : a < 2 ^ 64) (hb : b < 2 ^ 64) : lN a ||| lN b = lN (a ||| b) := by
  apply wb_inj
  rw [Int64.toBitVec_or, wb_tb, wb_tb, wb_tb]
  apply BitVec.eq_of_toNat_eq
  rw [BitVec.toNat_or, BitVec.toNat_ofNat, BitVec.toNat_ofNat, BitVec.toNat_ofNat, Nat.mod_eq_of_lt ha, Nat.mod_eq_of_lt hb, Nat.mod_eq_of_lt (Nat.or_lt_two_pow ha hb)]
theorem wb_mask {n k : Nat} (hn : n < 2 ^ 64) (hk : k < 64) : lN n &&& lN (2 ^ k - 1) = lN (n % 2 ^ k) := by
  rw [wb_and hn (by have := wb_lt2 hk; omega), Nat.and_two_pow_sub_one_eq_mod]
theorem wb_a1 {n : Nat} (hn : n < 2 ^ 64) : lN n &&& 1 = lN (n % 2) := wb_mask (k := 1) hn (by decide)
theorem wb_bit {n k : Nat} (hn : n < 2 ^ 64) (hk : k < 64) : ((lN n).toUInt64 >>> ((nI k).toInt64.toUInt64 &&& Int64.toUInt64 63)).toInt64 &&& 1 = lN (n / 2 ^ k % 2) := by
  rw [wb_shr hn hk, wb_a1 (Nat.lt_of_le_of_lt (Nat.div_le_self _ _) hn)]
theorem wb_xor {q k : Nat} (hk : k < 63) (h : 2 ^ k ≤ q) (h2 : q < 2 ^ (k + 1)) : lN q ^^^ lN (2 ^ k) = lN (q - 2 ^ k) := by
  obtain ⟨r, rfl⟩ : ∃ r, q = 2 ^ k + r := ⟨q - 2 ^ k, by omega⟩
  have hr : r < 2 ^ k := by rw [Nat.pow_succ] at h2; omega
  have hx : (2 ^ k + r) ^^^ 2 ^ k = r := by
    apply Nat.eq_of_testBit_eq
    intro i
    rw [Nat.testBit_xor, Nat.testBit_two_pow]
    rcases Nat.lt_trichotomy i k with h | h | h
    · rw [Nat.testBit_two_pow_add_gt h]
      simp [show ¬ k = i by omega]
    · subst h
      rw [Nat.testBit_two_pow_add_eq]
      simp
    · have a1 : 2 ^ (k + 1) ≤ 2 ^ i := Nat.pow_le_pow_right (by decide) h
      rw [Nat.testBit_lt_two_pow (show 2 ^ k + r < 2 ^ i by omega), Nat.testBit_lt_two_pow (show r < 2 ^ i by omega)]
      simp [show ¬ k = i by omega]
  have b1 := wb_lt2 (show k + 1 < 64 by omega)
  have b2 := wb_lt2 (show k < 64 by omega)
  apply wb_inj
  rw [Int64.toBitVec_xor, wb_tb, wb_tb, wb_tb]
  apply BitVec.eq_of_toNat_eq
  rw [BitVec.toNat_xor, BitVec.toNat_ofNat, BitVec.toNat_ofNat, BitVec.toNat_ofNat, Nat.mod_eq_of_lt (by omega : 2 ^ k + r < 2 ^ 64), Nat.mod_eq_of_lt b2, hx, Nat.add_sub_cancel_left, Nat.mod_eq_of_lt (by omega)]
/-! ===== lN: masks, 'or' of parts that don't overlap is a sum ===== -/
theorem u_tn {n : Nat} (h : n < 2 ^ 64) : (UInt64.ofNat n).toNat = n := Nat.mod_eq_of_lt h
theorem g_and {a b c : Nat} (ha : a < 2 ^ 64) (hb : b < 2 ^ 64) (hc : a &&& b = c) : lN a &&& lN b = lN c := by
  subst hc
  have h : UInt64.ofNat a &&& UInt64.ofNat b = UInt64.ofNat (a &&& b) := UInt64.toNat_inj.mp (by rw [UInt64.toNat_and, u_tn ha, u_tn hb, u_tn (Nat.and_lt_two_pow a hb)])
  have h2 := congrArg UInt64.toInt64 h
  exact h2
theorem g_and1 {a : Nat} (ha : a < 2 ^ 64) : lN a &&& 1 = lN (a % 2) := g_and (b := 1) ha (by decide) (Nat.and_two_pow_sub_one_eq_mod a 1)
theorem g_mask {a s p : Nat} (hp : 2 ^ s = p) (hs : s < 64) (ha : a < 2 ^ 64) : lN a &&& lN (p - 1) = lN (a % p) := by
  subst hp
  have := Nat.pow_lt_pow_right (show 1 < 2 by decide) hs
  exact g_and ha (by omega) (Nat.and_two_pow_sub_one_eq_mod a s)
theorem g_or {k p a b : Nat} (hp : 2 ^ k = p) (ha : a < p) (h : b * p + a < 2 ^ 64) : lN (b * p) ||| lN a = lN (b * p + a) := by
  subst hp
  have h1 : b * 2 ^ k ||| a = b * 2 ^ k + a := by rw [← Nat.shiftLeft_eq, Nat.shiftLeft_add_eq_or_of_lt ha]
  have h3 : UInt64.ofNat (b * 2 ^ k) ||| UInt64.ofNat a = UInt64.ofNat (b * 2 ^ k + a) := UInt64.toNat_inj.mp (by rw [UInt64.toNat_or, u_tn (by omega), u_tn (by omega), u_tn h, h1])
  have h2 := congrArg UInt64.toInt64 h3
  exact h2
theorem g_or' {k p a b : Nat} (hp : 2 ^ k = p) (ha : a < p) (h : a + b * p < 2 ^ 64) : lN a ||| lN (b * p) = lN (a + b * p) := by
  rw [Int64.or_comm, g_or hp ha (by omega), Nat.add_comm]
theorem g_ushr {a k p : Nat} {y : UInt64} (hy : y = UInt64.ofNat k) (hk : k < 64) (hp : 2 ^ k = p) (ha : a < 2 ^ 64) : ((lN a).toUInt64 >>> y).toInt64 = lN (a / p) := by
  subst hy hp
  have h : UInt64.ofNat a >>> UInt64.ofNat k = UInt64.ofNat (a / 2 ^ k) := UInt64.toNat_inj.mp (by rw [UInt64.toNat_shiftRight, u_tn ha, u_tn (by omega), u_tn (Nat.lt_of_le_of_lt (Nat.div_le_self _ _) ha), Nat.mod_eq_of_lt hk, Nat.shiftRight_eq_div_pow])
  have h2 := congrArg UInt64.toInt64 h
  exact h2
theorem g_shl {a k p : Nat} {y : Int64} (hy : y.toBitVec.smod 64 = BitVec.ofNat 64 k) (hk : k < 64) (hp : 2 ^ k = p) (ha : a < 2 ^ 64) : lN a <<< y = lN (a * p) := by
  subst hp
  apply Int64.toBitVec_inj.mp
  rw [Int64.toBitVec_shiftLeft, hy]
  apply BitVec.eq_of_toNat_eq
  have hb : (lN a).toBitVec.toNat = a := Nat.mod_eq_of_lt ha
  have hk' : (BitVec.ofNat 64 k).toNat = k := Nat.mod_eq_of_lt (by omega)
  have h : ((lN a).toBitVec <<< BitVec.ofNat 64 k).toNat = (a * 2 ^ k) % 2 ^ 64 := by simp only [BitVec.shiftLeft_eq', BitVec.toNat_shiftLeft, hb, hk', Nat.shiftLeft_eq]
  exact h
/-! ===== lN to 2^62 under >> and >>> ===== -/
theorem pf_lI {a : Nat} (h : a < 2 ^ 63) : (lN a).toInt = (a : Int) := lg_ofNat_toInt h
theorem pf_shr {a d : Nat} {D : Int64} (hD : (D.toBitVec.smod 64).toNat = d) (h : a < 2 ^ 62) : lN a >>> D = lN (a / 2 ^ d) := by
  have hd : a / 2 ^ d ≤ a := Nat.div_le_self _ _
  apply Int64.toInt_inj.mp
  have e : (lN a >>> D).toInt = (lN a).toInt >>> d := by
    rw [← hD]
    exact BitVec.toInt_sshiftRight ..
  rw [e, Int.shiftRight_eq_div_pow, pf_lI (by omega), pf_lI (by omega)]
  rfl
theorem pf_ushr {a d : Nat} {D : UInt64} (hD : D.toNat % 64 = d) (h : a < 2 ^ 62) : ((lN a).toUInt64 >>> D).toInt64 = lN (a / 2 ^ d) := by
  have hd : a / 2 ^ d ≤ a := Nat.div_le_self _ _
  have e : (lN a).toUInt64 >>> D = UInt64.ofNat (a / 2 ^ d) := UInt64.toNat_inj.mp (by
    rw [UInt64.toNat_shiftRight, hD, Nat.shiftRight_eq_div_pow, UInt64.toNat_ofNat']
    show (UInt64.ofNat a).toNat / 2 ^ d = _
    rw [UInt64.toNat_ofNat', Nat.mod_eq_of_lt (by omega), Nat.mod_eq_of_lt (by omega)])
  rw [e]
  rfl
theorem pf_andw (x : Int64) : ∃ m, m < 2 ^ 32 ∧ x &&& 4294967295 = lN m := ⟨x.toBitVec.toNat % 2 ^ 32, Nat.mod_lt _ (by decide), Int64.toBitVec_inj.mp (BitVec.eq_of_toNat_eq (by
  show (x.toBitVec &&& 4294967295#64).toNat = (BitVec.ofNat 64 (x.toBitVec.toNat % 2 ^ 32)).toNat
  rw [BitVec.toNat_and, show (4294967295#64).toNat = 2 ^ 32 - 1 from by decide, Nat.and_two_pow_sub_one_eq_mod, BitVec.toNat_ofNat]
  omega))⟩
/-! ===== Int64 as an unsigned number: uN x ===== -/
def uN (x : Int64) : Nat := x.toUInt64.toNat
theorem uN_lt (x : Int64) : uN x < 18446744073709551616 := x.toUInt64.toNat_lt
theorem uN_inj {x y : Int64} (h : uN x = uN y) : x = y := congrArg UInt64.toInt64 (UInt64.toNat_inj.mp h)
theorem uN_add (x y : Int64) : uN (x + y) = (uN x + uN y) % 18446744073709551616 := by
  show (x.toUInt64 + y.toUInt64).toNat = _
  exact UInt64.toNat_add _ _
theorem uN_mul (x y : Int64) : uN (x * y) = (uN x * uN y) % 18446744073709551616 := by
  show (x.toUInt64 * y.toUInt64).toNat = _
  exact UInt64.toNat_mul _ _
theorem uN_shl (x : Int64) : uN (x <<< ((1 : Int32).toInt64 &&& 63)) = (2 * uN x) % 18446744073709551616 := by
  have h : (((1 : Int32).toInt64 &&& 63).toBitVec.smod 64).toNat = 1 := by decide
  show (x.toBitVec <<< (((1 : Int32).toInt64 &&& 63).toBitVec.smod 64).toNat).toNat = _
  rw [h, BitVec.toNat_shiftLeft, Nat.shiftLeft_eq, Nat.mul_comm]
  rfl
theorem uN_shr (x : Int64) (s : UInt64) : uN (x.toUInt64 >>> s).toInt64 = uN x / 2 ^ (s.toNat % 64) := by
  show (x.toUInt64 >>> s).toNat = _
  rw [UInt64.toNat_shiftRight, Nat.shiftRight_eq_div_pow]
  rfl
theorem uN_s32 (x : Int64) : uN (x.toUInt64 >>> ((32 : Int32).toInt64.toUInt64 &&& Int64.toUInt64 63)).toInt64 = uN x / 4294967296 := by
  have h : ((32 : Int32).toInt64.toUInt64 &&& Int64.toUInt64 63).toNat % 64 = 32 := by decide
  rw [uN_shr, h]
theorem uN_s63 (x : Int64) : uN (x.toUInt64 >>> ((63 : Int32).toInt64.toUInt64 &&& Int64.toUInt64 63)).toInt64 = uN x / 9223372036854775808 := by
  have h : ((63 : Int32).toInt64.toUInt64 &&& Int64.toUInt64 63).toNat % 64 = 63 := by decide
  rw [uN_shr, h]
theorem uN_lo (x : Int64) : uN (x &&& 4294967295) = uN x % 4294967296 := by
  show (x.toUInt64 &&& Int64.toUInt64 4294967295).toNat = _
  rw [UInt64.toNat_and]
  exact Nat.and_two_pow_sub_one_eq_mod _ 32
theorem uN_bit (x : Int64) : (x &&& 1) = 0 ↔ uN x % 2 = 0 := by
  have h : uN (x &&& 1) = uN x % 2 := by
    show (x.toUInt64 &&& Int64.toUInt64 1).toNat = _
    rw [UInt64.toNat_and]
    exact Nat.and_two_pow_sub_one_eq_mod _ 1
  rw [← h]
  exact ⟨fun z => by rw [z]; rfl, fun z => uN_inj (z.trans rfl)⟩
theorem uN_or {x y : Int64} (hy : uN y < 2) : uN ((x <<< ((1 : Int32).toInt64 &&& 63)) ||| y) = (2 * uN x) % 18446744073709551616 + uN y := by
  have h1 : uN ((x <<< ((1 : Int32).toInt64 &&& 63)) ||| y) = uN (x <<< ((1 : Int32).toInt64 &&& 63)) ||| uN y := UInt64.toNat_or _ _
  have h2 : (2 * uN x) % 18446744073709551616 = 2 ^ 1 * (uN x % 9223372036854775808) := by omega
  rw [h1, uN_shl, h2]
  exact (Nat.two_pow_add_eq_or_of_lt (i := 1) hy _).symm
theorem nat_xor {a : Nat} (h : a < 18446744073709551616) : a ^^^ 2 ^ 63 = (a + 9223372036854775808) % 18446744073709551616 := by
  have h1 : (a ^^^ 2 ^ 63) % 2 ^ 63 = a % 2 ^ 63 := by rw [Nat.xor_mod_two_pow, Nat.mod_self, Nat.xor_zero]
  have h2 : (a ^^^ 2 ^ 63) / 2 ^ 63 = (a / 2 ^ 63) ^^^ 1 := by rw [Nat.xor_div_two_pow, Nat.div_self (Nat.two_pow_pos 63)]
  have h3 : a / 2 ^ 63 = 0 ∨ a / 2 ^ 63 = 1 := by omega
  generalize a ^^^ 2 ^ 63 = t at h1 h2
  rcases h3 with h3 | h3
  · rw [h3] at h2
    have h2 : t / 2 ^ 63 = 1 := h2
    omega
  · rw [h3] at h2
    have h2 : t / 2 ^ 63 = 0 := h2
    omega
theorem uN_xor (x : Int64) : uN (x ^^^ (-9223372036854775808)) = (uN x + 9223372036854775808) % 18446744073709551616 := by
  rw [← nat_xor (uN_lt x)]
  exact UInt64.toNat_xor _ _
theorem uN_int (x : Int64) : x.toInt = if 2 * uN x < 18446744073709551616 then (uN x : Int) else (uN x : Int) - 18446744073709551616 := BitVec.toInt_eq_toNat_cond _
theorem uN_le (x y : Int64) : (x ^^^ (-9223372036854775808)) ≤ (y ^^^ (-9223372036854775808)) ↔ uN x ≤ uN y := by
  have hx := uN_lt x
  have hy := uN_lt y
  rw [Int64.le_iff_toInt_le, uN_int, uN_int, uN_xor, uN_xor]
  omega
theorem uN_sk (x : Int64) {k : Nat} (hk : k < 64) : uN (x.toUInt64 >>> ((nI k).toInt64.toUInt64 &&& Int64.toUInt64 63)).toInt64 = uN x / 2 ^ k := by
  have h : ((nI k).toInt64.toUInt64 &&& Int64.toUInt64 63).toNat % 64 = k := by
    rw [nI_l (by omega), UInt64.toNat_and]
    have e : (lN k).toUInt64.toNat = k % 2 ^ 64 := rfl
    have e2 : (Int64.toUInt64 63).toNat = 2 ^ 6 - 1 := by decide
    rw [e, e2, Nat.and_two_pow_sub_one_eq_mod]
    omega
  rw [uN_shr, h]
/-! ===== unsigned comparison by xor with the least ===== -/
theorem lN_bv (n : Nat) : (lN n).toBitVec = BitVec.ofNat 64 n := rfl
theorem lN_nat {n : Nat} (h : n < 2 ^ 64) : (lN n).toBitVec.toNat = n := by rw [lN_bv, BitVec.toNat_ofNat]; exact Nat.mod_eq_of_lt h
theorem lN_xor (a b : Nat) : lN a ^^^ lN b = lN (a ^^^ b) := by
  apply Int64.toBitVec_inj.mp; rw [Int64.toBitVec_xor, lN_bv, lN_bv, lN_bv]; apply BitVec.eq_of_getLsbD_eq; intro i hi; simp [BitVec.getLsbD_ofNat, Nat.testBit_xor, hi]
theorem lN_ti {m : Nat} (h : m < 2 ^ 64) : (lN m).toInt = if m < 2 ^ 63 then (m : Int) else (m : Int) - 2 ^ 64 := by
  have c := BitVec.toInt_eq_toNat_cond (lN m).toBitVec
  rw [lN_nat h] at c
  show (lN m).toBitVec.toInt = _
  rw [c]
  split <;> split <;> omega
theorem xor63 {x : Nat} (h : x < 2 ^ 63) : x ^^^ 2 ^ 63 = 2 ^ 63 + x := by
  apply Nat.eq_of_testBit_eq
  intro i
  rw [Nat.testBit_xor, Nat.testBit_two_pow]
  rcases Nat.lt_trichotomy i 63 with z | z | z
  · rw [Nat.testBit_two_pow_add_gt z, decide_eq_false (by omega)]; simp
  · subst z; rw [Nat.testBit_two_pow_add_eq]; simp
  · have hp : 2 ^ 64 ≤ 2 ^ i := Nat.pow_le_pow_right (by decide) z
    rw [Nat.testBit_lt_two_pow (show x < 2 ^ i by omega), Nat.testBit_lt_two_pow (show 2 ^ 63 + x < 2 ^ i by omega), decide_eq_false (by omega)]; rfl
theorem xorS {a : Nat} (h : a < 2 ^ 64) : (lN a ^^^ (-9223372036854775808)).toInt = (a : Int) - 2 ^ 63 := by
  rw [show (-9223372036854775808 : Int64) = lN (2 ^ 63) from by decide +kernel, lN_xor]
  rcases Nat.lt_or_ge a (2 ^ 63) with z | z
  · rw [xor63 z, lN_ti (by omega), if_neg (by omega)]; omega
  · obtain ⟨x, rfl⟩ : ∃ x, a = 2 ^ 63 + x := ⟨a - 2 ^ 63, by omega⟩
    rw [← xor63 (by omega), Nat.xor_assoc, Nat.xor_self, Nat.xor_zero, lN_ti (by omega), if_pos (by omega), xor63 (by omega)]; omega
theorem ultL {a b : Nat} (ha : a < 2 ^ 64) (hb : b < 2 ^ 64) : ((lN b ^^^ (-9223372036854775808)) ≤ (lN a ^^^ (-9223372036854775808))) ↔ b ≤ a := by
  rw [Int64.le_iff_toInt_le, xorS ha, xorS hb]; omega
/-! ===== Int64 masks of n low bits ===== -/
theorem cr_bits (W U M : BitVec 64) : ((W &&& U) &&& (U &&& (M ^^^ BitVec.allOnes 64))) = 0#64 ↔ (W &&& U) &&& M = W &&& U := by
  constructor
  · intro h
    apply BitVec.eq_of_getLsbD_eq
    intro i hi
    have e := congrArg (fun x => BitVec.getLsbD x i) h
    simp only [BitVec.getLsbD_and, BitVec.getLsbD_xor, BitVec.getLsbD_allOnes, BitVec.getLsbD_zero, hi, decide_true] at e ⊢
    revert e
    cases W.getLsbD i <;> cases U.getLsbD i <;> cases M.getLsbD i <;> decide
  · intro h
    apply BitVec.eq_of_getLsbD_eq
    intro i hi
    have e := congrArg (fun x => BitVec.getLsbD x i) h
    simp only [BitVec.getLsbD_and, BitVec.getLsbD_xor, BitVec.getLsbD_allOnes, BitVec.getLsbD_zero, hi, decide_true] at e ⊢
    revert e
    cases W.getLsbD i <;> cases U.getLsbD i <;> cases M.getLsbD i <;> decide
theorem cr_mask (w U m : Int64) (n : Nat) (hm : m.toBitVec.toNat = 2 ^ n - 1) : ((w &&& U) &&& (U &&& (m ^^^ (-1)))) = 0 ↔ (w &&& U).toBitVec.toNat < 2 ^ n := by
  have e0 : (-1 : Int64).toBitVec = BitVec.allOnes 64 := by decide
  have z0 : (0 : Int64).toBitVec = 0#64 := by decide
  rw [← Int64.toBitVec_inj, z0, Int64.toBitVec_and, Int64.toBitVec_and, Int64.toBitVec_and, Int64.toBitVec_xor, e0, cr_bits]
  generalize w.toBitVec &&& U.toBitVec = T
  rw [← BitVec.toNat_inj, BitVec.toNat_and, hm, Nat.and_two_pow_sub_one_eq_mod]
  constructor
  · intro h
    have t := Nat.mod_lt T.toNat (Nat.two_pow_pos n)
    rw [h] at t
    exact t
  · exact Nat.mod_eq_of_lt
theorem cr_shr (t : Int64) (x : UInt64) (n : Nat) (hx : x.toNat % 64 = n) : (t.toUInt64 >>> x).toInt64 = 0 ↔ t.toBitVec.toNat < 2 ^ n := by
  rw [← Int64.toBitVec_inj, ← BitVec.toNat_inj]
  show (t.toUInt64 >>> x).toNat = 0 ↔ t.toUInt64.toNat < 2 ^ n
  rw [UInt64.toNat_shiftRight, hx, Nat.shiftRight_eq_div_pow]
  constructor
  · intro h
    have d : t.toUInt64.toNat / 2 ^ n < 1 := by
      rw [h]
      decide
    have e := (Nat.div_lt_iff_lt_mul (Nat.two_pow_pos n)).mp d
    rw [Nat.one_mul] at e
    exact e
  · exact Nat.div_eq_of_lt
theorem cr_amt (s : Int64) : ∃ n, n < 64 ∧ s &&& 63 = lN n ∧ (s.toUInt64 &&& Int64.toUInt64 63).toNat % 64 = n := by
  have e : (s.toUInt64 &&& Int64.toUInt64 63).toNat = s.toUInt64.toNat % 2 ^ 6 := by
    rw [UInt64.toNat_and, show (Int64.toUInt64 63).toNat = 2 ^ 6 - 1 from by decide, Nat.and_two_pow_sub_one_eq_mod]
  refine ⟨s.toUInt64.toNat % 2 ^ 6, by omega, ?_, by omega⟩
  rw [← Int64.toBitVec_inj, ← BitVec.toNat_inj]
  show (s.toUInt64 &&& Int64.toUInt64 63).toNat = (BitVec.ofNat 64 (s.toUInt64.toNat % 2 ^ 6)).toNat
  rw [e, BitVec.toNat_ofNat]
  omega
end
section
/-! basics: booleans of propositions, counts, bits, lowest-bit loops, small methods -/
noncomputable def sg_b (P : Prop) : Bool := @decide P (Classical.propDecidable P)
theorem sg_bt {P : Prop} : sg_b P = true ↔ P := by
  unfold sg_b; exact @decide_eq_true_iff P (Classical.propDecidable P)
theorem sg_bf {P : Prop} : sg_b P = false ↔ ¬ P := by
  unfold sg_b; exact @decide_eq_false_iff_not P (Classical.propDecidable P)
theorem sg_bi {P Q : Prop} (h : P ↔ Q) : sg_b P = sg_b Q := by rw [show P = Q from propext h]
theorem sg_be {P : Prop} {b : Bool} (h : b = true ↔ P) : b = sg_b P := by
  cases b
  · exact (sg_bf.mpr (fun z => absurd (h.mpr z) (by decide))).symm
  · exact (sg_bt.mpr (h.mp rfl)).symm
theorem sg_bd {P : Prop} [Decidable P] : sg_b P = decide P := by
  by_cases h : P
  · rw [sg_bt.mpr h, decide_eq_true h]
  · rw [sg_bf.mpr h, decide_eq_false h]
theorem sg_beq {a b : Bool} (h : a = true ↔ b = true) : a = b := by
  cases a <;> cases b <;> simp_all
def sg_c (p : Nat → Bool) : Nat → Nat
  | 0 => 0
  | k + 1 => sg_c p k + (p k).toNat
theorem sg_c_le (p : Nat → Bool) : ∀ n, sg_c p n ≤ n
  | 0 => Nat.le_refl _
  | n + 1 => by
    have := sg_c_le p n
    have : (p n).toNat ≤ 1 := by cases p n <;> decide
    simp only [sg_c]; omega
theorem sg_c_eq {p q : Nat → Bool} : ∀ {n : Nat}, (∀ k, k < n → p k = q k) → sg_c p n = sg_c q n
  | 0, _ => rfl
  | n + 1, h => by simp only [sg_c]; rw [sg_c_eq (fun k hk => h k (by omega)), h n (by omega)]
theorem sg_c_add (p : Nat → Bool) (a : Nat) : ∀ b, sg_c p (a + b) = sg_c p a + sg_c (fun j => p (a + j)) b
  | 0 => rfl
  | b + 1 => by
    show sg_c p (a + b) + (p (a + b)).toNat = _
    rw [sg_c_add p a b]; simp only [sg_c]; omega
theorem sg_c_0 {p : Nat → Bool} : ∀ {n : Nat}, (∀ k, k < n → p k = false) → sg_c p n = 0
  | 0, _ => rfl
  | n + 1, h => by simp only [sg_c]; rw [sg_c_0 (fun k hk => h k (by omega)), h n (by omega)]; rfl
theorem sg_c_n {p : Nat → Bool} : ∀ {n : Nat}, (∀ k, k < n → p k = true) → sg_c p n = n
  | 0, _ => rfl
  | n + 1, h => by simp only [sg_c]; rw [sg_c_n (fun k hk => h k (by omega)), h n (by omega)]; rfl
theorem sg_c_pre {p : Nat → Bool} {d n : Nat} (hd : d ≤ n) (h : ∀ i, i < n → p i = decide (i < d)) : sg_c p n = d := by
  have e : n = d + (n - d) := by omega
  rw [e, sg_c_add, sg_c_n (fun k hk => by rw [h k (by omega)]; exact decide_eq_true hk), sg_c_0 (fun k hk => by rw [h (d + k) (by omega)]; exact decide_eq_false (by omega))]
  rfl
theorem sg_c_ext {p : Nat → Bool} {a n : Nat} (ha : a ≤ n) (h : ∀ i, a ≤ i → i < n → p i = false) : sg_c p n = sg_c p a := by
  have e : n = a + (n - a) := by omega
  rw [e, sg_c_add, sg_c_0 (fun k hk => h (a + k) (by omega) (by omega))]
  rfl
theorem sg_c_mono {p q : Nat → Bool} : ∀ {n : Nat}, (∀ k, k < n → p k = true → q k = true) → sg_c p n ≤ sg_c q n
  | 0, _ => Nat.le_refl _
  | n + 1, h => by
    have a := sg_c_mono (p := p) (q := q) (n := n) (fun k hk => h k (by omega))
    have b : (p n).toNat ≤ (q n).toNat := by
      have := h n (by omega)
      cases hp : p n
      · exact Nat.zero_le _
      · rw [this hp]; exact Nat.le_refl _
    simp only [sg_c]; omega
theorem sg_c_rm {p q : Nat → Bool} {d : Nat} (hd : p d = true) : ∀ {n : Nat}, d < n → (∀ k, k < n → q k = (p k && decide (k ≠ d))) → sg_c p n = sg_c q n + 1
  | 0, h, _ => by omega
  | n + 1, h, hq => by
    simp only [sg_c]
    rcases Nat.lt_or_ge d n with z | z
    · rw [sg_c_rm hd z (fun k hk => hq k (by omega)), hq n (by omega), decide_eq_true (show n ≠ d by omega), Bool.and_true]
      omega
    · have e : d = n := by omega
      subst e
      rw [sg_c_eq (p := p) (q := q) (fun k hk => by rw [hq k (by omega), decide_eq_true (show k ≠ d by omega), Bool.and_true]), hd, hq d (by omega)]
      simp
theorem sg_c_pos {p : Nat → Bool} {n : Nat} : 0 < sg_c p n ↔ ∃ k, k < n ∧ p k = true := by
  constructor
  · intro h
    by_cases z : ∃ k, k < n ∧ p k = true
    · exact z
    · have : sg_c p n = 0 := sg_c_0 (fun k hk => by
        cases e : p k
        · rfl
        · exact absurd ⟨k, hk, e⟩ z)
      omega
  · intro ⟨k, hk, e⟩
    have h := sg_c_mono (p := fun j => decide (j = k)) (q := p) (n := n) (fun j hj hh => by rw [of_decide_eq_true hh]; exact e)
    have h2 : sg_c (fun j => decide (j = k)) n = 1 := by
      rw [sg_c_rm (p := fun j => decide (j = k)) (q := fun _ => false) (d := k) (by simp) hk (fun j hj => by by_cases z : j = k <;> simp [z]), sg_c_0 (fun _ _ => rfl)]
    omega
/-! bits -/
theorem sg_neg (s : Int32) (i : Nat) : bt (-s) i = (bt s i ^^ (decide (i < 32) && sg_b (∃ j, j < i ∧ bt s j = true))) := by
  unfold bt
  rw [Int32.toBitVec_neg, BitVec.getLsbD_neg]
  congr 2
  exact sg_be (by simp)
theorem sg_m1 (s : Int32) {i : Nat} (hi : i < 32) : bt (s - 1) i = !(bt (-s) i) := by
  unfold bt
  rw [Int32.toBitVec_sub, Int32.toBitVec_neg]
  show (s.toBitVec - 1#32).getLsbD i = _
  rw [BitVec.neg_eq_not_add, ← BitVec.not_sub_one_eq_not_add_one, BitVec.getLsbD_not]
  simp [hi]
theorem sg_not (s : Int32) {i : Nat} (hi : i < 32) : bt (s ^^^ (-1)) i = !(bt s i) := by
  rw [b_xor, b_m1 i hi]; cases bt s i <;> rfl
theorem sg_lo_neg {s : Int32} {d : Nat} (h1 : bt s d = true) (h0 : ∀ j, j < d → bt s j = false) {i : Nat} (hi : i < 32) : bt (-s) i = (if i < d then false else if i = d then true else !(bt s i)) := by
  rw [sg_neg, decide_eq_true hi, Bool.true_and]
  by_cases z : i < d
  · rw [if_pos z, h0 i z, sg_bf.mpr (fun ⟨j, hj, hb⟩ => by rw [h0 j (by omega)] at hb; cases hb)]; rfl
  · rw [if_neg z]
    by_cases y : i = d
    · rw [if_pos y, y, h1, sg_bf.mpr (fun ⟨j, hj, hb⟩ => by rw [h0 j hj] at hb; cases hb)]; rfl
    · rw [if_neg y, sg_bt.mpr ⟨d, by omega, h1⟩]; cases bt s i <;> rfl
theorem sg_lo_and {s : Int32} {d : Nat} (h1 : bt s d = true) (h0 : ∀ j, j < d → bt s j = false) {i : Nat} (hi : i < 32) : bt (s &&& (s - 1)) i = (bt s i && decide (i ≠ d)) := by
  rw [b_and, sg_m1 s hi, sg_lo_neg h1 h0 hi]
  by_cases z : i < d
  · rw [h0 i z]; rfl
  · rw [if_neg z]
    by_cases y : i = d
    · rw [if_pos y]; simp [y]
    · rw [if_neg y]; simp [y]
theorem sg_one : ∀ d, d < 32 → ∀ i, i < 32 → bt ((1 : Int32) <<< (nI d &&& 31)) i = decide (i = d) := by decide +kernel
theorem sg_low : ∀ d, d < 32 → ∀ i, i < 32 → bt (((1 : Int32) <<< (nI d &&& 31)) - 1) i = decide (i < d) := by decide +kernel
theorem sg_lo_bit {s : Int32} {d : Nat} (hd : d < 32) (h1 : bt s d = true) (h0 : ∀ j, j < d → bt s j = false) : s &&& (-s) = (1 : Int32) <<< (nI d &&& 31) := by
  apply b_ext
  intro i hi
  rw [b_and, sg_lo_neg h1 h0 hi, sg_one d hd i hi]
  by_cases z : i < d
  · rw [if_pos z, decide_eq_false (show ¬ i = d by omega), Bool.and_false]
  · rw [if_neg z]
    by_cases y : i = d
    · rw [if_pos y, y, h1]; simp
    · rw [if_neg y, decide_eq_false y]; cases bt s i <;> rfl
theorem sg_lowest {s : Int32} (h : ¬ s = 0) : ∃ d, d < 32 ∧ bt s d = true ∧ ∀ j, j < d → bt s j = false := by
  have hx : ∃ d, d < 32 ∧ bt s d = true := by
    by_cases z : ∃ d, d < 32 ∧ bt s d = true
    · exact z
    · exact absurd (b_ext (fun i hi => by
        rw [b_0]
        cases e : bt s i
        · rfl
        · exact absurd ⟨i, hi, e⟩ z)) h
  obtain ⟨d, ⟨h1, h2⟩, h3⟩ := pk_least _ hx
  refine ⟨d, h1, h2, fun j hj => ?_⟩
  cases e : bt s j
  · rfl
  · exact absurd ⟨by omega, e⟩ (h3 j hj)
theorem sg_dec {s : Int32} {d : Nat} (hd : d < 32) (h1 : bt s d = true) (h0 : ∀ j, j < d → bt s j = false) : sg_c (bt s) 32 = sg_c (bt (s &&& (s - 1))) 32 + 1 :=
  sg_c_rm h1 hd (fun _ hk => sg_lo_and h1 h0 hk)
theorem sg_and1 (x : Int32) : (x &&& 1) = 0 ↔ bt x 0 = false := by
  constructor
  · intro h
    have := congrArg (fun y => bt y 0) h
    simp only [b_and, b_0] at this
    rw [show bt 1 0 = true from by decide] at this
    simpa using this
  · intro h
    apply b_ext
    intro i hi
    rw [b_and, b_0]
    rcases Nat.eq_zero_or_pos i with z | z
    · rw [z, h]; rfl
    · rw [show bt 1 i = false from (by decide +kernel : ∀ i, i < 32 → 0 < i → bt 1 i = false) i hi z, Bool.and_false]
theorem sg_ts (x : Int32) {d : Nat} (hd : d < 32) : ((x >>> (nI d &&& 31)) &&& 1) = 0 ↔ bt x d = false := by
  rw [sg_and1, b_sshr d hd x (by omega), if_pos (by omega), Nat.add_zero]
theorem sg_tu (x : Int32) {d : Nat} (hd : d < 32) : ((x.toUInt32 >>> ((nI d).toUInt32 &&& Int32.toUInt32 31)).toInt32 &&& 1) = 0 ↔ bt x d = false := by
  rw [sg_and1, b_ushr d hd x, Nat.add_zero]
theorem sg_tsn (x : Int32) {d : Nat} (hd : d < 32) : ¬ ((x >>> (nI d &&& 31)) &&& 1) = 0 ↔ bt x d = true := by
  rw [sg_ts x hd]; simp
theorem sg_tun (x : Int32) {d : Nat} (hd : d < 32) : ¬ ((x.toUInt32 >>> ((nI d).toUInt32 &&& Int32.toUInt32 31)).toInt32 &&& 1) = 0 ↔ bt x d = true := by
  rw [sg_tu x hd]; simp
theorem sg_and1v (x : Int32) : x &&& 1 = nI (bt x 0).toNat := by
  cases h : bt x 0
  · exact (sg_and1 x).mpr h
  · apply b_ext
    intro i hi
    rw [b_and]
    rcases Nat.eq_zero_or_pos i with z | z
    · rw [z, h]; decide
    · rw [show bt 1 i = false from (by decide +kernel : ∀ i, i < 32 → 0 < i → bt 1 i = false) i hi z, Bool.and_false]
      exact ((by decide +kernel : ∀ i, i < 32 → 0 < i → bt (nI 1) i = false) i hi z).symm
theorem sg_z {x : Int32} (h : ∀ i, i < 32 → bt x i = false) : x = 0 := b_ext (fun i hi => by rw [h i hi, b_0])
theorem sg_nz {x : Int32} {i : Nat} (h : bt x i = true) : ¬ x = 0 := fun z => by rw [z, b_0] at h; cases h
/-! small types -/
theorem sg_i8 {n : Nat} (h : n < 128) : (nI n).toInt8.toInt32 = nI n := lg_i2b_small (by rw [nI_toInt (by omega)]; omega) (by rw [nI_toInt (by omega)]; omega)
theorem sg_i16 {n : Nat} (h : n < 32768) : (nI n).toInt16.toInt32 = nI n := lg_i2s_small (by rw [nI_toInt (by omega)]; omega) (by rw [nI_toInt (by omega)]; omega)
theorem sg_nb {n : Nat} (h : n < 128) : vp_nar .byte (nI n) = nI n := sg_i8 h
theorem sg_nbb {n : Nat} (h : n < 128) : vp_nar .byte (nI n).toInt8.toInt32 = nI n := by rw [vp_nar_byte, sg_i8 h, sg_i8 h]
theorem sg_ns {n : Nat} (h : n < 32768) : vp_nar .short (nI n) = nI n := sg_i16 h
/-- a value with its bits below 12 is a short -/
theorem sg_small {x : Int32} (h : ∀ i, i < 32 → 12 ≤ i → bt x i = false) : ∃ n, n < 4096 ∧ x = nI n := by
  refine ⟨x.toBitVec.toNat % 2 ^ 12, Nat.mod_lt _ (by decide), ?_⟩
  rw [← pk_and x (m := 4095) 12 (by decide)]
  apply b_ext
  intro i hi
  rw [b_and]
  rcases Nat.lt_or_ge i 12 with z | z
  · rw [(by decide +kernel : ∀ i, i < 12 → bt 4095 i = true) i z, Bool.and_true]
  · rw [h i hi z]; rfl
theorem sg_sht {x : Int32} (h : ∀ i, i < 32 → 12 ≤ i → bt x i = false) : vp_nar .short x = x := by
  obtain ⟨n, hn, rfl⟩ := sg_small h
  exact sg_ns (by omega)
theorem sg_shs {x : Int32} (h : ∀ i, i < 32 → 12 ≤ i → bt x i = false) : vp_nar .short x.toInt16.toInt32 = x := by
  obtain ⟨n, hn, rfl⟩ := sg_small h
  rw [vp_nar_short, sg_i16 (by omega), sg_i16 (by omega)]
/-! small methods -/
theorem sg_outside {post : Int32 → Prop} {x a b : Int32} (h0 : a ≤ x → x ≤ b → post 0) (h1 : ¬ (a ≤ x ∧ x ≤ b) → post 1) : wpX_outside post x a b := by
  refine br_c (fun ha => br_c (fun hb => ⟨rfl, h0 ha hb⟩) (fun hb => ⟨rfl, h1 (fun z => hb z.2)⟩)) (fun ha => br_c (fun hb => ⟨rfl, h1 (fun z => ha z.1)⟩) (fun hb => ⟨rfl, h1 (fun z => ha z.1)⟩))
theorem sg_within {post : Int32 → Prop} {x a b : Int32} (h1 : a ≤ x → x ≤ b → post 1) (h0 : ¬ (a ≤ x ∧ x ≤ b) → post 0) : wpY_within post x a b := by
  refine br_c (fun ha => h0 (fun z => Int32.not_lt.mpr z.1 ha)) (fun ha => br_c (fun hb => h0 (fun z => Int32.not_lt.mpr z.2 hb)) (fun hb => h1 (Int32.not_lt.mp ha) (Int32.not_lt.mp hb)))
theorem sg_count_l {post : Int32 → Prop} : ∀ (m : Nat) (s : Int32) (c n : Nat), sg_c (bt s) 32 = m → m < n → post (nI (c + m)) → wX_count_4 post n (nI c) s := by
  intro m
  induction m with
  | zero =>
    intro s c n hm hn hp
    obtain ⟨n, rfl⟩ : ∃ k, n = k + 1 := ⟨n - 1, by omega⟩
    refine br_t (sg_z fun i hi => ?_) hp
    cases e : bt s i
    · rfl
    · have := sg_c_pos.mpr ⟨i, hi, e⟩; omega
  | succ m ih =>
    intro s c n hm hn hp
    obtain ⟨n, rfl⟩ : ∃ k, n = k + 1 := ⟨n - 1, by omega⟩
    have hz : ¬ s = 0 := by
      intro z
      rw [z, sg_c_0 (fun k _ => b_0 k)] at hm
      omega
    obtain ⟨d, h1, h2, h3⟩ := sg_lowest hz
    have hd := sg_dec h1 h2 h3
    refine br_f hz (nm_r (nI_1 c) (nm_e (ih _ _ _ (by omega) (by omega) ?_)))
    rw [show c + 1 + m = c + (m + 1) by omega]; exact hp
theorem sg_count {post : Int32 → Prop} {s : Int32} {m : Nat} (hm : sg_c (bt s) 32 = m) (h : post (nI m)) : wpX_count post s :=
  Exists.intro (m + 1) (sg_count_l m s 0 (m + 1) hm (by omega) (by rw [Nat.zero_add]; exact h))
theorem sg_count_lo {post : Int32 → Prop} {s : Int32} {d : Nat} (hd : d < 32) (h1 : bt s d = true) (h0 : ∀ j, j < d → bt s j = false) (h : post (nI d)) : wpX_count post ((s &&& (-s)) - 1) := by
  rw [sg_lo_bit hd h1 h0]
  exact sg_count (sg_c_pre (by omega) (fun i hi => sg_low d hd i hi)) h
theorem sg_row {post : Int32 → Prop} {a b : Nat} (ha : a < 32) (hb : b ≤ 32) (h : ∀ r : Int32, (∀ i, i < 32 → bt r i = decide (a ≤ i ∧ i < b)) → post r) : wpX_row post (nI a) (nI b) := by
  refine nm_e (pk_eq b 32 (fun e => h _ fun i hi => ?_) (fun e => h _ fun i hi => ?_))
  · rw [sg_not _ hi, sg_low a ha i hi]
    by_cases z : i < a
    · rw [decide_eq_true z, decide_eq_false (by omega)]; rfl
    · rw [decide_eq_false z, decide_eq_true (by omega)]; rfl
  · rw [b_and, sg_low b (by omega) i hi, sg_not _ hi, sg_low a ha i hi]
    by_cases z : i < a
    · rw [decide_eq_true z, decide_eq_false (show ¬ (a ≤ i ∧ i < b) by omega)]; simp
    · rw [decide_eq_false z]
      by_cases y : i < b
      · rw [decide_eq_true y, decide_eq_true (by omega)]; rfl
      · rw [decide_eq_false y, decide_eq_false (by omega)]; rfl
end
section
/-! token lists: trees, span expressions, expressions; what they say of a text -/
def sg_Tr (e : List Nat) : Prop := ∀ R : List Nat → Prop, (∀ t, t < 8 ∨ (1000 ≤ t ∧ t < 11000) → R [t]) → (∀ t a b, 8 ≤ t → t ≤ 12 → R a → R b → R (t :: (a ++ b))) → R e
def sg_Sp (e : List Nat) : Prop := ∀ R : List Nat → Prop, (∀ t, t < 8 → R [t]) → (∀ t a b, t = 11 ∨ t = 12 → R a → R b → R (t :: (a ++ b))) → R e
def sg_Ex (e : List Nat) : Prop := ∀ R : List Nat → Prop, (∀ a, sg_Sp a → R a) → (∀ t, 1000 ≤ t → t < 11000 → R [t]) → (∀ t a b, t = 8 ∨ t = 9 ∨ t = 10 → R a → R b → R (t :: (a ++ b))) → R e
theorem sg_Tr_l {t : Nat} (h : t < 8 ∨ (1000 ≤ t ∧ t < 11000)) : sg_Tr [t] := fun _ h1 _ => h1 t h
theorem sg_Tr_o {t : Nat} {a b : List Nat} (h8 : 8 ≤ t) (h12 : t ≤ 12) (ha : sg_Tr a) (hb : sg_Tr b) : sg_Tr (t :: (a ++ b)) := fun R h1 h2 => h2 t a b h8 h12 (ha R h1 h2) (hb R h1 h2)
theorem sg_Tr_ind {R : List Nat → Prop} (h1 : ∀ t, t < 8 ∨ (1000 ≤ t ∧ t < 11000) → R [t]) (h2 : ∀ t a b, 8 ≤ t → t ≤ 12 → sg_Tr a → sg_Tr b → R a → R b → R (t :: (a ++ b))) {e : List Nat} (h : sg_Tr e) : R e :=
  (h (fun e => sg_Tr e ∧ R e) (fun t ht => ⟨sg_Tr_l ht, h1 t ht⟩) (fun t a b h8 h12 ha hb => ⟨sg_Tr_o h8 h12 ha.1 hb.1, h2 t a b h8 h12 ha.1 hb.1 ha.2 hb.2⟩)).2
theorem sg_Sp_w {t : Nat} (h : t < 8) : sg_Sp [t] := fun _ h1 _ => h1 t h
theorem sg_Sp_o {t : Nat} {a b : List Nat} (h : t = 11 ∨ t = 12) (ha : sg_Sp a) (hb : sg_Sp b) : sg_Sp (t :: (a ++ b)) := fun R h1 h2 => h2 t a b h (ha R h1 h2) (hb R h1 h2)
theorem sg_Sp_ind {R : List Nat → Prop} (h1 : ∀ t, t < 8 → R [t]) (h2 : ∀ t a b, t = 11 ∨ t = 12 → sg_Sp a → sg_Sp b → R a → R b → R (t :: (a ++ b))) {e : List Nat} (h : sg_Sp e) : R e :=
  (h (fun e => sg_Sp e ∧ R e) (fun t ht => ⟨sg_Sp_w ht, h1 t ht⟩) (fun t a b ht ha hb => ⟨sg_Sp_o ht ha.1 hb.1, h2 t a b ht ha.1 hb.1 ha.2 hb.2⟩)).2
theorem sg_Ex_s {e : List Nat} (h : sg_Sp e) : sg_Ex e := fun _ h1 _ _ => h1 e h
theorem sg_Ex_p {t : Nat} (h : 1000 ≤ t) (h2 : t < 11000) : sg_Ex [t] := fun _ _ hp _ => hp t h h2
theorem sg_Ex_o {t : Nat} {a b : List Nat} (h : t = 8 ∨ t = 9 ∨ t = 10) (ha : sg_Ex a) (hb : sg_Ex b) : sg_Ex (t :: (a ++ b)) := fun R h1 h2 h3 => h3 t a b h (ha R h1 h2 h3) (hb R h1 h2 h3)
theorem sg_Ex_ind {R : List Nat → Prop} (h1 : ∀ a, sg_Sp a → R a) (h2 : ∀ t, 1000 ≤ t → t < 11000 → R [t]) (h3 : ∀ t a b, t = 8 ∨ t = 9 ∨ t = 10 → sg_Ex a → sg_Ex b → R a → R b → R (t :: (a ++ b))) {e : List Nat} (h : sg_Ex e) : R e :=
  (h (fun e => sg_Ex e ∧ R e) (fun a ha => ⟨sg_Ex_s ha, h1 a ha⟩) (fun t ht hu => ⟨sg_Ex_p ht hu, h2 t ht hu⟩) (fun t a b ht ha hb => ⟨sg_Ex_o ht ha.1 hb.1, h3 t a b ht ha.1 hb.1 ha.2 hb.2⟩)).2
theorem sg_Sp_Tr {e : List Nat} (h : sg_Sp e) : sg_Tr e := sg_Sp_ind (fun _ ht => sg_Tr_l (Or.inl ht)) (fun t a b ht _ _ ha hb => sg_Tr_o (by omega) (by omega) ha hb) h
theorem sg_Ex_Tr {e : List Nat} (h : sg_Ex e) : sg_Tr e := sg_Ex_ind (fun _ ha => sg_Sp_Tr ha) (fun _ ht hu => sg_Tr_l (Or.inr ⟨ht, hu⟩)) (fun t a b ht _ _ ha hb => sg_Tr_o (by omega) (by omega) ha hb) h
theorem sg_Tr_pos {e : List Nat} (h : sg_Tr e) : 1 ≤ e.length := sg_Tr_ind (R := fun e => 1 ≤ e.length) (fun _ _ => Nat.le_refl _) (fun t a b _ _ _ _ _ _ => by simp) h
theorem sg_Tr_tok {e : List Nat} (h : sg_Tr e) : ∀ t, t ∈ e → t ≤ 12 ∨ (1000 ≤ t ∧ t < 11000) :=
  sg_Tr_ind (R := fun e => ∀ t, t ∈ e → t ≤ 12 ∨ (1000 ≤ t ∧ t < 11000)) (fun t ht u hu => by
    have : u = t := by simpa using hu
    omega) (fun t a b h8 h12 _ _ ha hb u hu => by
    rcases List.mem_cons.mp hu with h | h
    · omega
    · rcases List.mem_append.mp h with h | h
      · exact ha u h
      · exact hb u h) h
/-! values -/
abbrev sg_V : Type := Sum ((Nat → Nat → Bool) × Nat) (Bool × Nat)
def sg_wsp (T : List Nat) (t : Nat) : Nat → Nat → Bool := fun i m => decide (i = m ∧ T.getD i 8 = t)
noncomputable def sg_chn (A B : Nat → Nat → Bool) (far : Nat) : Nat → Nat → Bool := fun i m => sg_b (∃ j k, j < 12 ∧ k < 12 ∧ j < k ∧ k ≤ j + far ∧ A i j = true ∧ B k m = true)
def sg_nsp (s : Nat → Nat → Bool) : Nat := sg_c (fun x => s (x / 12) (x % 12)) 144
def sg_se (sf : Nat → Nat → Nat) : sg_V → Bool × Nat
  | .inl (s, w) => (decide (0 < sg_nsp s), sf w (sg_nsp s))
  | .inr r => r
def sg_sp : sg_V → Nat → Nat → Bool
  | .inl (s, _) => s
  | .inr _ => fun _ _ => false
def sg_wt : sg_V → Nat
  | .inl (_, w) => w
  | .inr _ => 0
def sg_cn (t : Nat) (x y : Bool × Nat) : Bool × Nat := (if t = 8 then x.1 && y.1 else if t = 9 then x.1 || y.1 else x.1 && !y.1, if t = 10 then x.2 else x.2 + y.2)
noncomputable def sg_op (sf : Nat → Nat → Nat) (t : Nat) (x y : sg_V) : sg_V :=
  if t = 11 then .inl (sg_chn (sg_sp x) (sg_sp y) 1, sg_wt x + sg_wt y) else if t = 12 then .inl (sg_chn (sg_sp x) (sg_sp y) 3, sg_wt x + sg_wt y) else .inr (sg_cn t (sg_se sf x) (sg_se sf y))
def sg_inp (p t : Nat) : Bool := decide ((t - 1000) / 100 ≤ p ∧ p ≤ (t - 1000) % 100)
def sg_lf (T : List Nat) (p : Nat) (dg : Nat → Nat) (t : Nat) : sg_V := if t < 8 then .inl (sg_wsp T t, dg t) else .inr (sg_inp p t, 0)
def sg_p2 (f : sg_V → sg_V → sg_V) : List sg_V → List sg_V
  | x :: y :: r => f x y :: r
  | r => r
noncomputable def sg_stp (T : List Nat) (p : Nat) (dg : Nat → Nat) (sf : Nat → Nat → Nat) (t : Nat) (s : List sg_V) : List sg_V :=
  if t < 8 ∨ 1000 ≤ t then sg_lf T p dg t :: s else sg_p2 (sg_op sf t) s
noncomputable def sg_val (T : List Nat) (p : Nat) (dg : Nat → Nat) (sf : Nat → Nat → Nat) (e : List Nat) : sg_V := (e.foldr (sg_stp T p dg sf) []).headD (.inr (false, 0))
section
variable {T : List Nat} {p : Nat} {dg : Nat → Nat} {sf : Nat → Nat → Nat}
theorem sg_val_l {t : Nat} (h : t < 8 ∨ (1000 ≤ t ∧ t < 11000)) : sg_val T p dg sf [t] = sg_lf T p dg t := by
  show (sg_stp T p dg sf t []).headD _ = _
  unfold sg_stp
  rw [if_pos (by omega)]; rfl
theorem sg_val_f {e : List Nat} (h : sg_Tr e) : ∀ s, e.foldr (sg_stp T p dg sf) s = sg_val T p dg sf e :: s := by
  refine sg_Tr_ind (R := fun e => ∀ s, e.foldr (sg_stp T p dg sf) s = sg_val T p dg sf e :: s) ?_ ?_ h
  · intro t ht s
    rw [sg_val_l ht]
    show sg_stp T p dg sf t s = _
    unfold sg_stp
    rw [if_pos (by omega)]
  · intro t a b h8 h12 _ _ ha hb s
    have key : ∀ s, (t :: (a ++ b)).foldr (sg_stp T p dg sf) s = sg_op sf t (sg_val T p dg sf a) (sg_val T p dg sf b) :: s := by
      intro s
      show sg_stp T p dg sf t ((a ++ b).foldr (sg_stp T p dg sf) s) = _
      rw [List.foldr_append, hb, ha]
      unfold sg_stp
      rw [if_neg (by omega)]; rfl
    rw [key s]
    unfold sg_val
    rw [key []]; rfl
theorem sg_val_o {t : Nat} {a b : List Nat} (h8 : 8 ≤ t) (h12 : t ≤ 12) (ha : sg_Tr a) (hb : sg_Tr b) : sg_val T p dg sf (t :: (a ++ b)) = sg_op sf t (sg_val T p dg sf a) (sg_val T p dg sf b) := by
  show ((sg_stp T p dg sf t ((a ++ b).foldr (sg_stp T p dg sf) [])).headD _) = _
  rw [List.foldr_append, sg_val_f hb, sg_val_f ha]
  unfold sg_stp
  rw [if_neg (by omega)]; rfl
end
noncomputable def sg_S (T : List Nat) (e : List Nat) : Nat → Nat → Bool := sg_sp (sg_val T 0 (fun _ => 0) (fun _ _ => 0) e)
def sg_w (dg : Nat → Nat) (e : List Nat) : Nat := (e.map (fun t => if t < 8 then dg t else 0)).sum
noncomputable def sg_M (T : List Nat) (p : Nat) (e : List Nat) : Bool := (sg_se (fun _ _ => 0) (sg_val T p (fun _ => 0) (fun _ _ => 0) e)).1
noncomputable def sg_Sc (T : List Nat) (p : Nat) (dg : Nat → Nat) (sf : Nat → Nat → Nat) (e : List Nat) : Nat := (sg_se sf (sg_val T p dg sf e)).2
theorem sg_S_w {T : List Nat} {t : Nat} (h : t < 8) : sg_S T [t] = sg_wsp T t := by
  unfold sg_S
  rw [sg_val_l (Or.inl h)]
  unfold sg_lf
  rw [if_pos h]; rfl
theorem sg_S_o {T : List Nat} {t : Nat} {a b : List Nat} (h : t = 11 ∨ t = 12) (ha : sg_Sp a) (hb : sg_Sp b) : sg_S T (t :: (a ++ b)) = sg_chn (sg_S T a) (sg_S T b) (if t = 11 then 1 else 3) := by
  unfold sg_S
  rw [sg_val_o (by omega) (by omega) (sg_Sp_Tr ha) (sg_Sp_Tr hb)]
  unfold sg_op
  rcases h with h | h
  · subst h; rfl
  · subst h; rfl
theorem sg_w_w {dg : Nat → Nat} {t : Nat} (h : t < 8) : sg_w dg [t] = dg t := by
  unfold sg_w; simp [h]
theorem sg_w_o {dg : Nat → Nat} {t : Nat} {a b : List Nat} (h : 8 ≤ t) : sg_w dg (t :: (a ++ b)) = sg_w dg a + sg_w dg b := by
  unfold sg_w
  simp [Nat.not_lt.mpr h]
section
variable {T : List Nat} {p : Nat} {dg : Nat → Nat} {sf : Nat → Nat → Nat}
theorem sg_val_s {e : List Nat} (h : sg_Sp e) : sg_val T p dg sf e = .inl (sg_S T e, sg_w dg e) := by
  refine sg_Sp_ind (R := fun e => sg_val T p dg sf e = .inl (sg_S T e, sg_w dg e)) ?_ ?_ h
  · intro t ht
    rw [sg_val_l (Or.inl ht), sg_S_w ht, sg_w_w ht]
    unfold sg_lf
    rw [if_pos ht]
  · intro t a b ht ha hb ea eb
    rw [sg_val_o (by omega) (by omega) (sg_Sp_Tr ha) (sg_Sp_Tr hb), sg_S_o ht ha hb, sg_w_o (by omega), ea, eb]
    unfold sg_op
    rcases ht with h | h
    · subst h; rfl
    · subst h; rfl
theorem sg_M_s {e : List Nat} (h : sg_Sp e) : sg_M T p e = decide (0 < sg_nsp (sg_S T e)) := by
  unfold sg_M; rw [sg_val_s h]; rfl
theorem sg_M_p {t : Nat} (h : 1000 ≤ t) (h2 : t < 11000) : sg_M T p [t] = sg_inp p t := by
  unfold sg_M; rw [sg_val_l (Or.inr ⟨h, h2⟩)]; unfold sg_lf; rw [if_neg (by omega)]; rfl
theorem sg_M_o {t : Nat} {a b : List Nat} (h : t = 8 ∨ t = 9 ∨ t = 10) (ha : sg_Tr a) (hb : sg_Tr b) : sg_M T p (t :: (a ++ b)) = (if t = 8 then sg_M T p a && sg_M T p b else if t = 9 then sg_M T p a || sg_M T p b else sg_M T p a && !sg_M T p b) := by
  unfold sg_M
  rw [sg_val_o (by omega) (by omega) ha hb]
  unfold sg_op
  rw [if_neg (by omega), if_neg (by omega)]; rfl
theorem sg_Sc_s {e : List Nat} (h : sg_Sp e) : sg_Sc T p dg sf e = sf (sg_w dg e) (sg_nsp (sg_S T e)) := by
  unfold sg_Sc; rw [sg_val_s h]; rfl
theorem sg_Sc_p {t : Nat} (h : 1000 ≤ t) (h2 : t < 11000) : sg_Sc T p dg sf [t] = 0 := by
  unfold sg_Sc; rw [sg_val_l (Or.inr ⟨h, h2⟩)]; unfold sg_lf; rw [if_neg (by omega)]; rfl
theorem sg_Sc_o {t : Nat} {a b : List Nat} (h : t = 8 ∨ t = 9 ∨ t = 10) (ha : sg_Tr a) (hb : sg_Tr b) : sg_Sc T p dg sf (t :: (a ++ b)) = (if t = 10 then sg_Sc T p dg sf a else sg_Sc T p dg sf a + sg_Sc T p dg sf b) := by
  unfold sg_Sc
  rw [sg_val_o (by omega) (by omega) ha hb]
  unfold sg_op
  rw [if_neg (by omega), if_neg (by omega)]; rfl
end
theorem sg_nsp_pos {s : Nat → Nat → Bool} : 0 < sg_nsp s ↔ ∃ i m, i < 12 ∧ m < 12 ∧ s i m = true := by
  unfold sg_nsp
  rw [sg_c_pos]
  constructor
  · intro ⟨k, hk, h⟩
    exact ⟨k / 12, k % 12, by omega, by omega, h⟩
  · intro ⟨i, m, hi, hm, h⟩
    refine ⟨12 * i + m, by omega, ?_⟩
    show s ((12 * i + m) / 12) ((12 * i + m) % 12) = true
    rw [show (12 * i + m) / 12 = i by omega, show (12 * i + m) % 12 = m by omega]; exact h
theorem sg_nsp_le (s : Nat → Nat → Bool) : sg_nsp s ≤ 144 := sg_c_le _ _
theorem sg_S_bd {T : List Nat} (hT : T.length ≤ 12) {e : List Nat} (h : sg_Sp e) : ∀ i m, sg_S T e i m = true → i < 12 ∧ m < 12 := by
  refine sg_Sp_ind (R := fun e => ∀ i m, sg_S T e i m = true → i < 12 ∧ m < 12) ?_ ?_ h
  · intro t ht i m hh
    rw [sg_S_w ht] at hh
    have := of_decide_eq_true hh
    have hi : i < T.length := by
      rcases Nat.lt_or_ge i T.length with z | z
      · exact z
      · have := this.2
        rw [List.getD_eq_getElem?_getD, List.getElem?_eq_none z] at this
        have : 8 = t := this
        omega
    omega
  · intro t a b ht ha hb ia ib i m hh
    rw [sg_S_o ht ha hb] at hh
    obtain ⟨j, k, hj, hk, h1, h2, h3, h4⟩ := sg_bt.mp hh
    exact ⟨(ia _ _ h3).1, (ib _ _ h4).2⟩
theorem sg_S_parts {T : List Nat} (hT : T.length ≤ 12) {t : Nat} {a b : List Nat} (ht : t = 11 ∨ t = 12) (ha : sg_Sp a) (hb : sg_Sp b) (h : 0 < sg_nsp (sg_S T (t :: (a ++ b)))) : 0 < sg_nsp (sg_S T a) ∧ 0 < sg_nsp (sg_S T b) := by
  obtain ⟨i, m, hi, hm, hh⟩ := sg_nsp_pos.mp h
  rw [sg_S_o ht ha hb] at hh
  obtain ⟨j, k, hj, hk, h1, h2, h3, h4⟩ := sg_bt.mp hh
  exact ⟨sg_nsp_pos.mpr ⟨i, j, hi, hj, h3⟩, sg_nsp_pos.mpr ⟨k, m, hk, hm, h4⟩⟩
/-! the check of a pending list -/
def sg_ist (t : Nat) : Bool := decide (t < 8 ∨ t = 11 ∨ t = 12)
def sg_chk : List Nat → List Bool → Bool
  | [], due => due.isEmpty
  | _ :: _, [] => false
  | t :: ts, k :: due => if (k && !sg_ist t) = true then false else if t < 8 ∨ 999 < t then sg_chk ts due else sg_chk ts (sg_ist t :: sg_ist t :: due)
def sg_tok (t : Nat) : Prop := t < 13 ∨ (1000 ≤ t ∧ t < 11000)
theorem sg_chk_ex : ∀ (n : Nat) (ts : List Nat) (k : Bool) (due : List Bool), ts.length ≤ n → (∀ t, t ∈ ts → sg_tok t) → sg_chk ts (k :: due) = true → ∃ e r, ts = e ++ r ∧ (k = true → sg_Sp e) ∧ sg_Ex e ∧ sg_chk r due = true := by
  intro n
  induction n with
  | zero =>
    intro ts k due hn ht hc
    obtain rfl : ts = [] := List.eq_nil_of_length_eq_zero (by omega)
    cases hc
  | succ n ih =>
    intro ts k due hn ht hc
    cases ts with
    | nil => cases hc
    | cons t ts =>
      have htt : sg_tok t := ht t (List.mem_cons_self ..)
      have hts : ∀ u, u ∈ ts → sg_tok u := fun u hu => ht u (List.mem_cons_of_mem _ hu)
      have hl : ts.length ≤ n := by simp at hn; exact hn
      unfold sg_chk at hc
      by_cases h1 : (k && !sg_ist t) = true
      · rw [if_pos h1] at hc; cases hc
      · rw [if_neg h1] at hc
        by_cases h2 : t < 8 ∨ 999 < t
        · rw [if_pos h2] at hc
          rcases htt with h3 | h3
          · have h8 : t < 8 := by omega
            exact ⟨[t], ts, rfl, fun _ => sg_Sp_w h8, sg_Ex_s (sg_Sp_w h8), hc⟩
          · refine ⟨[t], ts, rfl, fun hk => ?_, sg_Ex_p h3.1 h3.2, hc⟩
            have : sg_ist t = false := decide_eq_false (by omega)
            rw [hk, this] at h1
            exact absurd rfl h1
        · rw [if_neg h2] at hc
          obtain ⟨a, r1, e1, s1, x1, c1⟩ := ih ts _ _ hl hts hc
          have hr1 : ∀ u, u ∈ r1 → sg_tok u := fun u hu => hts u (by rw [e1]; exact List.mem_append_right _ hu)
          have hl1 : r1.length ≤ n := by
            have := congrArg List.length e1
            rw [List.length_append] at this
            omega
          obtain ⟨b, r2, e2, s2, x2, c2⟩ := ih r1 _ _ hl1 hr1 c1
          have h13 : t < 13 := by rcases htt with h3 | h3 <;> omega
          refine ⟨t :: (a ++ b), r2, by rw [e1, e2]; simp, fun hk => ?_, ?_, c2⟩
          · have hi : sg_ist t = true := by
              cases hi : sg_ist t
              · rw [hk, hi] at h1; exact absurd rfl h1
              · rfl
            have hd := of_decide_eq_true hi
            exact sg_Sp_o (by omega) (s1 hi) (s2 hi)
          · cases hi : sg_ist t
            · have hd := of_decide_eq_false hi
              exact sg_Ex_o (by omega) x1 x2
            · have hd := of_decide_eq_true hi
              exact sg_Ex_s (sg_Sp_o (by omega) (s1 hi) (s2 hi))
theorem sg_chk_Ex {q : List Nat} (ht : ∀ t, t ∈ q → sg_tok t) (h : sg_chk q [false] = true) : sg_Ex q := by
  obtain ⟨e, r, e1, _, x, c⟩ := sg_chk_ex q.length q false [] (Nat.le_refl _) ht h
  cases r with
  | nil => rw [e1, List.append_nil]; exact x
  | cons t r => cases c
end
section
/-! documents and segments -/
abbrev sg_D : Type := Nat × Nat × List Nat × Bool
def sg_d0 : sg_D := (0, 0, [], false)
def sg_g (L : List sg_D) (k : Nat) : sg_D := L.getD k sg_d0
def sg_nu (L : List sg_D) (k : Nat) : Nat := (sg_g L k).1
def sg_pr (L : List sg_D) (k : Nat) : Nat := (sg_g L k).2.1
def sg_T (L : List sg_D) (k : Nat) : List Nat := (sg_g L k).2.2.1
def sg_dl (L : List sg_D) (k : Nat) : Bool := (sg_g L k).2.2.2
theorem sg_g_ge {L : List sg_D} {k : Nat} (h : L.length ≤ k) : sg_g L k = sg_d0 := by
  unfold sg_g; rw [List.getD_eq_getElem?_getD, List.getElem?_eq_none h]; rfl
theorem sg_g_lt {L : List sg_D} {k : Nat} (h : k < L.length) : sg_g L k = L[k] := by
  unfold sg_g; rw [List.getD_eq_getElem?_getD, List.getElem?_eq_getElem h]; rfl
theorem sg_g_er (L : List sg_D) (d k : Nat) : sg_g (L.eraseIdx d) k = if k < d then sg_g L k else sg_g L (k + 1) := by
  unfold sg_g
  rw [List.getD_eq_getElem?_getD, List.getElem?_eraseIdx]
  by_cases h : k < d
  · rw [if_pos h, if_pos h, List.getD_eq_getElem?_getD]
  · rw [if_neg h, if_neg h, List.getD_eq_getElem?_getD]
theorem sg_g_ap (L : List sg_D) (x : sg_D) (k : Nat) : sg_g (L ++ [x]) k = if k = L.length then x else sg_g L k := by
  unfold sg_g
  rw [List.getD_eq_getElem?_getD, List.getD_eq_getElem?_getD]
  rcases Nat.lt_trichotomy k L.length with h | h | h
  · rw [if_neg (by omega), List.getElem?_append_left h]
  · rw [if_pos h, List.getElem?_append_right (by omega), h, Nat.sub_self]; rfl
  · rw [if_neg (by omega), List.getElem?_eq_none (by simp; omega), List.getElem?_eq_none (by omega)]
def sg_e (S : List (Nat × Nat)) (k : Nat) : Nat := (S.getD k (0, 0)).1
def sg_lv (S : List (Nat × Nat)) (k : Nat) : Nat := (S.getD k (0, 0)).2
def sg_lo (S : List (Nat × Nat)) (k : Nat) : Nat := if k = 0 then 0 else sg_e S (k - 1)
def sg_st (S : List (Nat × Nat)) : Nat := sg_lo S S.length
def sg_al (L : List sg_D) : Nat → Nat
  | 0 => 0
  | k + 1 => sg_al L k + (sg_T L k).length
def sg_cw (L : List sg_D) (st w : Nat) : Nat := sg_c (fun k => decide (w ∈ sg_T L k)) st
def sg_dgf : Nat → Nat → Nat
  | 0, _ => 0
  | f + 1, v => if v = 0 then 0 else sg_dgf f (v / 2) + 1
def sg_dg (L : List sg_D) (st w : Nat) : Nat := sg_dgf 32 (8 * (st + 1) / (sg_cw L st w + 1))
def sg_own (L : List sg_D) (st d : Nat) : Nat := if sg_al L st = 0 then 0 else 90 * (sg_T L d).length * st / sg_al L st
def sg_sf (L : List sg_D) (st d w n : Nat) : Nat := if n = 0 then 0 else w * 220 * n / (100 * n + 30 + sg_own L st d)
theorem sg_dgf_le : ∀ (f v k : Nat), v < 2 ^ k → sg_dgf f v ≤ k
  | 0, _, _, _ => Nat.zero_le _
  | f + 1, v, k, h => by
    unfold sg_dgf
    by_cases z : v = 0
    · rw [if_pos z]; exact Nat.zero_le _
    · rw [if_neg z]
      cases k with
      | zero => rw [Nat.pow_zero] at h; omega
      | succ k =>
        have := sg_dgf_le f (v / 2) k (by rw [Nat.pow_succ] at h; omega)
        omega
theorem sg_dg_le {L : List sg_D} {st w : Nat} (h : st ≤ 32) : sg_dg L st w ≤ 9 := by
  refine sg_dgf_le _ _ _ ?_
  have := Nat.div_le_self (8 * (st + 1)) (sg_cw L st w + 1)
  have : (2 : Nat) ^ 9 = 512 := by decide
  omega
theorem sg_Sp_odd {e : List Nat} (h : sg_Sp e) {dg : Nat → Nat} (hd : ∀ t, t < 8 → dg t ≤ 9) : 2 * sg_w dg e ≤ 9 * (e.length + 1) := by
  refine sg_Sp_ind (R := fun e => 2 * sg_w dg e ≤ 9 * (e.length + 1)) ?_ ?_ h
  · intro t ht
    rw [sg_w_w ht]
    have := hd t ht
    show _ ≤ 9 * (1 + 1)
    omega
  · intro t a b ht _ _ ia ib
    rw [sg_w_o (by omega)]
    simp only [List.length_cons, List.length_append]
    omega
theorem sg_mem_T {T : List Nat} {w : Nat} (hw : w < 8) : w ∈ T ↔ ∃ i, i < T.length ∧ T.getD i 8 = w := by
  constructor
  · intro h
    obtain ⟨i, hi, e⟩ := List.mem_iff_getElem.mp h
    exact ⟨i, hi, by rw [List.getD_eq_getElem?_getD, List.getElem?_eq_getElem hi]; exact e⟩
  · intro ⟨i, hi, e⟩
    rw [List.getD_eq_getElem?_getD, List.getElem?_eq_getElem hi] at e
    exact List.mem_iff_getElem.mpr ⟨i, hi, e⟩
theorem sg_getD_lt {T : List Nat} {w i : Nat} (hw : w < 8) (h : T.getD i 8 = w) : i < T.length := by
  rcases Nat.lt_or_ge i T.length with z | z
  · exact z
  · rw [List.getD_eq_getElem?_getD, List.getElem?_eq_none z] at h
    have : 8 = w := h
    omega
theorem sg_nsp_w {T : List Nat} {w : Nat} (hT : T.length ≤ 12) (hw : w < 8) : 0 < sg_nsp (sg_S T [w]) ↔ w ∈ T := by
  rw [sg_nsp_pos, sg_mem_T hw, sg_S_w hw]
  constructor
  · intro ⟨i, m, hi, hm, h⟩
    have := of_decide_eq_true h
    exact ⟨i, sg_getD_lt hw this.2, this.2⟩
  · intro ⟨i, hi, h⟩
    exact ⟨i, i, by omega, by omega, decide_eq_true ⟨rfl, h⟩⟩
/-- what holds of documents and segments -/
def sg_ok (ad : Nat) (x : sg_D) : Prop := x.1 < ad ∧ x.2.1 ≤ 99 ∧ x.2.2.1.length ≤ 12 ∧ ∀ w, w ∈ x.2.2.1 → w < 8
def sg_Gd (L : List sg_D) (S : List (Nat × Nat)) (ad : Nat) : Prop :=
  L.length ≤ 32 ∧ ad ≤ 2000 ∧ L.Pairwise (fun x y => x.1 < y.1) ∧ (∀ x, x ∈ L → sg_ok ad x) ∧ ∀ i, sg_st S ≤ i → sg_dl L i = false
theorem sg_g_mem {L : List sg_D} {P : sg_D → Prop} (h0 : P sg_d0) (h : ∀ x, x ∈ L → P x) (k : Nat) : P (sg_g L k) := by
  rcases Nat.lt_or_ge k L.length with z | z
  · rw [sg_g_lt z]; exact h _ (List.getElem_mem z)
  · rw [sg_g_ge z]; exact h0
section
variable {L : List sg_D} {S : List (Nat × Nat)} {ad : Nat}
theorem sg_Gd_T (h : sg_Gd L S ad) (i : Nat) : (sg_T L i).length ≤ 12 := sg_g_mem (P := fun x => x.2.2.1.length ≤ 12) (Nat.zero_le _) (fun x hx => (h.2.2.2.1 x hx).2.2.1) i
theorem sg_Gd_p (h : sg_Gd L S ad) (i : Nat) : sg_pr L i ≤ 99 := sg_g_mem (P := fun x => x.2.1 ≤ 99) (Nat.zero_le _) (fun x hx => (h.2.2.2.1 x hx).2.1) i
theorem sg_Gd_w (h : sg_Gd L S ad) (i : Nat) : ∀ w, w ∈ sg_T L i → w < 8 := sg_g_mem (P := fun x => ∀ w, w ∈ x.2.2.1 → w < 8) (fun w hw => by cases hw) (fun x hx => (h.2.2.2.1 x hx).2.2.2) i
theorem sg_Gd_n (h : sg_Gd L S ad) {i : Nat} (hi : i < L.length) : sg_nu L i < ad := by
  unfold sg_nu; rw [sg_g_lt hi]; exact (h.2.2.2.1 _ (List.getElem_mem hi)).1
theorem sg_Gd_s (h : sg_Gd L S ad) {i j : Nat} (hij : i < j) (hj : j < L.length) : sg_nu L i < sg_nu L j := by
  unfold sg_nu; rw [sg_g_lt hj, sg_g_lt (show i < L.length by omega)]
  exact List.pairwise_iff_getElem.mp h.2.2.1 i j (by omega) hj hij
theorem sg_Gd_i (h : sg_Gd L S ad) {i j : Nat} (hi : i < L.length) (hj : j < L.length) (e : sg_nu L i = sg_nu L j) : i = j := by
  rcases Nat.lt_trichotomy i j with z | z | z
  · have := sg_Gd_s h z hj; omega
  · exact z
  · have := sg_Gd_s h z hi; omega
end
theorem sg_nu_er (L : List sg_D) (d k : Nat) : sg_nu (L.eraseIdx d) k = if k < d then sg_nu L k else sg_nu L (k + 1) := by
  unfold sg_nu; rw [sg_g_er]; by_cases h : k < d
  · rw [if_pos h, if_pos h]
  · rw [if_neg h, if_neg h]
theorem sg_pr_er (L : List sg_D) (d k : Nat) : sg_pr (L.eraseIdx d) k = if k < d then sg_pr L k else sg_pr L (k + 1) := by
  unfold sg_pr; rw [sg_g_er]; by_cases h : k < d
  · rw [if_pos h, if_pos h]
  · rw [if_neg h, if_neg h]
theorem sg_T_er (L : List sg_D) (d k : Nat) : sg_T (L.eraseIdx d) k = if k < d then sg_T L k else sg_T L (k + 1) := by
  unfold sg_T; rw [sg_g_er]; by_cases h : k < d
  · rw [if_pos h, if_pos h]
  · rw [if_neg h, if_neg h]
theorem sg_dl_er (L : List sg_D) (d k : Nat) : sg_dl (L.eraseIdx d) k = if k < d then sg_dl L k else sg_dl L (k + 1) := by
  unfold sg_dl; rw [sg_g_er]; by_cases h : k < d
  · rw [if_pos h, if_pos h]
  · rw [if_neg h, if_neg h]
theorem sg_al_eq {L L' : List sg_D} : ∀ {n : Nat}, (∀ k, k < n → sg_T L k = sg_T L' k) → sg_al L n = sg_al L' n
  | 0, _ => rfl
  | n + 1, h => by unfold sg_al; rw [sg_al_eq (fun k hk => h k (by omega)), h n (by omega)]
theorem sg_al_er (L : List sg_D) (d : Nat) : ∀ n, d ≤ n → sg_al (L.eraseIdx d) n + (sg_T L d).length = sg_al L (n + 1) := by
  intro n
  induction n with
  | zero =>
    intro h
    obtain rfl : d = 0 := by omega
    simp [sg_al]
  | succ n ih =>
    intro h
    by_cases e : d = n + 1
    · rw [e]
      show sg_al (L.eraseIdx (n + 1)) (n + 1) + _ = sg_al L (n + 1) + _
      rw [sg_al_eq (L' := L) (fun k hk => by rw [sg_T_er, if_pos hk])]
    · have := ih (by omega)
      show sg_al (L.eraseIdx d) n + (sg_T (L.eraseIdx d) n).length + _ = sg_al L (n + 1) + (sg_T L (n + 1)).length
      rw [sg_T_er, if_neg (by omega)]
      omega
theorem sg_al_le {L : List sg_D} (h : ∀ i, (sg_T L i).length ≤ 12) : ∀ n, sg_al L n ≤ 12 * n
  | 0 => Nat.le_refl _
  | n + 1 => by have := sg_al_le h n; have := h n; unfold sg_al; omega
theorem sg_al_ge {L : List sg_D} {d : Nat} : ∀ {n : Nat}, d < n → (sg_T L d).length ≤ sg_al L n
  | 0, h => by omega
  | n + 1, h => by
    unfold sg_al
    by_cases e : d = n
    · rw [e]; omega
    · have := sg_al_ge (L := L) (d := d) (n := n) (by omega); omega
def sg_Gs (n : Nat) (S : List (Nat × Nat)) : Prop := (∀ k, k < S.length → sg_lo S k < sg_e S k) ∧ sg_st S ≤ n ∧ (∀ k, sg_lv S k ≤ 3)
theorem sg_lo_s {S : List (Nat × Nat)} (k : Nat) : sg_lo S (k + 1) = sg_e S k := rfl
theorem sg_lo_mono {n : Nat} {S : List (Nat × Nat)} (h : sg_Gs n S) : ∀ {j k : Nat}, j ≤ k → k ≤ S.length → sg_lo S j ≤ sg_lo S k := by
  intro j k
  induction k with
  | zero =>
    intro hj _
    obtain rfl : j = 0 := by omega
    exact Nat.le_refl _
  | succ k ih =>
    intro hj hk
    rcases Nat.eq_or_lt_of_le hj with z | z
    · rw [z]; exact Nat.le_refl _
    · have := ih (by omega) (by omega)
      have := h.1 k (by omega)
      rw [sg_lo_s]; omega
theorem sg_lo_ge {n : Nat} {S : List (Nat × Nat)} (h : sg_Gs n S) : ∀ {k : Nat}, k ≤ S.length → k ≤ sg_lo S k := by
  intro k
  induction k with
  | zero => intro _; exact Nat.zero_le _
  | succ k ih =>
    intro hk
    have := ih (by omega)
    have := h.1 k (by omega)
    rw [sg_lo_s]; omega
theorem sg_S_len {n : Nat} {S : List (Nat × Nat)} (h : sg_Gs n S) : S.length ≤ sg_st S := sg_lo_ge h (Nat.le_refl _)
/-- the segment of a stored document -/
theorem sg_seg {n : Nat} {S : List (Nat × Nat)} (h : sg_Gs n S) {d : Nat} (hd : d < sg_st S) : ∃ k, k < S.length ∧ sg_lo S k ≤ d ∧ d < sg_e S k := by
  have key : ∀ k, k ≤ S.length → d < sg_lo S k → ∃ j, j < k ∧ sg_lo S j ≤ d ∧ d < sg_e S j := by
    intro k
    induction k with
    | zero => intro _ h0; exact absurd h0 (Nat.not_lt_zero _)
    | succ k ih =>
      intro hk h1
      rcases Nat.lt_or_ge d (sg_lo S k) with z | z
      · obtain ⟨j, h2, h3⟩ := ih (by omega) z
        exact ⟨j, by omega, h3⟩
      · exact ⟨k, by omega, z, h1⟩
  exact key S.length (Nat.le_refl _) hd
theorem sg_seg_u {n : Nat} {S : List (Nat × Nat)} (h : sg_Gs n S) {d j k : Nat} (hj : j < S.length) (hk : k < S.length) (j1 : sg_lo S j ≤ d) (j2 : d < sg_e S j) (k1 : sg_lo S k ≤ d) (k2 : d < sg_e S k) : j = k := by
  rcases Nat.lt_trichotomy j k with z | z | z
  · have := sg_lo_mono h (j := j + 1) (k := k) (by omega) (by omega)
    rw [sg_lo_s] at this; omega
  · exact z
  · have := sg_lo_mono h (j := k + 1) (k := j) (by omega) (by omega)
    rw [sg_lo_s] at this; omega
end
section
/-! X: reads, behind, join, spansOf -/
theorem sg_rd {f : Nat → Int32} {x v : Int32} (n : Nat) (hx : x = nI n) (hn : n < 2 ^ 31) (h : f n = v) : f x.toNatClampNeg = v := by
  subst hx; rw [nI_clamp hn]; exact h
theorem sg_wr {f : Nat → Int32} {x v w : Int32} (n : Nat) (hx : x = nI n) (hn : n < 2 ^ 31) (h : v = w) : upd f x.toNatClampNeg v = upd f n w := by
  subst hx; subst h; rw [nI_clamp hn]
def sg_At (f : Nat → Int32) (p : Nat) (e : List Nat) : Prop := ∀ k, k < e.length → f (p + k) = nI (e.getD k 0)
theorem sg_At_c {f : Nat → Int32} {p t : Nat} {r : List Nat} (h : sg_At f p (t :: r)) : f p = nI t ∧ sg_At f (p + 1) r := by
  refine ⟨h 0 (by simp), fun k hk => ?_⟩
  rw [show p + 1 + k = p + (k + 1) by omega, h (k + 1) (by simp; omega)]; rfl
theorem sg_At_a {f : Nat → Int32} {p : Nat} {a b : List Nat} (h : sg_At f p (a ++ b)) : sg_At f p a ∧ sg_At f (p + a.length) b := by
  refine ⟨fun k hk => ?_, fun k hk => ?_⟩
  · rw [h k (by simp; omega), List.getD_eq_getElem?_getD, List.getD_eq_getElem?_getD, List.getElem?_append_left hk]
  · rw [show p + a.length + k = p + (a.length + k) by omega, h (a.length + k) (by simp; omega), List.getD_eq_getElem?_getD, List.getD_eq_getElem?_getD, List.getElem?_append_right (by omega), Nat.add_sub_cancel_left]
def sg_XS (S : List (Nat × Nat)) (ns : Int32) (en lv : Nat → Int32) : Prop := ns = nI S.length ∧ S.length ≤ 32 ∧ ∀ k, k < S.length → en k = nI (sg_e S k) ∧ lv k = nI (sg_lv S k)
def sg_XD (L : List sg_D) (nD del : Int32) (num len pri pla hav : Nat → Int32) : Prop :=
  nD = nI L.length ∧ (∀ k, k < L.length → num k = nI (sg_nu L k) ∧ len k = nI (sg_T L k).length ∧ pri k = nI (sg_pr L k)) ∧ (∀ k w i, k < L.length → w < 8 → i < 32 → bt (pla (8 * k + w)) i = decide ((sg_T L k).getD i 8 = w)) ∧ (∀ w k, w < 8 → k < 32 → bt (hav w) k = decide (w ∈ sg_T L k)) ∧ ∀ k, k < 32 → bt del k = sg_dl L k
section
variable {f_documents f_added f_deleted f_segments f_total f_words f_base f_kept : Int32} {a_number a_length a_price a_places a_having a_end a_level a_text a_query a_size a_wanted a_news a_waiting a_sets a_scores a_rarity a_spans a_best a_worth a_keptNumber a_keptScore a_shares : Nat → Int32}
theorem sg_xstored {post : Int32 → Prop} {S : List (Nat × Nat)} (hs : sg_XS S f_segments a_end a_level) (h : post (nI (sg_st S))) : wpX_stored post (f_documents, f_added, f_deleted, f_segments, f_total, f_words, f_base, f_kept, a_number, a_length, a_price, a_places, a_having, a_end, a_level, a_text, a_query, a_size, a_wanted, a_news, a_waiting, a_sets, a_scores, a_rarity, a_spans, a_best, a_worth, a_keptNumber, a_keptScore, a_shares) := by
  obtain ⟨h1, h2, h3⟩ := hs
  refine pk_eq S.length 0 (fun e => ?_) (fun e => ?_) h1
  · have : sg_st S = 0 := by unfold sg_st; rw [e]; rfl
    rw [this] at h; exact h
  · have e1 : f_segments - 1 = nI (S.length - 1) := by
      rw [h1, show S.length = (S.length - 1) + 1 by omega, nI_pred, Nat.add_sub_cancel]
    refine ⟨pk_in (S.length - 1) 33 (by omega) e1, ?_⟩
    have e2 : a_end (f_segments - 1).toNatClampNeg = nI (sg_st S) := by
      refine sg_rd (S.length - 1) e1 (by omega) ?_
      rw [(h3 (S.length - 1) (by omega)).1]
      unfold sg_st sg_lo
      rw [if_neg e]
    rw [e2]; exact h
theorem sg_xtokens {post : Int32 → Prop} {q : Nat} (hq : q < 6) {m : Int32} (hm : a_size q = m) (h : post m) : wpX_tokens post (f_documents, f_added, f_deleted, f_segments, f_total, f_words, nI (16 * q), f_kept, a_number, a_length, a_price, a_places, a_having, a_end, a_level, a_text, a_query, a_size, a_wanted, a_news, a_waiting, a_sets, a_scores, a_rarity, a_spans, a_best, a_worth, a_keptNumber, a_keptScore, a_shares) := by
  have e : nI (16 * q) >>> ((4 : Int32) &&& 31) = nI q := by
    rw [pk_shrN (by omega) _ 4 (by decide)]
    exact congrArg nI (by omega)
  refine And.intro (pk_in q 6 hq e) ?_
  rw [sg_rd q e (by omega) hm]; exact h
theorem sg_xbeh_l {post : Int32 → Prop} {B : Nat} {e : List Nat} (h : sg_Tr e) : ∀ n o p, o + e.length ≤ 1000 → B + p + e.length ≤ 96 → sg_At a_query (B + p) e → wX_behind_4 post f_documents f_added f_deleted f_segments f_total f_words (nI B) f_kept a_number a_length a_price a_places a_having a_end a_level a_text a_query a_size a_wanted a_news a_waiting a_sets a_scores a_rarity a_spans a_best a_worth a_keptNumber a_keptScore a_shares n (nI o) (nI (p + e.length)) → wX_behind_4 post f_documents f_added f_deleted f_segments f_total f_words (nI B) f_kept a_number a_length a_price a_places a_having a_end a_level a_text a_query a_size a_wanted a_news a_waiting a_sets a_scores a_rarity a_spans a_best a_worth a_keptNumber a_keptScore a_shares (n + e.length) (nI (o + 1)) (nI p) := by
  refine sg_Tr_ind (R := fun e => ∀ n o p, o + e.length ≤ 1000 → B + p + e.length ≤ 96 → sg_At a_query (B + p) e → wX_behind_4 post f_documents f_added f_deleted f_segments f_total f_words (nI B) f_kept a_number a_length a_price a_places a_having a_end a_level a_text a_query a_size a_wanted a_news a_waiting a_sets a_scores a_rarity a_spans a_best a_worth a_keptNumber a_keptScore a_shares n (nI o) (nI (p + e.length)) → wX_behind_4 post f_documents f_added f_deleted f_segments f_total f_words (nI B) f_kept a_number a_length a_price a_places a_having a_end a_level a_text a_query a_size a_wanted a_news a_waiting a_sets a_scores a_rarity a_spans a_best a_worth a_keptNumber a_keptScore a_shares (n + e.length) (nI (o + 1)) (nI p)) ?_ ?_ h
  · intro t ht n o p ho hp hat H
    have hlen : [t].length = 1 := rfl
    rw [hlen] at ho hp H ⊢
    have hq := (sg_At_c hat).1
    have hd : wX_behind_4 post f_documents f_added f_deleted f_segments f_total f_words (nI B) f_kept a_number a_length a_price a_places a_having a_end a_level a_text a_query a_size a_wanted a_news a_waiting a_sets a_scores a_rarity a_spans a_best a_worth a_keptNumber a_keptScore a_shares (n + 1) (nI (o + 1)) (nI p) := by
      refine br_f (nI_nle (by omega) (by omega)) ⟨pk_in (B + p) 96 (by omega) (nI_add B p), nm_r (sg_rd (B + p) (nI_add B p) (by omega) hq) (pk_lt t 8 (fun h8 => nm_r (pk_m1 o) (nm_r (nI_1 p) H)) (fun h8 => pk_le t 999 (fun h9 => ?_) (fun h9 => nm_r (pk_m1 o) (nm_r (nI_1 p) H))))⟩
      omega
    exact hd
  · intro t a b h8 h12 ta tb ia ib n o p ho hp hat H
    have hlen : (t :: (a ++ b)).length = (b.length + a.length) + 1 := by simp; omega
    rw [hlen] at ho hp H
    rw [hlen, show n + (b.length + a.length + 1) = (n + b.length + a.length) + 1 by omega]
    obtain ⟨hq, hr⟩ := sg_At_c hat
    obtain ⟨hra, hrb⟩ := sg_At_a hr
    have H2 : wX_behind_4 post f_documents f_added f_deleted f_segments f_total f_words (nI B) f_kept a_number a_length a_price a_places a_having a_end a_level a_text a_query a_size a_wanted a_news a_waiting a_sets a_scores a_rarity a_spans a_best a_worth a_keptNumber a_keptScore a_shares (n + b.length + a.length) (nI (o + 1 + 1)) (nI (p + 1)) := by
      refine ia (n + b.length) (o + 1) (p + 1) (by omega) (by omega) (by rw [show B + (p + 1) = B + p + 1 by omega]; exact hra) ?_
      refine ib n o (p + 1 + a.length) (by omega) (by omega) (by rw [show B + (p + 1 + a.length) = B + p + 1 + a.length by omega]; exact hrb) ?_
      rw [show p + 1 + a.length + b.length = p + (b.length + a.length + 1) by omega]; exact H
    refine br_f (nI_nle (by omega) (by omega)) ⟨pk_in (B + p) 96 (by omega) (nI_add B p), nm_r (sg_rd (B + p) (nI_add B p) (by omega) hq) (pk_lt t 8 (fun h9 => ?_) (fun h9 => pk_le t 999 (fun h10 => nm_r (nI_1 (o + 1)) (nm_r (nI_1 p) H2)) (fun h10 => ?_)))⟩
    · omega
    · omega
theorem sg_xbehind {post : Int32 → Prop} {B p : Nat} {e : List Nat} (h : sg_Tr e) (hp : B + p + e.length ≤ 96) (hat : sg_At a_query (B + p) e) (H : post (nI (p + e.length))) : wpX_behind post (f_documents, f_added, f_deleted, f_segments, f_total, f_words, nI B, f_kept, a_number, a_length, a_price, a_places, a_having, a_end, a_level, a_text, a_query, a_size, a_wanted, a_news, a_waiting, a_sets, a_scores, a_rarity, a_spans, a_best, a_worth, a_keptNumber, a_keptScore, a_shares) (nI p) := by
  refine Exists.intro (1 + e.length) ?_
  exact sg_xbeh_l h 1 0 p (by omega) hp hat (br_t (by decide) H)
end
/-! join -/
def sg_Row (f : Nat → Int32) (j : Nat) (s : Nat → Nat → Bool) : Prop := ∀ i m, i < 12 → m < 32 → bt (f (12 * j + i)) m = s i m
section
variable {f_documents f_added f_deleted f_segments f_total f_words f_base f_kept : Int32} {a_number a_length a_price a_places a_having a_end a_level a_text a_query a_size a_wanted a_news a_waiting a_sets a_scores a_rarity a_spans a_best a_worth a_keptNumber a_keptScore a_shares : Nat → Int32}
theorem sg_xj48 {post : SX → Prop} {J3 : Int32 → (Nat → Int32) → (Nat → Int32) → (Nat → Int32) → (Nat → Int32) → (Nat → Int32) → (Nat → Int32) → (Nat → Int32) → (Nat → Int32) → (Nat → Int32) → (Nat → Int32) → (Nat → Int32) → (Nat → Int32) → (Nat → Int32) → (Nat → Int32) → (Nat → Int32) → (Nat → Int32) → (Nat → Int32) → (Nat → Int32) → (Nat → Int32) → (Nat → Int32) → (Nat → Int32) → (Nat → Int32) → Prop} {J24 : Int32 → Int32 → Prop} {x1 x4 x6 : Int32} {j far jj : Nat} (hj : j < 12) (hf : far ≤ 3) (hjj : jj < 12) {B : Nat → Nat → Bool} (hB : sg_Row a_spans j B) :
    ∀ n k x5 (P : Nat → Prop), (∀ m, m < 32 → (bt x5 m = true ↔ P m)) → k ≤ 12 → 12 - k < n →
      (∀ y, (∀ m, m < 32 → (bt y m = true ↔ P m ∨ ∃ k', k ≤ k' ∧ k' ≤ jj + far ∧ k' < 12 ∧ B k' m = true)) → J24 y (x6 &&& (x6 - 1))) →
      wX_join_48 post J3 J24 x1 (nI (12 * j)) (nI far) x4 x6 (nI jj) f_documents f_added f_deleted f_segments f_total f_words f_base f_kept a_number a_length a_price a_places a_having a_end a_level a_text a_query a_size a_wanted a_news a_waiting a_sets a_scores a_rarity a_spans a_best a_worth a_keptNumber a_keptScore a_shares n x5 (nI k) := by
  intro n
  induction n with
  | zero => intro k x5 P _ _ h; omega
  | succ n ih =>
    intro k x5 P hP hk hn H
    have hfin : (jj + far < k ∨ 12 ≤ k) → J24 x5 (x6 &&& (x6 - 1)) := fun hz => H x5 (fun m hm => by
      rw [hP m hm]
      exact ⟨Or.inl, fun z => z.elim id (fun ⟨k', h1, h2, h3, _⟩ => by omega)⟩)
    refine pk_lt (jj + far) k (fun h => nm_e (hfin (Or.inl h))) (fun h => pk_le 12 k (fun h2 => nm_e (hfin (Or.inr h2))) (fun h2 => ⟨pk_in (12 * j + k) 144 (by omega) (nI_add _ _), nm_e (nm_r (nI_1 k) (ih (k + 1) _ (fun m => P m ∨ B k m = true) ?_ (by omega) (by omega) ?_))⟩)) (nI_add _ _)
    · intro m hm
      rw [b_or, sg_rd (f := a_spans) (12 * j + k) (nI_add _ _) (by omega) rfl, hB k m h2 hm, Bool.or_eq_true, hP m hm]
    · intro y hy
      refine H y (fun m hm => ?_)
      rw [hy m hm]
      constructor
      · intro z
        rcases z with (z | z) | ⟨k', h3, h4, h5, h6⟩
        · exact Or.inl z
        · exact Or.inr ⟨k, Nat.le_refl _, h, h2, z⟩
        · exact Or.inr ⟨k', by omega, h4, h5, h6⟩
      · intro z
        rcases z with z | ⟨k', h3, h4, h5, h6⟩
        · exact Or.inl (Or.inl z)
        · rcases Nat.eq_or_lt_of_le h3 with e | e
          · exact Or.inl (Or.inr (by rw [e]; exact h6))
          · exact Or.inr ⟨k', by omega, h4, h5, h6⟩
theorem sg_xj24 {post : SX → Prop} {J3 : Int32 → (Nat → Int32) → (Nat → Int32) → (Nat → Int32) → (Nat → Int32) → (Nat → Int32) → (Nat → Int32) → (Nat → Int32) → (Nat → Int32) → (Nat → Int32) → (Nat → Int32) → (Nat → Int32) → (Nat → Int32) → (Nat → Int32) → (Nat → Int32) → (Nat → Int32) → (Nat → Int32) → (Nat → Int32) → (Nat → Int32) → (Nat → Int32) → (Nat → Int32) → (Nat → Int32) → (Nat → Int32) → Prop} {j j1 i far : Nat} (hj : j < 12) (hj1 : j1 < 12) (hi : i < 12) (hf : far ≤ 3) {B : Nat → Nat → Bool} (hB : sg_Row a_spans j B) (hB12 : ∀ k m, B k m = true → m < 12) :
    ∀ c x5 x6 (P : Nat → Prop), sg_c (bt x6) 32 = c → (∀ m, m < 32 → bt x6 m = true → m < 12) → (∀ m, P m → m < 12) → (∀ m, m < 32 → (bt x5 m = true ↔ P m)) →
      (∀ y, (∀ m, m < 32 → (bt y m = true ↔ P m ∨ ∃ jj k, jj < 12 ∧ k < 12 ∧ jj < k ∧ k ≤ jj + far ∧ bt x6 jj = true ∧ B k m = true)) → J3 (nI (i + 1)) a_number a_length a_price a_places a_having a_end a_level a_text a_query a_size a_wanted a_news a_waiting a_sets a_scores a_rarity (upd a_spans (12 * j1 + i) y) a_best a_worth a_keptNumber a_keptScore a_shares) →
      wX_join_24 post J3 (nI (12 * j1)) (nI (12 * j)) (nI far) (nI i) f_documents f_added f_deleted f_segments f_total f_words f_base f_kept a_number a_length a_price a_places a_having a_end a_level a_text a_query a_size a_wanted a_news a_waiting a_sets a_scores a_rarity a_spans a_best a_worth a_keptNumber a_keptScore a_shares (c + 1) x5 x6 := by
  intro c
  induction c with
  | zero =>
    intro x5 x6 P hc h12 hP12 hP H
    have hz : x6 = 0 := sg_z (fun m hm => by
      cases e : bt x6 m
      · rfl
      · have := sg_c_pos.mpr ⟨m, hm, e⟩; omega)
    have hy : J3 (nI (i + 1)) a_number a_length a_price a_places a_having a_end a_level a_text a_query a_size a_wanted a_news a_waiting a_sets a_scores a_rarity (upd a_spans (12 * j1 + i) x5) a_best a_worth a_keptNumber a_keptScore a_shares := H x5 (fun m hm => by
      rw [hP m hm]
      exact ⟨Or.inl, fun z => z.elim id (fun ⟨jj, k, _, _, _, _, h6, _⟩ => by rw [hz, b_0] at h6; cases h6)⟩)
    refine br_t hz ⟨pk_in (12 * j1 + i) 144 (by omega) (nI_add _ _), nm_r (sg_wr (12 * j1 + i) (nI_add _ _) (by omega) (sg_shs (fun m hm h => ?_))) (nm_r (nI_1 i) hy)⟩
    cases e : bt x5 m
    · rfl
    · have := hP12 m ((hP m hm).mp e); omega
  | succ c ih =>
    intro x5 x6 P hc h12 hP12 hP H
    have hz : ¬ x6 = 0 := fun z => by rw [z, sg_c_0 (fun k _ => b_0 k)] at hc; omega
    obtain ⟨d, d1, d2, d3⟩ := sg_lowest hz
    have hd12 := h12 d d1 d2
    have hdec := sg_dec d1 d2 d3
    refine br_f hz (sg_count_lo d1 d2 d3 (nm_r (nI_1 d) (Exists.intro 13 (sg_xj48 hj hf hd12 hB 13 (d + 1) x5 P hP (by omega) (by omega) ?_))))
    intro y hy
    refine ih y (x6 &&& (x6 - 1)) _ (by omega) (fun m hm hb => ?_) ?_ hy ?_
    · rw [sg_lo_and d2 d3 hm, Bool.and_eq_true] at hb
      exact h12 m hm hb.1
    · intro m hm
      rcases hm with hm | ⟨k', h1, h2, h3, h4⟩
      · exact hP12 m hm
      · exact hB12 k' m h4
    · intro y2 hy2
      refine H y2 (fun m hm => ?_)
      rw [hy2 m hm]
      constructor
      · intro z
        rcases z with (z | ⟨k', h1, h2, h3, h4⟩) | ⟨jj, k, h1, h2, h3, h4, h5, h6⟩
        · exact Or.inl z
        · exact Or.inr ⟨d, k', hd12, h3, by omega, by omega, d2, h4⟩
        · rw [sg_lo_and d2 d3 (by omega), Bool.and_eq_true] at h5
          exact Or.inr ⟨jj, k, h1, h2, h3, h4, h5.1, h6⟩
      · intro z
        rcases z with z | ⟨jj, k, h1, h2, h3, h4, h5, h6⟩
        · exact Or.inl (Or.inl z)
        · by_cases e : jj = d
          · subst e
            exact Or.inl (Or.inr ⟨k, by omega, h4, h2, h6⟩)
          · refine Or.inr ⟨jj, k, h1, h2, h3, h4, ?_, h6⟩
            rw [sg_lo_and d2 d3 (by omega), h5, decide_eq_true e]; rfl
theorem sg_xj117 {post : SX → Prop} {j j1 : Nat} (hj : j < 12) (hj1 : j1 < 12) (hjj : j ≠ j1) {C : Nat → Nat → Bool} (hC12 : ∀ i m, C i m = true → m < 12) {f0 : Nat → Int32}
    (H : ∀ g, sg_Row g j C → (∀ x, x < 12 * j → x < 12 * j1 → g x = f0 x) → post (f_documents, f_added, f_deleted, f_segments, f_total, f_words, f_base, f_kept, a_number, a_length, a_price, a_places, a_having, a_end, a_level, a_text, a_query, a_size, a_wanted, a_news, a_waiting, a_sets, a_scores, a_rarity, g, a_best, a_worth, a_keptNumber, a_keptScore, a_shares)) :
    ∀ n i g, i ≤ 12 → 12 - i < n → sg_Row g j1 C → (∀ i' m, i' < i → m < 32 → bt (g (12 * j + i')) m = C i' m) → (∀ x, x < 12 * j → x < 12 * j1 → g x = f0 x) →
      wX_join_117 post (nI (12 * j1)) (nI (12 * j)) f_documents f_added f_deleted f_segments f_total f_words f_base f_kept n (nI i) a_number a_length a_price a_places a_having a_end a_level a_text a_query a_size a_wanted a_news a_waiting a_sets a_scores a_rarity g a_best a_worth a_keptNumber a_keptScore a_shares := by
  intro n
  induction n with
  | zero => intro i g _ h; omega
  | succ n ih =>
    intro i g hi hn h1 h2 h3
    refine pk_le 12 i (fun h => H g (fun i' m hi' hm => h2 i' m (by omega) hm) h3) (fun h => ⟨pk_in (12 * j1 + i) 144 (by omega) (nI_add _ _), pk_in (12 * j + i) 144 (by omega) (nI_add _ _), nm_r (sg_wr (12 * j + i) (nI_add _ _) (by omega) (w := g (12 * j1 + i)) ?_) (nm_r (nI_1 i) (ih (i + 1) _ (by omega) (by omega) ?_ ?_ ?_))⟩)
    · rw [sg_rd (f := g) (12 * j1 + i) (nI_add _ _) (by omega) rfl]
      refine sg_sht (fun m hm h12 => ?_)
      rw [h1 i m h hm]
      cases e : C i m
      · rfl
      · have := hC12 i m e; omega
    · intro i' m hi' hm
      rw [pk_un (by omega)]; exact h1 i' m hi' hm
    · intro i' m hi' hm
      by_cases e : i' = i
      · rw [e, pk_us]; exact h1 i m h hm
      · rw [pk_un (by omega)]; exact h2 i' m (by omega) hm
    · intro x hx hx1
      rw [pk_un (by omega)]; exact h3 x hx hx1
theorem sg_xj3 {post : SX → Prop} {j far : Nat} (hj : j + 1 < 12) (hf : far ≤ 3) {A B : Nat → Nat → Bool} (hA12 : ∀ i m, A i m = true → m < 12) (hB12 : ∀ k m, B k m = true → m < 12)
    (H : ∀ g, sg_Row g j (sg_chn A B far) → (∀ x, x < 12 * j → g x = a_spans x) → post (f_documents, f_added, f_deleted, f_segments, f_total, f_words, f_base, f_kept, a_number, a_length, a_price, a_places, a_having, a_end, a_level, a_text, a_query, a_size, a_wanted, a_news, a_waiting, a_sets, a_scores, a_rarity, g, a_best, a_worth, a_keptNumber, a_keptScore, a_shares)) :
    ∀ n i g, i ≤ 12 → 12 - i < n → sg_Row g j B → (∀ i' m, i' < i → m < 32 → bt (g (12 * (j + 1) + i')) m = sg_chn A B far i' m) → (∀ i' m, i ≤ i' → i' < 12 → m < 32 → bt (g (12 * (j + 1) + i')) m = A i' m) → (∀ x, x < 12 * j → g x = a_spans x) →
      wX_join_3 post (nI (12 * (j + 1))) (nI (12 * j)) (nI far) f_documents f_added f_deleted f_segments f_total f_words f_base f_kept n (nI i) a_number a_length a_price a_places a_having a_end a_level a_text a_query a_size a_wanted a_news a_waiting a_sets a_scores a_rarity g a_best a_worth a_keptNumber a_keptScore a_shares := by
  have hC12 : ∀ i m, sg_chn A B far i m = true → m < 12 := fun i m h => by
    obtain ⟨_, k, _, _, _, _, _, h4⟩ := sg_bt.mp h
    exact hB12 k m h4
  intro n
  induction n with
  | zero => intro i g _ h; omega
  | succ n ih =>
    intro i g hi hn hB h1 h2 h3
    refine pk_le 12 i (fun h => Exists.intro 13 (sg_xj117 (j := j) (j1 := j + 1) (by omega) (by omega) (by omega) hC12 (f0 := a_spans) (fun g hg hg2 => H g hg (fun x hx => hg2 x hx (by omega))) 13 0 g (by omega) (by omega) ?_ (fun i' m hi' => by omega) (fun x hx _ => h3 x hx))) (fun h => ⟨pk_in (12 * (j + 1) + i) 144 (by omega) (nI_add _ _), nm_r (sg_rd (12 * (j + 1) + i) (nI_add _ _) (by omega) rfl) (Exists.intro _ (sg_xj24 (post := post) (by omega) (by omega) h hf hB hB12 _ 0 (g (12 * (j + 1) + i)) (fun _ => False) rfl ?_ (fun m hm => hm.elim) ?_ ?_))⟩)
    · intro i' m hi' hm
      exact h1 i' m (by omega) hm
    · intro m hm hb
      rw [h2 i m (Nat.le_refl _) h hm] at hb
      exact hA12 i m hb
    · intro m hm
      rw [b_0]; simp
    · intro y hy
      refine ih (i + 1) _ (by omega) (by omega) ?_ ?_ ?_ ?_
      · intro i' m hi' hm
        rw [pk_un (by omega)]; exact hB i' m hi' hm
      · intro i' m hi' hm
        by_cases e : i' = i
        · rw [e, pk_us]
          refine sg_be ?_
          rw [hy m hm]
          constructor
          · intro z
            rcases z with z | ⟨jj, k, z1, z2, z3, z4, z5, z6⟩
            · exact z.elim
            · rw [h2 i jj (Nat.le_refl _) h (by omega)] at z5
              exact ⟨jj, k, z1, z2, z3, z4, z5, z6⟩
          · intro ⟨jj, k, z1, z2, z3, z4, z5, z6⟩
            refine Or.inr ⟨jj, k, z1, z2, z3, z4, ?_, z6⟩
            rw [h2 i jj (Nat.le_refl _) h (by omega)]; exact z5
        · rw [pk_un (by omega)]; exact h1 i' m (by omega) hm
      · intro i' m hi' hi2 hm
        rw [pk_un (by omega)]; exact h2 i' m (by omega) hi2 hm
      · intro x hx
        rw [pk_un (by omega)]; exact h3 x hx
theorem sg_xjoin {post : SX → Prop} {j far : Nat} (hj : j + 1 < 12) (hf : far ≤ 3) {A B : Nat → Nat → Bool} (hA12 : ∀ i m, A i m = true → m < 12) (hB12 : ∀ k m, B k m = true → m < 12) (hA : sg_Row a_spans (j + 1) A) (hB : sg_Row a_spans j B)
    (H : ∀ g, sg_Row g j (sg_chn A B far) → (∀ x, x < 12 * j → g x = a_spans x) → post (f_documents, f_added, f_deleted, f_segments, f_total, f_words, f_base, f_kept, a_number, a_length, a_price, a_places, a_having, a_end, a_level, a_text, a_query, a_size, a_wanted, a_news, a_waiting, a_sets, a_scores, a_rarity, g, a_best, a_worth, a_keptNumber, a_keptScore, a_shares)) : wpX_join post (f_documents, f_added, f_deleted, f_segments, f_total, f_words, f_base, f_kept, a_number, a_length, a_price, a_places, a_having, a_end, a_level, a_text, a_query, a_size, a_wanted, a_news, a_waiting, a_sets, a_scores, a_rarity, a_spans, a_best, a_worth, a_keptNumber, a_keptScore, a_shares) (nI (12 * (j + 1))) (nI (12 * j)) (nI far) :=
  Exists.intro 13 (sg_xj3 hj hf hA12 hB12 H 13 0 a_spans (by omega) (by omega) hB (fun i' m hi' => by omega) (fun i' m _ hi' hm => hA i' m hi' hm) (fun x _ => rfl))
end
end
section
/-! X: spansOf, spanning, priced, match -/
theorem sg_dm (q : Nat) : nI q - 1 = nI q + (-1) := by
  cases q with
  | zero => decide
  | succ q => rw [nI_pred, pk_m1]
theorem sg_pdlt {A B : Prop} {q p : Nat} (hq : q < 2 ^ 30) (hp : p < 2 ^ 30) (f : q ≤ p → A) (g : p < q → B) : (nI q + (-1) < nI p → A) ∧ (¬ nI q + (-1) < nI p → B) := by
  cases q with
  | zero =>
    refine br_t ?_ (f (by omega))
    rw [Int32.lt_iff_toInt_lt, nI_toInt (by omega)]
    show (-1 : Int) < _
    omega
  | succ q =>
    rw [pk_m1]
    exact pk_lt q p (fun h => f (by omega)) (fun h => g (by omega))
section
variable {f_documents f_added f_deleted f_segments f_total f_words f_base f_kept : Int32} {a_number a_length a_price a_places a_having a_end a_level a_text a_query a_size a_wanted a_news a_waiting a_sets a_scores a_rarity a_spans a_best a_worth a_keptNumber a_keptScore a_shares : Nat → Int32}
theorem sg_xs58 {post : Int32 → SX → Prop} {J14 : Int32 → Int32 → Int32 → Int32 → Int32 → Int32 → Int32 → Int32 → Int32 → Int32 → (Nat → Int32) → (Nat → Int32) → (Nat → Int32) → (Nat → Int32) → (Nat → Int32) → (Nat → Int32) → (Nat → Int32) → (Nat → Int32) → (Nat → Int32) → (Nat → Int32) → (Nat → Int32) → (Nat → Int32) → (Nat → Int32) → (Nat → Int32) → (Nat → Int32) → (Nat → Int32) → (Nat → Int32) → (Nat → Int32) → (Nat → Int32) → (Nat → Int32) → (Nat → Int32) → (Nat → Int32) → Prop} {x1 x2 x5 x7 : Int32} {T : List Nat} {t j : Nat} (hj : j < 12) (hT : T.length ≤ 12) (ht : t < 8) (h7 : ∀ m, m < 32 → bt x7 m = decide (T.getD m 8 = t))
    (H : ∀ g, sg_Row g j (sg_wsp T t) → (∀ x, x < 12 * j → g x = a_spans x) → J14 (nI (j + 1)) (x5 + (-1)) f_documents f_added f_deleted f_segments f_total f_words f_base f_kept a_number a_length a_price a_places a_having a_end a_level a_text a_query a_size a_wanted a_news a_waiting a_sets a_scores a_rarity g a_best a_worth a_keptNumber a_keptScore a_shares) :
    ∀ n i g, i ≤ 12 → 12 - i < n → (∀ i' m, i' < i → m < 32 → bt (g (12 * j + i')) m = sg_wsp T t i' m) → (∀ x, x < 12 * j → g x = a_spans x) →
      wX_spansOf_58 post J14 x1 x2 (nI j) x5 x7 f_documents f_added f_deleted f_segments f_total f_words f_base f_kept n (nI i) a_number a_length a_price a_places a_having a_end a_level a_text a_query a_size a_wanted a_news a_waiting a_sets a_scores a_rarity g a_best a_worth a_keptNumber a_keptScore a_shares := by
  intro n
  induction n with
  | zero => intro i g _ h; omega
  | succ n ih =>
    intro i g hi hn h1 h2
    have ex : (12 : Int32) * nI j + nI i = nI (12 * j + i) := by
      rw [show (12 : Int32) * nI j = nI (12 * j) from pk_mul 12 j, nI_add]
    have hb : ∀ m, m < 32 → bt (x7 &&& ((1 : Int32) <<< (nI i &&& 31))) m = if i < 12 then sg_wsp T t i m else bt (x7 &&& ((1 : Int32) <<< (nI i &&& 31))) m := by
      intro m hm
      by_cases z : i < 12
      · rw [if_pos z, b_and, h7 m hm, sg_one i (by omega) m hm]
        unfold sg_wsp
        by_cases e : m = i
        · subst e; simp
        · have e2 : ¬ i = m := fun q => e q.symm
          simp [e, e2]
      · rw [if_neg z]
    refine pk_le 12 i (fun h => nm_r (nI_1 j) (nm_e (H g (fun i' m hi' hm => h1 i' m (by omega) hm) h2))) (fun h => ⟨pk_in (12 * j + i) 144 (by omega) ex, nm_r (sg_wr (12 * j + i) ex (by omega) (sg_shs (fun m hm h12 => ?_))) (nm_r (nI_1 i) (ih (i + 1) _ (by omega) (by omega) ?_ ?_))⟩)
    · rw [hb m hm, if_pos h]
      refine decide_eq_false ?_
      intro ⟨z1, z2⟩
      omega
    · intro i' m hi' hm
      by_cases e : i' = i
      · rw [e, pk_us, hb m hm, if_pos h]
      · rw [pk_un (by omega)]; exact h1 i' m (by omega) hm
    · intro x hx
      rw [pk_un (by omega)]; exact h2 x hx
theorem sg_xs14 {post : Int32 → SX → Prop} {B d fr : Nat} {T : List Nat} (hd : d < 32) (hT : T.length ≤ 12) (hpl : ∀ w i, w < 8 → i < 32 → bt (a_places (8 * d + w)) i = decide (T.getD i 8 = w)) {e : List Nat} (h : sg_Sp e) :
    ∀ n p j g, 2 * j + e.length + 1 ≤ 24 → fr ≤ p → B + p + e.length ≤ 96 → sg_At a_query (B + p) e →
      (∀ g', sg_Row g' j (sg_S T e) → (∀ x, x < 12 * j → g' x = g x) → wX_spansOf_14 post (nI d) (nI fr) n (nI (j + 1)) (nI p + (-1)) f_documents f_added f_deleted f_segments f_total f_words (nI B) f_kept a_number a_length a_price a_places a_having a_end a_level a_text a_query a_size a_wanted a_news a_waiting a_sets a_scores a_rarity g' a_best a_worth a_keptNumber a_keptScore a_shares) →
      wX_spansOf_14 post (nI d) (nI fr) (n + e.length) (nI j) (nI (p + e.length) + (-1)) f_documents f_added f_deleted f_segments f_total f_words (nI B) f_kept a_number a_length a_price a_places a_having a_end a_level a_text a_query a_size a_wanted a_news a_waiting a_sets a_scores a_rarity g a_best a_worth a_keptNumber a_keptScore a_shares := by
  refine sg_Sp_ind (R := fun e => ∀ n p j g, 2 * j + e.length + 1 ≤ 24 → fr ≤ p → B + p + e.length ≤ 96 → sg_At a_query (B + p) e →
      (∀ g', sg_Row g' j (sg_S T e) → (∀ x, x < 12 * j → g' x = g x) → wX_spansOf_14 post (nI d) (nI fr) n (nI (j + 1)) (nI p + (-1)) f_documents f_added f_deleted f_segments f_total f_words (nI B) f_kept a_number a_length a_price a_places a_having a_end a_level a_text a_query a_size a_wanted a_news a_waiting a_sets a_scores a_rarity g' a_best a_worth a_keptNumber a_keptScore a_shares) →
      wX_spansOf_14 post (nI d) (nI fr) (n + e.length) (nI j) (nI (p + e.length) + (-1)) f_documents f_added f_deleted f_segments f_total f_words (nI B) f_kept a_number a_length a_price a_places a_having a_end a_level a_text a_query a_size a_wanted a_news a_waiting a_sets a_scores a_rarity g a_best a_worth a_keptNumber a_keptScore a_shares) ?_ ?_ h
  · intro t ht n p j g hj hfr hp hat H
    have hlen : [t].length = 1 := rfl
    rw [hlen] at hj hp ⊢
    rw [pk_m1]
    have hq := (sg_At_c hat).1
    have ex : (8 : Int32) * nI d + nI t = nI (8 * d + t) := by
      rw [show (8 : Int32) * nI d = nI (8 * d) from pk_mul 8 d, nI_add]
    refine pk_lt p fr (fun z => ?_) (fun z => ⟨pk_in (B + p) 96 (by omega) (nI_add _ _), nm_r (sg_rd (B + p) (nI_add _ _) (by omega) hq) (pk_le 8 t (fun z2 => ?_) (fun z2 => ⟨pk_in (8 * d + t) 256 (by omega) ex, nm_r (sg_rd (8 * d + t) ex (by omega) rfl) (Exists.intro 13 (sg_xs58 (T := T) (t := t) (j := j) (by omega) hT ht (fun m hm => hpl t m ht hm) (fun g' hg hg2 => ?_) 13 0 g (by omega) (by omega) (fun i' m hi' => by omega) (fun x _ => rfl)))⟩))⟩)
    · omega
    · omega
    · exact H g' (by rw [sg_S_w ht]; exact hg) hg2
  · intro t a b ht ha hb ia ib n p j g hj hfr hp hat H
    have hla := sg_Tr_pos (sg_Sp_Tr ha)
    have hlb := sg_Tr_pos (sg_Sp_Tr hb)
    have hlen : (t :: (a ++ b)).length = (a.length + b.length) + 1 := by simp
    rw [hlen] at hj hp
    rw [hlen, show n + (a.length + b.length + 1) = (n + 1 + a.length) + b.length by omega, show p + (a.length + b.length + 1) = p + 1 + a.length + b.length by omega]
    obtain ⟨hq, hr⟩ := sg_At_c hat
    obtain ⟨hra, hrb⟩ := sg_At_a hr
    refine ib (n + 1 + a.length) (p + 1 + a.length) j g (by omega) (by omega) (by omega) (by rw [show B + (p + 1 + a.length) = B + p + 1 + a.length by omega]; exact hrb) ?_
    intro g1 r1 k1
    refine ia (n + 1) (p + 1) (j + 1) g1 (by omega) (by omega) (by omega) (by rw [show B + (p + 1) = B + p + 1 by omega]; exact hra) ?_
    intro g2 r2 k2
    rw [pk_m1]
    have r1' : sg_Row g2 j (sg_S T b) := fun i m hi hm => by rw [k2 (12 * j + i) (by omega)]; exact r1 i m hi hm
    have e1 : (12 : Int32) * nI (j + 1) = nI (12 * (j + 1)) := pk_mul 12 (j + 1)
    have e2 : (12 : Int32) * nI (j + 1) - 12 = nI (12 * j) := by
      rw [e1, show (12 : Int32) = nI 12 from rfl, pk_sub (by omega)]
      exact congrArg nI (by omega)
    have key : ∀ far : Nat, far ≤ 3 → sg_S T (t :: (a ++ b)) = sg_chn (sg_S T a) (sg_S T b) far → wX_spansOf_127 post (wX_spansOf_14 post (nI d) (nI fr) n) (nI d) (nI fr) (nI (j + 1)) (nI p) (nI far) ((12 : Int32) * nI (j + 1) - 12) ((12 : Int32) * nI (j + 1)) f_documents f_added f_deleted f_segments f_total f_words (nI B) f_kept a_number a_length a_price a_places a_having a_end a_level a_text a_query a_size a_wanted a_news a_waiting a_sets a_scores a_rarity g2 a_best a_worth a_keptNumber a_keptScore a_shares := by
      intro far hf he
      unfold wX_spansOf_127
      rw [e2, e1]
      refine sg_xjoin (j := j) (far := far) (by omega) hf (fun i m hh => (sg_S_bd hT ha i m hh).2) (fun i m hh => (sg_S_bd hT hb i m hh).2) r2 r1' ?_
      intro g3 r3 k3
      refine nm_e (H g3 (by rw [he]; exact r3) (fun x hx => ?_))
      rw [k3 x hx, k2 x (by omega), k1 x hx]
    refine pk_lt p fr (fun z => ?_) (fun z => ⟨pk_in (B + p) 96 (by omega) (nI_add _ _), nm_r (sg_rd (B + p) (nI_add _ _) (by omega) hq) (pk_le 8 t (fun z2 => nm_r (pk_m1 (j + 1)) (pk_eq t 11 (fun z3 => ?_) (fun z3 => ?_))) (fun z2 => ?_))⟩)
    · omega
    · exact key 1 (by omega) (by rw [sg_S_o ht ha hb, if_pos z3])
    · exact key 3 (by omega) (by rw [sg_S_o ht ha hb, if_neg z3])
    · omega
theorem sg_xs142 {post : Int32 → SX → Prop} {s : Nat → Nat → Bool} (h12 : ∀ i m, s i m = true → m < 12) (hR : sg_Row a_spans 0 s) (H : post (nI (sg_nsp s)) (f_documents, f_added, f_deleted, f_segments, f_total, f_words, f_base, f_kept, a_number, a_length, a_price, a_places, a_having, a_end, a_level, a_text, a_query, a_size, a_wanted, a_news, a_waiting, a_sets, a_scores, a_rarity, a_spans, a_best, a_worth, a_keptNumber, a_keptScore, a_shares)) :
    ∀ n i, i ≤ 12 → 12 - i < n → wX_spansOf_142 post f_documents f_added f_deleted f_segments f_total f_words f_base f_kept a_number a_length a_price a_places a_having a_end a_level a_text a_query a_size a_wanted a_news a_waiting a_sets a_scores a_rarity a_spans a_best a_worth a_keptNumber a_keptScore a_shares n (nI (sg_c (fun x => s (x / 12) (x % 12)) (12 * i))) (nI i) := by
  intro n
  induction n with
  | zero => intro i _ h; omega
  | succ n ih =>
    intro i hi hn
    refine pk_le 12 i (fun h => ?_) (fun h => ⟨pk_in i 144 (by omega), ?_⟩)
    · obtain rfl : i = 12 := by omega
      exact H
    · rw [nI_clamp (show i < 2 ^ 31 by omega)]
      have e : sg_c (bt (a_spans i)) 32 = sg_c (fun y => s ((12 * i + y) / 12) ((12 * i + y) % 12)) 12 := by
        rw [sg_c_ext (a := 12) (by omega) (fun m hm hm2 => ?_)]
        · refine sg_c_eq (fun y hy => ?_)
          have := hR i y h (by omega)
          rw [Nat.mul_zero, Nat.zero_add] at this
          rw [this]
          show s i y = s ((12 * i + y) / 12) ((12 * i + y) % 12)
          rw [show (12 * i + y) / 12 = i by omega, show (12 * i + y) % 12 = y by omega]
        · have := hR i m h hm2
          rw [Nat.mul_zero, Nat.zero_add] at this
          rw [this]
          cases e : s i m
          · rfl
          · have := h12 i m e; omega
      refine sg_count e (nm_r (e' := nI (sg_c (fun x => s (x / 12) (x % 12)) (12 * (i + 1)))) ?_ (nm_r (nI_1 i) (ih (i + 1) (by omega) (by omega))))
      rw [nI_add, show 12 * (i + 1) = 12 * i + 12 by omega, sg_c_add]
theorem sg_xspansOf {post : Int32 → SX → Prop} {B p d : Nat} {T : List Nat} {e : List Nat} (h : sg_Sp e) (hl : e.length ≤ 15) (hB : B + p + e.length ≤ 96) (hat : sg_At a_query (B + p) e) (hd : d < 32) (hT : T.length ≤ 12) (hpl : ∀ w i, w < 8 → i < 32 → bt (a_places (8 * d + w)) i = decide (T.getD i 8 = w))
    (H : ∀ g, post (nI (sg_nsp (sg_S T e))) (f_documents, f_added, f_deleted, f_segments, f_total, f_words, nI B, f_kept, a_number, a_length, a_price, a_places, a_having, a_end, a_level, a_text, a_query, a_size, a_wanted, a_news, a_waiting, a_sets, a_scores, a_rarity, g, a_best, a_worth, a_keptNumber, a_keptScore, a_shares)) : wpX_spansOf post (f_documents, f_added, f_deleted, f_segments, f_total, f_words, nI B, f_kept, a_number, a_length, a_price, a_places, a_having, a_end, a_level, a_text, a_query, a_size, a_wanted, a_news, a_waiting, a_sets, a_scores, a_rarity, a_spans, a_best, a_worth, a_keptNumber, a_keptScore, a_shares) (nI d) (nI p) := by
  have hx : wpX_behind (fun r_1 => ∀ x5 : Int32, x5 = r_1 - 1 → ∃ n14 : Nat, wX_spansOf_14 post (nI d) (nI p) n14 0 x5 f_documents f_added f_deleted f_segments f_total f_words (nI B) f_kept a_number a_length a_price a_places a_having a_end a_level a_text a_query a_size a_wanted a_news a_waiting a_sets a_scores a_rarity a_spans a_best a_worth a_keptNumber a_keptScore a_shares) (f_documents, f_added, f_deleted, f_segments, f_total, f_words, nI B, f_kept, a_number, a_length, a_price, a_places, a_having, a_end, a_level, a_text, a_query, a_size, a_wanted, a_news, a_waiting, a_sets, a_scores, a_rarity, a_spans, a_best, a_worth, a_keptNumber, a_keptScore, a_shares) (nI p) := by
    refine sg_xbehind (sg_Sp_Tr h) hB hat (nm_r (sg_dm _) (Exists.intro (1 + e.length) ?_))
    refine sg_xs14 (fr := p) hd hT hpl h 1 p 0 a_spans (by omega) (Nat.le_refl _) hB hat ?_
    intro g r _
    refine sg_pdlt (by omega) (by omega) (fun _ => Exists.intro 13 ?_) (fun z => ?_)
    · exact sg_xs142 (fun i m hh => (sg_S_bd hT h i m hh).2) r (H g) 13 0 (by omega) (by omega)
    · omega
  exact hx
/-! spanning -/
theorem sg_xspan5 {post : Int32 → SX → Prop} {L : List sg_D} {B p : Nat} {e : List Nat} (h : sg_Sp e) (hl : e.length ≤ 15) (hB : B + p + e.length ≤ 96) (hat : sg_At a_query (B + p) e) (hT : ∀ i, (sg_T L i).length ≤ 12) (hL : L.length ≤ 32) (hpl : ∀ k w i, k < L.length → w < 8 → i < 32 → bt (a_places (8 * k + w)) i = decide ((sg_T L k).getD i 8 = w)) {c0 : Int32} (hc0 : ∀ d, d < 32 → bt c0 d = true → d < L.length)
    (H : ∀ r g, (∀ d, d < 32 → bt r d = (bt c0 d && decide (0 < sg_nsp (sg_S (sg_T L d) e)))) → post r (f_documents, f_added, f_deleted, f_segments, f_total, f_words, nI B, f_kept, a_number, a_length, a_price, a_places, a_having, a_end, a_level, a_text, a_query, a_size, a_wanted, a_news, a_waiting, a_sets, a_scores, a_rarity, g, a_best, a_worth, a_keptNumber, a_keptScore, a_shares)) :
    ∀ c x3 x4 g, sg_c (bt x4) 32 = c → (∀ d, d < 32 → bt x4 d = true → bt c0 d = true ∧ bt x3 d = false) → (∀ d, d < 32 → bt x4 d = false → bt x3 d = (bt c0 d && decide (0 < sg_nsp (sg_S (sg_T L d) e)))) → wX_spanning_5 post (nI p) (c + 1) x3 x4 f_documents f_added f_deleted f_segments f_total f_words (nI B) f_kept a_number a_length a_price a_places a_having a_end a_level a_text a_query a_size a_wanted a_news a_waiting a_sets a_scores a_rarity g a_best a_worth a_keptNumber a_keptScore a_shares := by
  intro c
  induction c with
  | zero =>
    intro x3 x4 g hc h1 h2
    have hz : ∀ m, m < 32 → bt x4 m = false := fun m hm => by
      cases e : bt x4 m
      · rfl
      · have := sg_c_pos.mpr ⟨m, hm, e⟩; omega
    exact br_t (sg_z hz) (H x3 g (fun d hd => h2 d hd (hz d hd)))
  | succ c ih =>
    intro x3 x4 g hc h1 h2
    have hz : ¬ x4 = 0 := fun z => by rw [z, sg_c_0 (fun k _ => b_0 k)] at hc; omega
    obtain ⟨d, d1, d2, d3⟩ := sg_lowest hz
    have hdec := sg_dec d1 d2 d3
    have hdL := hc0 d d1 (h1 d d1 d2).1
    refine br_f hz (nm_e (sg_count_lo d1 d2 d3 (sg_xspansOf (T := sg_T L d) h hl hB hat d1 (hT d) (fun w i hw hi => hpl d w i hdL hw hi) (fun g' => ?_))))
    have hn := sg_nsp_le (sg_S (sg_T L d) e)
    refine pk_le (sg_nsp (sg_S (sg_T L d) e)) 0 (fun z => nm_e (ih _ _ g' (by omega) ?_ ?_)) (fun z => nm_e (nm_e (ih _ _ g' (by omega) ?_ ?_)))
    · intro q hq hb
      rw [sg_lo_and d2 d3 hq, Bool.and_eq_true] at hb
      exact h1 q hq hb.1
    · intro q hq hb
      rw [sg_lo_and d2 d3 hq] at hb
      by_cases e : q = d
      · subst e
        rw [(h1 q hq d2).2, decide_eq_false (by omega), Bool.and_false]
      · rw [decide_eq_true e, Bool.and_true] at hb
        exact h2 q hq hb
    · intro q hq hb
      rw [sg_lo_and d2 d3 hq, Bool.and_eq_true] at hb
      have e : q ≠ d := of_decide_eq_true hb.2
      rw [b_or, sg_lo_bit d1 d2 d3, sg_one d d1 q hq, decide_eq_false e, Bool.or_false]
      exact h1 q hq hb.1
    · intro q hq hb
      rw [sg_lo_and d2 d3 hq] at hb
      rw [b_or, sg_lo_bit d1 d2 d3, sg_one d d1 q hq]
      by_cases e : q = d
      · subst e
        rw [(h1 q hq d2).1, decide_eq_true rfl, decide_eq_true z]; simp
      · rw [decide_eq_true e, Bool.and_true] at hb
        rw [decide_eq_false e, Bool.or_false]
        exact h2 q hq hb
theorem sg_xspanning {post : Int32 → SX → Prop} {L : List sg_D} {B p : Nat} {e : List Nat} (h : sg_Sp e) (hl : e.length ≤ 15) (hB : B + p + e.length ≤ 96) (hat : sg_At a_query (B + p) e) (hT : ∀ i, (sg_T L i).length ≤ 12) (hL : L.length ≤ 32) (hpl : ∀ k w i, k < L.length → w < 8 → i < 32 → bt (a_places (8 * k + w)) i = decide ((sg_T L k).getD i 8 = w)) {c0 : Int32} (hc0 : ∀ d, d < 32 → bt c0 d = true → d < L.length)
    (H : ∀ r g, (∀ d, d < 32 → bt r d = (bt c0 d && decide (0 < sg_nsp (sg_S (sg_T L d) e)))) → post r (f_documents, f_added, f_deleted, f_segments, f_total, f_words, nI B, f_kept, a_number, a_length, a_price, a_places, a_having, a_end, a_level, a_text, a_query, a_size, a_wanted, a_news, a_waiting, a_sets, a_scores, a_rarity, g, a_best, a_worth, a_keptNumber, a_keptScore, a_shares)) : wpX_spanning post (f_documents, f_added, f_deleted, f_segments, f_total, f_words, nI B, f_kept, a_number, a_length, a_price, a_places, a_having, a_end, a_level, a_text, a_query, a_size, a_wanted, a_news, a_waiting, a_sets, a_scores, a_rarity, a_spans, a_best, a_worth, a_keptNumber, a_keptScore, a_shares) (nI p) c0 := by
  refine Exists.intro _ (sg_xspan5 h hl hB hat hT hL hpl hc0 H _ 0 c0 a_spans rfl (fun d hd hb => ⟨hb, b_0 d⟩) (fun d hd hb => ?_))
  rw [b_0, hb]; rfl
theorem sg_xpriced {post : Int32 → Prop} {L : List sg_D} {all : Int32} {lo hi : Nat} (hlo : lo < 1000) (hhi : hi < 1000) (hL : L.length ≤ 32) (hn : f_documents = nI L.length) (hpr : ∀ k, k < L.length → a_price k = nI (sg_pr L k)) (hp9 : ∀ i, sg_pr L i ≤ 99) (hall : ∀ d, d < 32 → bt all d = true → d < L.length)
    (H : ∀ r, (∀ d, d < 32 → bt r d = (bt all d && decide (lo ≤ sg_pr L d ∧ sg_pr L d ≤ hi))) → post r) : wpX_priced post (f_documents, f_added, f_deleted, f_segments, f_total, f_words, f_base, f_kept, a_number, a_length, a_price, a_places, a_having, a_end, a_level, a_text, a_query, a_size, a_wanted, a_news, a_waiting, a_sets, a_scores, a_rarity, a_spans, a_best, a_worth, a_keptNumber, a_keptScore, a_shares) all (nI lo) (nI hi) := by
  have key : ∀ n i x4, i ≤ L.length → L.length - i < n → (∀ d, d < 32 → bt x4 d = decide (d < i ∧ lo ≤ sg_pr L d ∧ sg_pr L d ≤ hi)) → wX_priced_6 post all (nI lo) (nI hi) f_documents f_added f_deleted f_segments f_total f_words f_base f_kept a_number a_length a_price a_places a_having a_end a_level a_text a_query a_size a_wanted a_news a_waiting a_sets a_scores a_rarity a_spans a_best a_worth a_keptNumber a_keptScore a_shares n x4 (nI i) := by
    intro n
    induction n with
    | zero => intro i x4 _ h; omega
    | succ n ih =>
      intro i x4 hi' hn' hx
      have h99 := hp9 i
      refine pk_le L.length i (fun z => H _ (fun d hd => ?_)) (fun z => ⟨pk_in i 32 (by omega), ?_⟩) hn
      · rw [b_and, hx d hd]
        cases e : bt all d
        · simp
        · have := hall d hd e
          rw [Bool.and_true, Bool.true_and]
          have : d < i := by omega
          simp [this]
      · have er : a_price (nI i).toNatClampNeg = nI (sg_pr L i) := sg_rd i rfl (by omega) (hpr i z)
        rw [er]
        refine pk_lt (sg_pr L i) lo (fun z2 => nm_r (nI_1 i) (ih (i + 1) _ (by omega) (by omega) (fun d hd => ?_))) (fun z2 => ⟨pk_in i 32 (by omega), pk_lt hi (sg_pr L i) (fun z3 => nm_r (nI_1 i) (ih (i + 1) _ (by omega) (by omega) (fun d hd => ?_))) (fun z3 => nm_e (nm_r (nI_1 i) (ih (i + 1) _ (by omega) (by omega) (fun d hd => ?_))))⟩)
        · rw [hx d hd]
          by_cases e : d = i
          · subst e
            rw [decide_eq_false (by omega), decide_eq_false (by omega)]
          · exact sg_beq (by simp only [decide_eq_true_iff]; omega)
        · rw [hx d hd]
          by_cases e : d = i
          · subst e
            rw [decide_eq_false (by omega), decide_eq_false (by omega)]
          · exact sg_beq (by simp only [decide_eq_true_iff]; omega)
        · rw [b_or, hx d hd, sg_one i (by omega) d hd]
          by_cases e : d = i
          · subst e
            rw [decide_eq_true rfl, decide_eq_true (show d < d + 1 ∧ lo ≤ sg_pr L d ∧ sg_pr L d ≤ hi by omega)]
            simp
          · rw [decide_eq_false e, Bool.or_false]
            exact sg_beq (by simp only [decide_eq_true_iff]; omega)
  exact Exists.intro (L.length + 1) (key _ 0 0 (by omega) (by omega) (fun d hd => by rw [b_0, decide_eq_false (by omega)]))
/-! match -/
theorem sg_xm_s {post : Int32 → SX → Prop} {L : List sg_D} {B : Nat} (hT : ∀ i, (sg_T L i).length ≤ 12) (hL : L.length ≤ 32) (hD : sg_XD L f_documents f_deleted a_number a_length a_price a_places a_having) {all : Int32} (hall : ∀ d, d < 32 → bt all d = true → d < L.length) {e : List Nat} (h : sg_Sp e) :
    ∀ n p j s g, 2 * j + e.length + 1 ≤ 24 → B + p + e.length ≤ 96 → p + e.length ≤ 15 → sg_At a_query (B + p) e →
      (∀ s' g', (∀ d, d < 32 → bt (s' j) d = (bt all d && decide (0 < sg_nsp (sg_S (sg_T L d) e)))) → (∀ x, x < j → s' x = s x) → wX_match_9 post all n (nI (j + 1)) (nI p + (-1)) f_documents f_added f_deleted f_segments f_total f_words (nI B) f_kept a_number a_length a_price a_places a_having a_end a_level a_text a_query a_size a_wanted a_news a_waiting s' a_scores a_rarity g' a_best a_worth a_keptNumber a_keptScore a_shares) →
      wX_match_9 post all (n + e.length) (nI j) (nI (p + e.length) + (-1)) f_documents f_added f_deleted f_segments f_total f_words (nI B) f_kept a_number a_length a_price a_places a_having a_end a_level a_text a_query a_size a_wanted a_news a_waiting s a_scores a_rarity g a_best a_worth a_keptNumber a_keptScore a_shares := by
  refine sg_Sp_ind (R := fun e => ∀ n p j s g, 2 * j + e.length + 1 ≤ 24 → B + p + e.length ≤ 96 → p + e.length ≤ 15 → sg_At a_query (B + p) e →
      (∀ s' g', (∀ d, d < 32 → bt (s' j) d = (bt all d && decide (0 < sg_nsp (sg_S (sg_T L d) e)))) → (∀ x, x < j → s' x = s x) → wX_match_9 post all n (nI (j + 1)) (nI p + (-1)) f_documents f_added f_deleted f_segments f_total f_words (nI B) f_kept a_number a_length a_price a_places a_having a_end a_level a_text a_query a_size a_wanted a_news a_waiting s' a_scores a_rarity g' a_best a_worth a_keptNumber a_keptScore a_shares) →
      wX_match_9 post all (n + e.length) (nI j) (nI (p + e.length) + (-1)) f_documents f_added f_deleted f_segments f_total f_words (nI B) f_kept a_number a_length a_price a_places a_having a_end a_level a_text a_query a_size a_wanted a_news a_waiting s a_scores a_rarity g a_best a_worth a_keptNumber a_keptScore a_shares) ?_ ?_ h
  · intro t ht n p j s g hj hp h15 hat H
    have hlen : [t].length = 1 := rfl
    rw [hlen] at hj hp h15 ⊢
    rw [pk_m1]
    have hq := (sg_At_c hat).1
    have hh : a_having (nI t).toNatClampNeg = a_having t := by rw [nI_clamp (by omega)]
    refine br_f (nI_pos (by omega)) ⟨pk_in (B + p) 96 (by omega) (nI_add _ _), nm_r (sg_rd (B + p) (nI_add _ _) (by omega) hq) (pk_le 8 t (fun z2 => ?_) (fun z2 => nm_r (nI_1 j) ⟨pk_in t 8 ht, pk_in j 18 (by omega), nm_r (sg_wr j rfl (by omega) (congrArg (· &&& all) hh)) (nm_e (H _ g (fun d hd => ?_) (fun x hx => pk_un (by omega))))⟩))⟩
    · omega
    · rw [pk_us, b_and, hD.2.2.2.1 t d ht hd, Bool.and_comm]
      congr 1
      exact sg_beq (by simp only [decide_eq_true_iff]; exact (sg_nsp_w (hT d) ht).symm)
  · intro t a b ht ha hb ia ib n p j s g hj hp h15 hat H
    have hla := sg_Tr_pos (sg_Sp_Tr ha)
    have hlb := sg_Tr_pos (sg_Sp_Tr hb)
    have hlen : (t :: (a ++ b)).length = (a.length + b.length) + 1 := by simp
    rw [hlen] at hj hp h15
    rw [hlen, show n + (a.length + b.length + 1) = (n + 1 + a.length) + b.length by omega, show p + (a.length + b.length + 1) = p + 1 + a.length + b.length by omega]
    obtain ⟨hq, hr⟩ := sg_At_c hat
    obtain ⟨hra, hrb⟩ := sg_At_a hr
    refine ib (n + 1 + a.length) (p + 1 + a.length) j s g (by omega) (by omega) (by omega) (by rw [show B + (p + 1 + a.length) = B + p + 1 + a.length by omega]; exact hrb) ?_
    intro s1 g1 r1 k1
    refine ia (n + 1) (p + 1) (j + 1) s1 g1 (by omega) (by omega) (by omega) (by rw [show B + (p + 1) = B + p + 1 by omega]; exact hra) ?_
    intro s2 g2 r2 k2
    rw [pk_m1]
    have e3 : nI (j + 1) - 1 = nI j := nI_pred j
    refine br_f (nI_pos (by omega)) ⟨pk_in (B + p) 96 (by omega) (nI_add _ _), nm_r (sg_rd (B + p) (nI_add _ _) (by omega) hq) (pk_le 8 t (fun z2 => pk_le t 999 (fun z3 => nm_r (pk_m1 (j + 1)) ⟨pk_in (j + 1) 18 (by omega), nm_r (sg_rd (j + 1) rfl (by omega) rfl) ⟨pk_in j 18 (by omega) e3, nm_r (sg_rd j e3 (by omega) rfl) (pk_eq t 9 (fun z4 => ?_) (fun z4 => pk_eq t 10 (fun z5 => ?_) (fun z5 => pk_eq t 8 (fun z6 => ?_) (fun z6 => ?_))))⟩⟩) (fun z3 => ?_)) (fun z2 => ?_))⟩
    · omega
    · omega
    · omega
    · refine sg_xspanning (L := L) (sg_Sp_o ht ha hb) (by rw [hlen]; omega) (by rw [hlen]; omega) hat hT hL hD.2.2.1 (fun d hd hx => ?_) (fun r g' hr => ⟨pk_in j 18 (by omega) e3, nm_r (sg_wr j e3 (by omega) rfl) (nm_e (H _ g' (fun d hd => ?_) (fun x hx => ?_)))⟩)
      · rw [b_and, r2 d hd, Bool.and_eq_true, Bool.and_eq_true] at hx
        exact hall d hd hx.1.1
      · rw [pk_us, hr d hd, b_and, r2 d hd, k2 j (by omega), r1 d hd]
        cases e1 : bt all d
        · rfl
        · by_cases z : 0 < sg_nsp (sg_S (sg_T L d) (t :: (a ++ b)))
          · have := sg_S_parts (hT d) ht ha hb z
            rw [decide_eq_true z, decide_eq_true this.1, decide_eq_true this.2]; rfl
          · rw [decide_eq_false z, Bool.and_false, Bool.and_false]
      · rw [pk_un (by omega), k2 x (by omega), k1 x hx]
    · omega
    · omega
theorem sg_xm_e {post : Int32 → SX → Prop} {L : List sg_D} {B : Nat} (hT : ∀ i, (sg_T L i).length ≤ 12) (hp9 : ∀ i, sg_pr L i ≤ 99) (hL : L.length ≤ 32) (hD : sg_XD L f_documents f_deleted a_number a_length a_price a_places a_having) {all : Int32} (hall : ∀ d, d < 32 → bt all d = true → d < L.length) {e : List Nat} (h : sg_Ex e) :
    ∀ n p j s g, 2 * j + e.length + 1 ≤ 24 → B + p + e.length ≤ 96 → p + e.length ≤ 15 → sg_At a_query (B + p) e →
      (∀ s' g', (∀ d, d < 32 → bt (s' j) d = (bt all d && sg_M (sg_T L d) (sg_pr L d) e)) → (∀ x, x < j → s' x = s x) → wX_match_9 post all n (nI (j + 1)) (nI p + (-1)) f_documents f_added f_deleted f_segments f_total f_words (nI B) f_kept a_number a_length a_price a_places a_having a_end a_level a_text a_query a_size a_wanted a_news a_waiting s' a_scores a_rarity g' a_best a_worth a_keptNumber a_keptScore a_shares) →
      wX_match_9 post all (n + e.length) (nI j) (nI (p + e.length) + (-1)) f_documents f_added f_deleted f_segments f_total f_words (nI B) f_kept a_number a_length a_price a_places a_having a_end a_level a_text a_query a_size a_wanted a_news a_waiting s a_scores a_rarity g a_best a_worth a_keptNumber a_keptScore a_shares := by
  refine sg_Ex_ind (R := fun e => ∀ n p j s g, 2 * j + e.length + 1 ≤ 24 → B + p + e.length ≤ 96 → p + e.length ≤ 15 → sg_At a_query (B + p) e →
      (∀ s' g', (∀ d, d < 32 → bt (s' j) d = (bt all d && sg_M (sg_T L d) (sg_pr L d) e)) → (∀ x, x < j → s' x = s x) → wX_match_9 post all n (nI (j + 1)) (nI p + (-1)) f_documents f_added f_deleted f_segments f_total f_words (nI B) f_kept a_number a_length a_price a_places a_having a_end a_level a_text a_query a_size a_wanted a_news a_waiting s' a_scores a_rarity g' a_best a_worth a_keptNumber a_keptScore a_shares) →
      wX_match_9 post all (n + e.length) (nI j) (nI (p + e.length) + (-1)) f_documents f_added f_deleted f_segments f_total f_words (nI B) f_kept a_number a_length a_price a_places a_having a_end a_level a_text a_query a_size a_wanted a_news a_waiting s a_scores a_rarity g a_best a_worth a_keptNumber a_keptScore a_shares) ?_ ?_ ?_ h
  · intro e he n p j s g hj hp h15 hat H
    refine sg_xm_s hT hL hD hall he n p j s g hj hp h15 hat (fun s' g' r k => H s' g' (fun d hd => ?_) k)
    rw [r d hd, sg_M_s he]
  · intro t ht hu n p j s g hj hp h15 hat H
    have hlen : [t].length = 1 := rfl
    rw [hlen] at hj hp h15 ⊢
    rw [pk_m1]
    have hq := (sg_At_c hat).1
    have e1 : (nI t - 1000) / 100 = nI ((t - 1000) / 100) := by
      rw [show (1000 : Int32) = nI 1000 from rfl, pk_sub (by omega), show (100 : Int32) = nI 100 from rfl, pk_div (by omega) (by omega) (by omega)]
    have e2 : nI t - nI t / 100 * 100 = nI ((t - 1000) % 100) := by
      rw [show (100 : Int32) = nI 100 from rfl, pk_rem (by omega) (by omega) (by omega)]
      exact congrArg nI (by omega)
    refine br_f (nI_pos (by omega)) ⟨pk_in (B + p) 96 (by omega) (nI_add _ _), nm_r (sg_rd (B + p) (nI_add _ _) (by omega) hq) (pk_le 8 t (fun z2 => pk_le t 999 (fun z3 => ?_) (fun z3 => nm_r (nI_1 j) ⟨by decide, by decide, ?_⟩)) (fun z2 => ?_))⟩
    · omega
    · rw [e1, e2]
      refine sg_xpriced (L := L) (by omega) (by omega) hL hD.1 (fun k hk => (hD.2.1 k hk).2.2) hp9 hall (fun r hr => ⟨pk_in j 18 (by omega), nm_r (sg_wr j rfl (by omega) rfl) (nm_e (H _ g (fun d hd => ?_) (fun x hx => pk_un (by omega))))⟩)
      rw [pk_us, hr d hd, sg_M_p ht hu]; rfl
    · omega
  · intro t a b ht ha hb ia ib n p j s g hj hp h15 hat H
    have hla := sg_Tr_pos (sg_Ex_Tr ha)
    have hlb := sg_Tr_pos (sg_Ex_Tr hb)
    have hlen : (t :: (a ++ b)).length = (a.length + b.length) + 1 := by simp
    rw [hlen] at hj hp h15
    rw [hlen, show n + (a.length + b.length + 1) = (n + 1 + a.length) + b.length by omega, show p + (a.length + b.length + 1) = p + 1 + a.length + b.length by omega]
    obtain ⟨hq, hr⟩ := sg_At_c hat
    obtain ⟨hra, hrb⟩ := sg_At_a hr
    refine ib (n + 1 + a.length) (p + 1 + a.length) j s g (by omega) (by omega) (by omega) (by rw [show B + (p + 1 + a.length) = B + p + 1 + a.length by omega]; exact hrb) ?_
    intro s1 g1 r1 k1
    refine ia (n + 1) (p + 1) (j + 1) s1 g1 (by omega) (by omega) (by omega) (by rw [show B + (p + 1) = B + p + 1 by omega]; exact hra) ?_
    intro s2 g2 r2 k2
    rw [pk_m1]
    have e3 : nI (j + 1) - 1 = nI j := nI_pred j
    have fin : ∀ v : Int32, (∀ d, d < 32 → bt v d = (bt all d && sg_M (sg_T L d) (sg_pr L d) (t :: (a ++ b)))) → wX_match_9 post all n (nI (j + 1)) (nI p + (-1)) f_documents f_added f_deleted f_segments f_total f_words (nI B) f_kept a_number a_length a_price a_places a_having a_end a_level a_text a_query a_size a_wanted a_news a_waiting (upd s2 j v) a_scores a_rarity g2 a_best a_worth a_keptNumber a_keptScore a_shares := by
      intro v hv
      refine H _ g2 (fun d hd => by rw [pk_us]; exact hv d hd) (fun x hx => ?_)
      rw [pk_un (by omega), k2 x (by omega), k1 x hx]
    have mo : ∀ d, sg_M (sg_T L d) (sg_pr L d) (t :: (a ++ b)) = _ := fun d => sg_M_o ht (sg_Ex_Tr ha) (sg_Ex_Tr hb)
    refine br_f (nI_pos (by omega)) ⟨pk_in (B + p) 96 (by omega) (nI_add _ _), nm_r (sg_rd (B + p) (nI_add _ _) (by omega) hq) (pk_le 8 t (fun z2 => pk_le t 999 (fun z3 => nm_r (pk_m1 (j + 1)) ⟨pk_in (j + 1) 18 (by omega), nm_r (sg_rd (j + 1) rfl (by omega) rfl) ⟨pk_in j 18 (by omega) e3, nm_r (sg_rd j e3 (by omega) rfl) (pk_eq t 9 (fun z4 => ⟨pk_in j 18 (by omega) e3, nm_r (sg_wr j e3 (by omega) rfl) (nm_e (fin _ (fun d hd => ?_)))⟩) (fun z4 => pk_eq t 10 (fun z5 => ⟨pk_in j 18 (by omega) e3, nm_r (sg_wr j e3 (by omega) rfl) (nm_e (fin _ (fun d hd => ?_)))⟩) (fun z5 => pk_eq t 8 (fun z6 => ⟨pk_in j 18 (by omega) e3, nm_r (sg_wr j e3 (by omega) rfl) (nm_e (fin _ (fun d hd => ?_)))⟩) (fun z6 => ?_))))⟩⟩) (fun z3 => ?_)) (fun z2 => ?_))⟩
    · rw [b_or, r2 d hd, k2 j (by omega), r1 d hd, mo, if_neg (by omega), if_pos z4]
      cases bt all d <;> rfl
    · rw [b_and, sg_not _ hd, r2 d hd, k2 j (by omega), r1 d hd, mo, if_neg (by omega), if_neg (by omega)]
      cases bt all d <;> rfl
    · rw [b_and, r2 d hd, k2 j (by omega), r1 d hd, mo, if_pos z6]
      cases bt all d <;> simp
    · omega
    · omega
    · omega
theorem sg_xmatch {post : Int32 → SX → Prop} {L : List sg_D} {q : Nat} (hq : q < 6) (hT : ∀ i, (sg_T L i).length ≤ 12) (hp9 : ∀ i, sg_pr L i ≤ 99) (hL : L.length ≤ 32) (hD : sg_XD L f_documents f_deleted a_number a_length a_price a_places a_having) {all : Int32} (hall : ∀ d, d < 32 → bt all d = true → d < L.length) {e : List Nat} (h : sg_Ex e) (hl : e.length ≤ 15) (hz : a_size q = nI e.length) (hat : sg_At a_query (16 * q) e)
    (H : ∀ r s g, (∀ d, d < 32 → bt r d = (bt all d && sg_M (sg_T L d) (sg_pr L d) e)) → post r (f_documents, f_added, f_deleted, f_segments, f_total, f_words, nI (16 * q), f_kept, a_number, a_length, a_price, a_places, a_having, a_end, a_level, a_text, a_query, a_size, a_wanted, a_news, a_waiting, s, a_scores, a_rarity, g, a_best, a_worth, a_keptNumber, a_keptScore, a_shares)) : wpX_match post (f_documents, f_added, f_deleted, f_segments, f_total, f_words, nI (16 * q), f_kept, a_number, a_length, a_price, a_places, a_having, a_end, a_level, a_text, a_query, a_size, a_wanted, a_news, a_waiting, a_sets, a_scores, a_rarity, a_spans, a_best, a_worth, a_keptNumber, a_keptScore, a_shares) all := by
  have hx : wpX_tokens (fun r_1 => ∀ x3 : Int32, x3 = r_1 - 1 → ∃ n9 : Nat, wX_match_9 post all n9 0 x3 f_documents f_added f_deleted f_segments f_total f_words (nI (16 * q)) f_kept a_number a_length a_price a_places a_having a_end a_level a_text a_query a_size a_wanted a_news a_waiting a_sets a_scores a_rarity a_spans a_best a_worth a_keptNumber a_keptScore a_shares) (f_documents, f_added, f_deleted, f_segments, f_total, f_words, nI (16 * q), f_kept, a_number, a_length, a_price, a_places, a_having, a_end, a_level, a_text, a_query, a_size, a_wanted, a_news, a_waiting, a_sets, a_scores, a_rarity, a_spans, a_best, a_worth, a_keptNumber, a_keptScore, a_shares) := by
    refine sg_xtokens hq hz (nm_r (sg_dm _) (Exists.intro (1 + e.length) ?_))
    have := sg_xm_e (post := post) (B := 16 * q) hT hp9 hL hD hall h 1 0 0 a_sets a_spans (by omega) (by omega) (by omega) hat (fun s' g' r _ => br_t (by decide) (H (s' 0) s' g' r))
    rw [Nat.zero_add] at this
    exact this
  exact hx
end
end
section
/-! what watches find: pure -/
def sg_sft (f : Nat → Int32) (a m : Nat) : Nat → Int32 := fun x => if a ≤ x ∧ x < m then f (x + 1) else f x
theorem sg_sft_0 (f : Nat → Int32) (a : Nat) : sg_sft f a a = f := by
  funext x; unfold sg_sft; rw [if_neg (by omega)]
theorem sg_sft_s {f : Nat → Int32} {a k : Nat} (h : a ≤ k) : upd (sg_sft f a k) k (f (k + 1)) = sg_sft f a (k + 1) := by
  funext x
  unfold upd sg_sft
  by_cases e : x = k
  · rw [if_pos e, if_pos (by omega), e]
  · rw [if_neg e]
    by_cases z : a ≤ x ∧ x < k
    · rw [if_pos z, if_pos (by omega)]
    · rw [if_neg z, if_neg (by omega)]
theorem sg_sft_g {f : Nat → Int32} {a m x : Nat} (h : m ≤ x) : sg_sft f a m x = f x := by
  unfold sg_sft; rw [if_neg (by omega)]
def sg_set (N : Nat → List Nat) (w : Nat) (l : List Nat) : Nat → List Nat := fun v => if v = w then l else N v
theorem sg_set_s {N : Nat → List Nat} {w : Nat} {l : List Nat} : sg_set N w l w = l := if_pos rfl
theorem sg_set_n {N : Nat → List Nat} {w v : Nat} {l : List Nat} (h : v ≠ w) : sg_set N w l v = N v := if_neg h
theorem sg_set_2 {N : Nat → List Nat} {w : Nat} {l l' : List Nat} : sg_set (sg_set N w l) w l' = sg_set N w l' := by
  funext v; unfold sg_set; by_cases h : v = w
  · rw [if_pos h, if_pos h]
  · rw [if_neg h, if_neg h, if_neg h]
theorem sg_set_i {N : Nat → List Nat} {w : Nat} : sg_set N w (N w) = N := by
  funext v; unfold sg_set; by_cases h : v = w
  · rw [if_pos h, h]
  · rw [if_neg h]
def sg_XN (N : Nat → List Nat) (nw wt : Nat → Int32) : Prop := ∀ w, w < 4 → wt w = nI (N w).length ∧ (N w).length ≤ 8 ∧ ∀ i, i < (N w).length → nw (8 * w + i) = nI ((N w).getD i 0)
theorem sg_XN_t {N : Nat → List Nat} {nw wt : Nat → Int32} {w : Nat} (hw : w < 4) (h : sg_XN N nw wt) (h1 : 0 < (N w).length) : sg_XN (sg_set N w (N w).tail) (sg_sft nw (8 * w) (8 * w + ((N w).length - 1))) (upd wt w (nI ((N w).length - 1))) := by
  intro v hv
  obtain ⟨a1, a2, a3⟩ := h v hv
  by_cases e : v = w
  · subst e
    rw [sg_set_s, pk_us, List.length_tail]
    refine ⟨rfl, by omega, fun i hi => ?_⟩
    unfold sg_sft
    rw [if_pos (by omega), show 8 * v + i + 1 = 8 * v + (i + 1) by omega, a3 (i + 1) (by omega), List.getD_eq_getElem?_getD, List.getD_eq_getElem?_getD, List.getElem?_tail]
  · rw [sg_set_n e, pk_un e]
    refine ⟨a1, a2, fun i hi => ?_⟩
    have := (h w hw).2.1
    unfold sg_sft
    rw [if_neg (by omega), a3 i hi]
theorem sg_XN_a {N : Nat → List Nat} {nw wt : Nat → Int32} {w x : Nat} (hw : w < 4) (h : sg_XN N nw wt) (h1 : (N w).length < 8) : sg_XN (sg_set N w (N w ++ [x])) (upd nw (8 * w + (N w).length) (nI x)) (upd wt w (nI ((N w).length + 1))) := by
  intro v hv
  obtain ⟨a1, a2, a3⟩ := h v hv
  by_cases e : v = w
  · subst e
    rw [sg_set_s, pk_us, List.length_append]
    refine ⟨rfl, by simp; omega, fun i hi => ?_⟩
    have hi' : i < (N v).length + 1 := hi
    by_cases z : i = (N v).length
    · rw [z, pk_us, List.getD_eq_getElem?_getD, List.getElem?_append_right (by omega), Nat.sub_self]; rfl
    · rw [pk_un (by omega), a3 i (by omega), List.getD_eq_getElem?_getD, List.getD_eq_getElem?_getD, List.getElem?_append_left (by omega)]
  · rw [sg_set_n e, pk_un e]
    refine ⟨a1, a2, fun i hi => ?_⟩
    rw [pk_un (by omega), a3 i hi]
def sg_push (l : List Nat) (x : Nat) : List Nat := (if l.length = 8 then l.tail else l) ++ [x]
def sg_rep (hit : Nat → Bool) (num : Nat → Nat) : Nat → Nat → List Nat → List Nat
  | 0, _, l => l
  | n + 1, m, l => sg_rep hit num n (m + 1) (if hit m = true then sg_push l (num m) else l)
theorem sg_rep_skip {hit : Nat → Bool} {num : Nat → Nat} : ∀ (a b m : Nat) (l : List Nat), (∀ d, m ≤ d → d < m + a → hit d = false) → sg_rep hit num (a + b) m l = sg_rep hit num b (m + a) l
  | 0, b, m, l, _ => by rw [Nat.zero_add]; rfl
  | a + 1, b, m, l, h => by
    rw [show a + 1 + b = (a + b) + 1 by omega]
    unfold sg_rep
    rw [if_neg (by rw [h m (by omega) (by omega)]; decide), sg_rep_skip a b (m + 1) l (fun d h1 h2 => h d (by omega) (by omega)), show m + 1 + a = m + (a + 1) by omega]
    cases b <;> rfl
theorem sg_rep_none {hit : Nat → Bool} {num : Nat → Nat} {n m : Nat} {l : List Nat} (h : ∀ d, m ≤ d → d < m + n → hit d = false) : sg_rep hit num n m l = l := by
  have := sg_rep_skip n 0 m l (hit := hit) (num := num) h
  rw [Nat.add_zero] at this
  rw [this]; rfl
theorem sg_rep_app {hit : Nat → Bool} {num : Nat → Nat} : ∀ (a b m : Nat) (l : List Nat), sg_rep hit num (a + b) m l = sg_rep hit num b (m + a) (sg_rep hit num a m l)
  | 0, b, m, l => by rw [Nat.zero_add]; rfl
  | a + 1, b, m, l => by
    rw [show a + 1 + b = (a + b) + 1 by omega]
    show sg_rep hit num (a + b) (m + 1) _ = sg_rep hit num b (m + (a + 1)) (sg_rep hit num a (m + 1) _)
    rw [sg_rep_app a b (m + 1), show m + 1 + a = m + (a + 1) by omega]
theorem sg_rep_eq {hit hit' : Nat → Bool} {num num' : Nat → Nat} : ∀ (n m : Nat) (l : List Nat), (∀ d, m ≤ d → d < m + n → hit d = hit' d ∧ num d = num' d) → sg_rep hit num n m l = sg_rep hit' num' n m l
  | 0, _, _, _ => rfl
  | n + 1, m, l, h => by
    unfold sg_rep
    rw [(h m (by omega) (by omega)).1, (h m (by omega) (by omega)).2]
    exact sg_rep_eq n (m + 1) _ (fun d h1 h2 => h d (by omega) (by omega))
noncomputable def sg_nws (L : List sg_D) (e : List Nat) (fr n : Nat) (l : List Nat) : List Nat := if e = [] then l else sg_rep (fun d => sg_M (sg_T L d) (sg_pr L d) e) (sg_nu L) n fr l
def sg_XQ (Q : List Nat) (W : Nat → List Nat) (qu sz : Nat → Int32) : Prop := sg_At qu 64 Q ∧ sz 4 = nI Q.length ∧ ∀ w, w < 4 → sg_At qu (16 * w) (W w) ∧ sz w = nI (W w).length
def sg_Gq (Q : List Nat) (W : Nat → List Nat) : Prop := Q.length ≤ 12 ∧ (∀ t, t ∈ Q → sg_tok t) ∧ ∀ w, w < 4 → (W w).length ≤ 12 ∧ (W w = [] ∨ sg_Ex (W w))
end
section
/-! X: forget, report -/
section
variable {f_documents f_added f_deleted f_segments f_total f_words f_base f_kept : Int32} {a_number a_length a_price a_places a_having a_end a_level a_text a_query a_size a_wanted a_news a_waiting a_sets a_scores a_rarity a_spans a_best a_worth a_keptNumber a_keptScore a_shares : Nat → Int32}
theorem sg_xforget {post : SX → Prop} {N : Nat → List Nat} {w : Nat} (hw : w < 4) (hN : sg_XN N a_news a_waiting) (h1 : 0 < (N w).length)
    (H : ∀ nw wt, sg_XN (sg_set N w (N w).tail) nw wt → post (f_documents, f_added, f_deleted, f_segments, f_total, f_words, f_base, f_kept, a_number, a_length, a_price, a_places, a_having, a_end, a_level, a_text, a_query, a_size, a_wanted, nw, wt, a_sets, a_scores, a_rarity, a_spans, a_best, a_worth, a_keptNumber, a_keptScore, a_shares)) : wpX_forget post (f_documents, f_added, f_deleted, f_segments, f_total, f_words, f_base, f_kept, a_number, a_length, a_price, a_places, a_having, a_end, a_level, a_text, a_query, a_size, a_wanted, a_news, a_waiting, a_sets, a_scores, a_rarity, a_spans, a_best, a_worth, a_keptNumber, a_keptScore, a_shares) (nI w) := by
  obtain ⟨a1, a2, a3⟩ := hN w hw
  have er : a_waiting (nI w).toNatClampNeg = nI (N w).length := sg_rd w rfl (by omega) a1
  have ev : vp_nar .byte ((a_waiting (nI w).toNatClampNeg - 1).toInt8.toInt32) = nI ((N w).length - 1) := by
    rw [er, show (N w).length = ((N w).length - 1) + 1 by omega, nI_pred, Nat.add_sub_cancel, sg_nbb (by omega)]
  have e8 : (8 : Int32) * nI w = nI (8 * w) := pk_mul 8 w
  have hfin := H _ _ (sg_XN_t hw hN h1)
  have key : ∀ n k, 8 * w ≤ k → k ≤ 8 * w + ((N w).length - 1) → 8 * w + ((N w).length - 1) - k < n → wX_forget_16 post (nI w) f_documents f_added f_deleted f_segments f_total f_words f_base f_kept n (nI k) a_number a_length a_price a_places a_having a_end a_level a_text a_query a_size a_wanted (sg_sft a_news (8 * w) k) (upd a_waiting w (nI ((N w).length - 1))) a_sets a_scores a_rarity a_spans a_best a_worth a_keptNumber a_keptScore a_shares := by
    intro n
    induction n with
    | zero => intro k _ _ h; omega
    | succ n ih =>
      intro k hk1 hk2 hn
      have e9 : (8 : Int32) * nI w + (upd a_waiting w (nI ((N w).length - 1))) (nI w).toNatClampNeg = nI (8 * w + ((N w).length - 1)) := by
        rw [nI_clamp (by omega), pk_us, e8, nI_add]
      refine And.intro (pk_in w 4 hw) (pk_le (8 * w + ((N w).length - 1)) k (fun h => ?_) (fun h => ⟨pk_in (k + 1) 32 (by omega) (nI_1 k), pk_in k 32 (by omega), nm_r (e' := sg_sft a_news (8 * w) (k + 1)) ?_ (nm_r (nI_1 k) (ih (k + 1) (by omega) (by omega) (by omega)))⟩) e9)
      · obtain rfl : k = 8 * w + ((N w).length - 1) := by omega
        exact hfin
      · rw [sg_rd (f := sg_sft a_news (8 * w) k) (k + 1) (nI_1 k) (by omega) rfl, sg_sft_g (by omega), nI_clamp (show k < 2 ^ 31 by omega), sg_sft_s hk1]
  refine And.intro (pk_in w 4 hw) (And.intro (pk_in w 4 hw) (nm_r (e' := upd a_waiting w (nI ((N w).length - 1))) ?_ (nm_r e8 (Exists.intro ((N w).length + 1) ?_))))
  · rw [ev, nI_clamp (show w < 2 ^ 31 by omega)]
  · have := key ((N w).length + 1) (8 * w) (Nat.le_refl _) (by omega) (by omega)
    rw [sg_sft_0] at this
    exact this
theorem sg_xr69 {post : SX → Prop} {J35 : Int32 → Int32 → Int32 → Int32 → Int32 → Int32 → Int32 → Int32 → Int32 → (Nat → Int32) → (Nat → Int32) → (Nat → Int32) → (Nat → Int32) → (Nat → Int32) → (Nat → Int32) → (Nat → Int32) → (Nat → Int32) → (Nat → Int32) → (Nat → Int32) → (Nat → Int32) → (Nat → Int32) → (Nat → Int32) → (Nat → Int32) → (Nat → Int32) → (Nat → Int32) → (Nat → Int32) → (Nat → Int32) → (Nat → Int32) → (Nat → Int32) → (Nat → Int32) → (Nat → Int32) → Prop} {N : Nat → List Nat} {w d x : Nat} {x5 : Int32} (hw : w < 4) (hd : d < 32) (hx : a_number d = nI x) (hN : sg_XN N a_news a_waiting) (h8 : (N w).length < 8)
    (H : ∀ nw wt, sg_XN (sg_set N w (N w ++ [x])) nw wt → J35 (x5 &&& (x5 - 1)) f_documents f_added f_deleted f_segments f_total f_words f_base f_kept a_number a_length a_price a_places a_having a_end a_level a_text a_query a_size a_wanted nw wt a_sets a_scores a_rarity a_spans a_best a_worth a_keptNumber a_keptScore a_shares) : wX_report_69 post J35 (nI w) x5 (nI d) f_documents f_added f_deleted f_segments f_total f_words f_base f_kept a_number a_length a_price a_places a_having a_end a_level a_text a_query a_size a_wanted a_news a_waiting a_sets a_scores a_rarity a_spans a_best a_worth a_keptNumber a_keptScore a_shares := by
  obtain ⟨a1, a2, a3⟩ := hN w hw
  have er : a_waiting (nI w).toNatClampNeg = nI (N w).length := sg_rd w rfl (by omega) a1
  have e8 : (8 : Int32) * nI w + a_waiting (nI w).toNatClampNeg = nI (8 * w + (N w).length) := by
    rw [er, show (8 : Int32) * nI w = nI (8 * w) from pk_mul 8 w, nI_add]
  have ev : vp_nar .byte ((a_waiting (nI w).toNatClampNeg + 1).toInt8.toInt32) = nI ((N w).length + 1) := by
    rw [er, nI_1, sg_nbb (by omega)]
  refine And.intro (pk_in w 4 hw) (And.intro (pk_in d 32 hd) (And.intro (pk_in (8 * w + (N w).length) 32 (by omega) e8) (nm_r (sg_wr (8 * w + (N w).length) e8 (by omega) (sg_rd d rfl (by omega) hx)) (And.intro (pk_in w 4 hw) (And.intro (pk_in w 4 hw) (nm_r (sg_wr w rfl (by omega) ev) (nm_e (H _ _ (sg_XN_a hw hN h8)))))))))
theorem sg_xr35 {post : SX → Prop} {L : List sg_D} {N0 : Nat → List Nat} {w : Nat} {hit : Nat → Bool} (hw : w < 4) (hL : L.length ≤ 32) (hnum : ∀ k, k < L.length → a_number k = nI (sg_nu L k)) (hh : ∀ d, d < 32 → hit d = true → d < L.length) :
    ∀ c s m l nw wt, sg_c (bt s) 32 = c → m ≤ 32 → (∀ d, d < 32 → bt s d = (hit d && decide (m ≤ d))) → sg_XN (sg_set N0 w l) nw wt →
      (∀ nw wt, sg_XN (sg_set N0 w (sg_rep hit (sg_nu L) (32 - m) m l)) nw wt → post (f_documents, f_added, f_deleted, f_segments, f_total, f_words, f_base, f_kept, a_number, a_length, a_price, a_places, a_having, a_end, a_level, a_text, a_query, a_size, a_wanted, nw, wt, a_sets, a_scores, a_rarity, a_spans, a_best, a_worth, a_keptNumber, a_keptScore, a_shares)) →
      wX_report_35 post (nI w) (c + 1) s f_documents f_added f_deleted f_segments f_total f_words f_base f_kept a_number a_length a_price a_places a_having a_end a_level a_text a_query a_size a_wanted nw wt a_sets a_scores a_rarity a_spans a_best a_worth a_keptNumber a_keptScore a_shares := by
  intro c
  induction c with
  | zero =>
    intro s m l nw wt hc hm hs hN H
    have hz : ∀ d, d < 32 → bt s d = false := fun d hd => by
      cases e : bt s d
      · rfl
      · have := sg_c_pos.mpr ⟨d, hd, e⟩; omega
    refine br_t (sg_z hz) (H nw wt ?_)
    rw [sg_rep_none (fun d h1 h2 => ?_)]
    · exact hN
    · have := hs d (by omega)
      rw [hz d (by omega), decide_eq_true h1, Bool.and_true] at this
      exact this.symm
  | succ c ih =>
    intro s m l nw wt hc hm hs hN H
    have hz : ¬ s = 0 := fun z => by rw [z, sg_c_0 (fun k _ => b_0 k)] at hc; omega
    obtain ⟨d, d1, d2, d3⟩ := sg_lowest hz
    have hdec := sg_dec d1 d2 d3
    have hd : hit d = true ∧ m ≤ d := by
      have := hs d d1
      rw [d2] at this
      have := (Bool.and_eq_true _ _).mp this.symm
      exact ⟨this.1, of_decide_eq_true this.2⟩
    have hdL := hh d d1 hd.1
    have hrep : sg_rep hit (sg_nu L) (32 - m) m l = sg_rep hit (sg_nu L) (32 - (d + 1)) (d + 1) (sg_push l (sg_nu L d)) := by
      rw [show 32 - m = (d - m) + ((32 - (d + 1)) + 1) by omega, sg_rep_skip (d - m) _ m l (fun q h1 h2 => ?_), show m + (d - m) = d by omega]
      · show sg_rep hit (sg_nu L) (32 - (d + 1)) (d + 1) (if hit d = true then _ else l) = _
        rw [if_pos hd.1]
      · have := hs q (by omega)
        rw [d3 q (by omega), decide_eq_true h1, Bool.and_true] at this
        exact this.symm
    have hs' : ∀ q, q < 32 → bt (s &&& (s - 1)) q = (hit q && decide (d + 1 ≤ q)) := by
      intro q hq
      rw [sg_lo_and d2 d3 hq]
      rcases Nat.lt_trichotomy q d with z | z | z
      · rw [d3 q z, decide_eq_false (show ¬ d + 1 ≤ q by omega), Bool.and_false, Bool.false_and]
      · rw [decide_eq_false (show ¬ d + 1 ≤ q by omega), decide_eq_false (show ¬ q ≠ d by omega), Bool.and_false, Bool.and_false]
      · rw [hs q hq, decide_eq_true (show m ≤ q by omega), decide_eq_true (show q ≠ d by omega), decide_eq_true (show d + 1 ≤ q by omega), Bool.and_true]
    have nxt : ∀ l2 nw2 wt2, sg_XN (sg_set N0 w l2) nw2 wt2 → l2.length < 8 → l2 ++ [sg_nu L d] = sg_push l (sg_nu L d) → wX_report_69 post (wX_report_35 post (nI w) (c + 1)) (nI w) s (nI d) f_documents f_added f_deleted f_segments f_total f_words f_base f_kept a_number a_length a_price a_places a_having a_end a_level a_text a_query a_size a_wanted nw2 wt2 a_sets a_scores a_rarity a_spans a_best a_worth a_keptNumber a_keptScore a_shares := by
      intro l2 nw2 wt2 hN2 hl2 he
      refine sg_xr69 hw d1 (hnum d hdL) hN2 (by rw [sg_set_s]; exact hl2) (fun nw3 wt3 h3 => ?_)
      rw [sg_set_s, sg_set_2, he] at h3
      refine ih _ (d + 1) _ nw3 wt3 (by omega) (by omega) hs' h3 (fun nw4 wt4 h4 => H nw4 wt4 ?_)
      rw [hrep]; exact h4
    obtain ⟨a1, a2, a3⟩ := hN w hw
    rw [sg_set_s] at a1 a2
    have er : wt (nI w).toNatClampNeg = nI l.length := sg_rd w rfl (by omega) a1
    refine br_f hz (sg_count_lo d1 d2 d3 (And.intro (pk_in w 4 hw) (pk_eq l.length 8 (fun z => ?_) (fun z => ?_) er)))
    · refine sg_xforget hw hN (by rw [sg_set_s]; omega) (fun nw2 wt2 h2 => ?_)
      rw [sg_set_s, sg_set_2] at h2
      exact nxt l.tail nw2 wt2 h2 (by rw [List.length_tail]; omega) (by unfold sg_push; rw [if_pos z])
    · exact nxt l nw wt hN (by omega) (by unfold sg_push; rw [if_neg z])
theorem sg_xreport {post : SX → Prop} {L : List sg_D} {N : Nat → List Nat} {Q : List Nat} {W : Nat → List Nat} {w fr : Nat} (hw : w < 4) (hT : ∀ i, (sg_T L i).length ≤ 12) (hp9 : ∀ i, sg_pr L i ≤ 99) (hL : L.length ≤ 32) (hfr : fr < L.length) (hD : sg_XD L f_documents f_deleted a_number a_length a_price a_places a_having) (hQ : sg_XQ Q W a_query a_size) (hG : sg_Gq Q W) (hN : sg_XN N a_news a_waiting)
    (H : ∀ bs s g nw wt, sg_XN (sg_set N w (sg_nws L (W w) fr (L.length - fr) (N w))) nw wt → post (f_documents, f_added, f_deleted, f_segments, f_total, f_words, bs, f_kept, a_number, a_length, a_price, a_places, a_having, a_end, a_level, a_text, a_query, a_size, a_wanted, nw, wt, s, a_scores, a_rarity, g, a_best, a_worth, a_keptNumber, a_keptScore, a_shares)) : wpX_report post (f_documents, f_added, f_deleted, f_segments, f_total, f_words, f_base, f_kept, a_number, a_length, a_price, a_places, a_having, a_end, a_level, a_text, a_query, a_size, a_wanted, a_news, a_waiting, a_sets, a_scores, a_rarity, a_spans, a_best, a_worth, a_keptNumber, a_keptScore, a_shares) (nI w) (nI fr) := by
  obtain ⟨q1, q2⟩ := hQ.2.2 w hw
  obtain ⟨g1, g2⟩ := hG.2.2 w hw
  have er : a_size (nI w).toNatClampNeg = nI (W w).length := sg_rd w rfl (by omega) q2
  refine And.intro (pk_in w 6 (by omega)) (pk_eq (W w).length 0 (fun z => ?_) (fun z => ?_) er)
  · refine H f_base a_sets a_spans a_news a_waiting ?_
    unfold sg_nws
    rw [if_pos (List.eq_nil_of_length_eq_zero z), sg_set_i]; exact hN
  · have hne : W w ≠ [] := fun e => z (by rw [e]; rfl)
    have hE : sg_Ex (W w) := g2.elim (fun e => absurd e hne) id
    have e16 : (16 : Int32) * nI w = nI (16 * w) := pk_mul 16 w
    refine nm_r e16 ?_
    have hx : wpX_row (fun r_34 => wpX_match (fun r_35 u => match u with | (f_documents, f_added, f_deleted, f_segments, f_total, f_words, f_base, f_kept, a_number, a_length, a_price, a_places, a_having, a_end, a_level, a_text, a_query, a_size, a_wanted, a_news, a_waiting, a_sets, a_scores, a_rarity, a_spans, a_best, a_worth, a_keptNumber, a_keptScore, a_shares) => ∃ n35 : Nat, wX_report_35 post (nI w) n35 r_35 f_documents f_added f_deleted f_segments f_total f_words f_base f_kept a_number a_length a_price a_places a_having a_end a_level a_text a_query a_size a_wanted a_news a_waiting a_sets a_scores a_rarity a_spans a_best a_worth a_keptNumber a_keptScore a_shares) (f_documents, f_added, f_deleted, f_segments, f_total, f_words, nI (16 * w), f_kept, a_number, a_length, a_price, a_places, a_having, a_end, a_level, a_text, a_query, a_size, a_wanted, a_news, a_waiting, a_sets, a_scores, a_rarity, a_spans, a_best, a_worth, a_keptNumber, a_keptScore, a_shares) r_34) (nI fr) f_documents := by
      rw [hD.1]
      refine sg_row (by omega) hL (fun r hr => ?_)
      rw [← hD.1]
      refine sg_xmatch (q := w) (L := L) (by omega) hT hp9 hL hD (fun d hd hb => ?_) hE (by omega) q2 q1 (fun r2 s g h2 => ?_)
      · rw [hr d hd] at hb
        exact (of_decide_eq_true hb).2
      · refine Exists.intro _ (sg_xr35 (L := L) (N0 := N) (hit := fun d => bt r2 d) hw hL (fun k hk => (hD.2.1 k hk).1) (fun d hd hb => ?_) _ r2 fr (N w) a_news a_waiting rfl (by omega) (fun d hd => ?_) (by rw [sg_set_i]; exact hN) (fun nw wt h3 => H _ _ _ _ _ ?_))
        · have := h2 d hd
          rw [show bt r2 d = true from hb] at this
          have := ((Bool.and_eq_true _ _).mp this.symm).1
          rw [hr d hd] at this
          exact (of_decide_eq_true this).2
        · show bt r2 d = (bt r2 d && _)
          rw [h2 d hd, hr d hd]
          by_cases y : fr ≤ d
          · rw [decide_eq_true y, Bool.and_true]
          · rw [decide_eq_false (show ¬ (fr ≤ d ∧ d < L.length) by omega), Bool.false_and, Bool.false_and]
        · have e : sg_nws L (W w) fr (L.length - fr) (N w) = sg_rep (fun d => bt r2 d) (sg_nu L) (32 - fr) fr (N w) := by
            unfold sg_nws
            rw [if_neg hne, show 32 - fr = (L.length - fr) + (32 - L.length) by omega, sg_rep_app]
            rw [sg_rep_none (n := 32 - L.length) (fun d h4 h5 => ?_)]
            · refine sg_rep_eq _ _ _ (fun d h4 h5 => ⟨?_, rfl⟩)
              rw [h2 d (by omega), hr d (by omega), decide_eq_true (by omega), Bool.true_and]
            · rw [h2 d (by omega), hr d (by omega), decide_eq_false (by omega), Bool.false_and]
          rw [e]; exact h3
    exact hx
end
end
section
/-! melting segments: pure -/
def sg_lvd (x : sg_D) : Bool := !x.2.2.2
def sg_mL (L : List sg_D) (fr : Nat) : List sg_D := L.take fr ++ (L.drop fr).filter sg_lvd
def sg_mS (S : List (Nat × Nat)) (first to n : Nat) : List (Nat × Nat) := if n = sg_lo S first then S.take first else S.take first ++ [(n, to)]
theorem sg_mL_step {L : List sg_D} {d : Nat} (hd : d < L.length) : (sg_dl L d = true → sg_mL L d = (sg_mL L (d + 1)).eraseIdx d) ∧ (sg_dl L d = false → sg_mL L d = sg_mL L (d + 1)) := by
  have hl : (L.take d).length = d := by rw [List.length_take]; omega
  have e1 : L.drop d = L[d] :: L.drop (d + 1) := List.drop_eq_getElem_cons hd
  have e2 : L.take (d + 1) = L.take d ++ [L[d]] := List.take_succ_eq_append_getElem hd
  have e3 : sg_lvd L[d] = !sg_dl L d := by unfold sg_lvd sg_dl; rw [sg_g_lt hd]
  unfold sg_mL
  rw [e1, e2]
  constructor
  · intro h
    rw [List.filter_cons_of_neg (by rw [e3, h]; decide), List.append_assoc, List.eraseIdx_append_of_length_le (by omega), hl, Nat.sub_self]; rfl
  · intro h
    rw [List.filter_cons_of_pos (by rw [e3, h]; rfl), List.append_assoc]; rfl
theorem sg_mL_full (L : List sg_D) : sg_mL L L.length = L := by
  unfold sg_mL; rw [List.take_length, List.drop_length]; simp
theorem sg_mL_lo {L : List sg_D} {m k : Nat} (hm : m ≤ L.length) (hk : k < m) : sg_g (sg_mL L m) k = sg_g L k := by
  unfold sg_mL sg_g
  rw [List.getD_eq_getElem?_getD, List.getD_eq_getElem?_getD, List.getElem?_append_left (by rw [List.length_take]; omega), List.getElem?_take_of_lt hk]
theorem sg_mL_sub (L : List sg_D) (m : Nat) : (sg_mL L m).Sublist L := by
  unfold sg_mL
  have h : (L.take m ++ (L.drop m).filter sg_lvd).Sublist (L.take m ++ L.drop m) := List.Sublist.append_left List.filter_sublist _
  rw [List.take_append_drop] at h; exact h
theorem sg_fl_len : ∀ l : List sg_D, (l.filter sg_lvd).length + sg_c (sg_dl l) l.length = l.length
  | [] => rfl
  | x :: l => by
    have ih := sg_fl_len l
    have e : sg_c (sg_dl (x :: l)) (l.length + 1) = x.2.2.2.toNat + sg_c (sg_dl l) l.length := by
      rw [Nat.add_comm, sg_c_add]
      congr 1
      · show 0 + _ = _; rw [Nat.zero_add]; rfl
      · refine sg_c_eq (fun k hk => ?_)
        rw [Nat.add_comm]; rfl
    show _ + sg_c (sg_dl (x :: l)) (l.length + 1) = l.length + 1
    rw [e]
    cases h : x.2.2.2
    · rw [List.filter_cons_of_pos (by unfold sg_lvd; rw [h]; rfl), List.length_cons]
      show _ + 1 + (0 + _) = _
      omega
    · rw [List.filter_cons_of_neg (by unfold sg_lvd; rw [h]; decide)]
      show _ + (1 + _) = _
      omega
theorem sg_dl_drop (L : List sg_D) (m k : Nat) : sg_dl (L.drop m) k = sg_dl L (m + k) := by
  unfold sg_dl sg_g
  rw [List.getD_eq_getElem?_getD, List.getD_eq_getElem?_getD, List.getElem?_drop]
theorem sg_mL_len {L : List sg_D} {m : Nat} (hm : m ≤ L.length) : (sg_mL L m).length + sg_c (fun k => sg_dl L (m + k)) (L.length - m) = L.length := by
  have h := sg_fl_len (L.drop m)
  rw [List.length_drop] at h
  have e : sg_c (sg_dl (L.drop m)) (L.length - m) = sg_c (fun k => sg_dl L (m + k)) (L.length - m) := sg_c_eq (fun k hk => sg_dl_drop L m k)
  rw [e] at h
  unfold sg_mL
  rw [List.length_append, List.length_take, Nat.min_eq_left hm]
  omega
theorem sg_mL_ge {L : List sg_D} {m : Nat} (hm : m ≤ L.length) : m ≤ (sg_mL L m).length := by
  unfold sg_mL
  rw [List.length_append, List.length_take, Nat.min_eq_left hm]; omega
theorem sg_dl_ge {L : List sg_D} {k : Nat} (h : L.length ≤ k) : sg_dl L k = false := by
  unfold sg_dl; rw [sg_g_ge h]; rfl
theorem sg_sg_take {S : List (Nat × Nat)} {m k : Nat} (h : k < m) : (S.take m).getD k (0, 0) = S.getD k (0, 0) := by
  rw [List.getD_eq_getElem?_getD, List.getD_eq_getElem?_getD, List.getElem?_take_of_lt h]
theorem sg_lo_take {S : List (Nat × Nat)} {m k : Nat} (h : k ≤ m) : sg_lo (S.take m) k = sg_lo S k := by
  unfold sg_lo
  by_cases z : k = 0
  · rw [if_pos z, if_pos z]
  · rw [if_neg z, if_neg z]; unfold sg_e; rw [sg_sg_take (by omega)]
theorem sg_e_take {S : List (Nat × Nat)} {m k : Nat} (h : k < m) : sg_e (S.take m) k = sg_e S k := by
  unfold sg_e; rw [sg_sg_take h]
theorem sg_app_lt {S : List (Nat × Nat)} {x : Nat × Nat} {k : Nat} (h : k < S.length) : (S ++ [x]).getD k (0, 0) = S.getD k (0, 0) := by
  rw [List.getD_eq_getElem?_getD, List.getD_eq_getElem?_getD, List.getElem?_append_left h]
theorem sg_app_eq {S : List (Nat × Nat)} {x : Nat × Nat} : (S ++ [x]).getD S.length (0, 0) = x := by
  rw [List.getD_eq_getElem?_getD, List.getElem?_append_right (Nat.le_refl _), Nat.sub_self]; rfl
theorem sg_lo_app {S : List (Nat × Nat)} {x : Nat × Nat} {k : Nat} (h : k ≤ S.length) : sg_lo (S ++ [x]) k = sg_lo S k := by
  unfold sg_lo
  by_cases z : k = 0
  · rw [if_pos z, if_pos z]
  · rw [if_neg z, if_neg z]; unfold sg_e; rw [sg_app_lt (by omega)]
theorem sg_st_app {S : List (Nat × Nat)} {x : Nat × Nat} : sg_st (S ++ [x]) = x.1 := by
  unfold sg_st sg_lo
  rw [if_neg (by simp), List.length_append, List.length_singleton, Nat.add_sub_cancel]
  unfold sg_e; rw [sg_app_eq]
theorem sg_Gs_app {n : Nat} {S : List (Nat × Nat)} {x : Nat × Nat} (h : sg_Gs n S) (h1 : sg_st S < x.1) (h2 : x.1 ≤ n) (h3 : x.2 ≤ 3) : sg_Gs n (S ++ [x]) := by
  refine ⟨fun k hk => ?_, by rw [sg_st_app]; exact h2, fun k => ?_⟩
  · rw [List.length_append, List.length_singleton] at hk
    rw [sg_lo_app (by omega)]
    unfold sg_e
    by_cases e : k = S.length
    · rw [e, sg_app_eq]; exact h1
    · rw [sg_app_lt (by omega)]; exact h.1 k (by omega)
  · unfold sg_lv
    rcases Nat.lt_trichotomy k S.length with z | z | z
    · rw [sg_app_lt z]; exact h.2.2 k
    · rw [z, sg_app_eq]; exact h3
    · rw [List.getD_eq_getElem?_getD, List.getElem?_eq_none (by simp; omega)]; exact Nat.zero_le _
theorem sg_Gs_take {n n' m : Nat} {S : List (Nat × Nat)} (h : sg_Gs n S) (hm : m ≤ S.length) (hn : sg_lo S m ≤ n') : sg_Gs n' (S.take m) := by
  have hl : (S.take m).length = m := by rw [List.length_take]; omega
  refine ⟨fun k hk => ?_, ?_, fun k => ?_⟩
  · rw [hl] at hk
    rw [sg_lo_take (by omega), sg_e_take hk]; exact h.1 k (by omega)
  · unfold sg_st; rw [hl, sg_lo_take (Nat.le_refl _)]; exact hn
  · unfold sg_lv
    rcases Nat.lt_or_ge k m with z | z
    · rw [sg_sg_take z]; exact h.2.2 k
    · rw [List.getD_eq_getElem?_getD, List.getElem?_eq_none (by omega)]; exact Nat.zero_le _
theorem sg_st_take {m : Nat} {S : List (Nat × Nat)} (hm : m ≤ S.length) : sg_st (S.take m) = sg_lo S m := by
  have hl : (S.take m).length = m := by rw [List.length_take]; omega
  unfold sg_st; rw [hl, sg_lo_take (Nat.le_refl _)]
/-- melting keeps what holds -/
theorem sg_melt_ok {L : List sg_D} {S : List (Nat × Nat)} {ad first to : Nat} (hG : sg_Gd L S ad) (hS : sg_Gs L.length S) (hst : sg_st S = L.length) (hf : first < S.length) (ht : to ≤ 3) :
    sg_Gd (sg_mL L (sg_lo S first)) (sg_mS S first to (sg_mL L (sg_lo S first)).length) ad ∧ sg_Gs (sg_mL L (sg_lo S first)).length (sg_mS S first to (sg_mL L (sg_lo S first)).length) ∧ sg_st (sg_mS S first to (sg_mL L (sg_lo S first)).length) = (sg_mL L (sg_lo S first)).length := by
  have hlo : sg_lo S first ≤ L.length := by
    have := sg_lo_mono hS (j := first) (k := S.length) (by omega) (Nat.le_refl _)
    rw [← hst]; exact this
  have hge := sg_mL_ge hlo
  have hsub := sg_mL_sub L (sg_lo S first)
  have hst' : sg_st (sg_mS S first to (sg_mL L (sg_lo S first)).length) = (sg_mL L (sg_lo S first)).length := by
    unfold sg_mS
    by_cases e : (sg_mL L (sg_lo S first)).length = sg_lo S first
    · rw [if_pos e, sg_st_take (by omega), e]
    · rw [if_neg e, sg_st_app]
  refine ⟨⟨Nat.le_trans hsub.length_le hG.1, hG.2.1, hG.2.2.1.sublist hsub, fun x hx => hG.2.2.2.1 x (hsub.subset hx), fun i hi => ?_⟩, ?_, hst'⟩
  · rw [hst'] at hi
    exact sg_dl_ge hi
  · unfold sg_mS
    by_cases e : (sg_mL L (sg_lo S first)).length = sg_lo S first
    · rw [if_pos e]; exact sg_Gs_take hS (by omega) (by omega)
    · rw [if_neg e]
      refine sg_Gs_app (sg_Gs_take hS (by omega) (by omega)) ?_ (Nat.le_refl _) ht
      rw [sg_st_take (by omega)]
      show sg_lo S first < (sg_mL L (sg_lo S first)).length
      omega
theorem sg_mS_len {S : List (Nat × Nat)} {first to n : Nat} (hf : first < S.length) : (sg_mS S first to n).length ≤ first + 1 := by
  unfold sg_mS
  by_cases e : n = sg_lo S first
  · rw [if_pos e, List.length_take]; omega
  · rw [if_neg e, List.length_append, List.length_take]; simp; omega
def sg_cd (S : List (Nat × Nat)) : Bool := decide (2 < S.length ∧ sg_lv S (S.length - 1) < 3 ∧ sg_lv S (S.length - 3) = sg_lv S (S.length - 1) ∧ sg_lv S (S.length - 2) = sg_lv S (S.length - 1))
def sg_mm : Nat → List sg_D → List (Nat × Nat) → List sg_D × List (Nat × Nat)
  | 0, L, S => (L, S)
  | f + 1, L, S => if sg_cd S = true then sg_mm f (sg_mL L (sg_lo S (S.length - 3))) (sg_mS S (S.length - 3) (sg_lv S (S.length - 1) + 1) (sg_mL L (sg_lo S (S.length - 3))).length) else (L, S)
def sg_fl (L : List sg_D) (S : List (Nat × Nat)) : List sg_D × List (Nat × Nat) := if L.length = sg_st S then (L, S) else sg_mm 40 L (S ++ [(L.length, 0)])
theorem sg_mm_ok {ad : Nat} : ∀ (f : Nat) (L : List sg_D) (S : List (Nat × Nat)), sg_Gd L S ad → sg_Gs L.length S → sg_st S = L.length → sg_Gd (sg_mm f L S).1 (sg_mm f L S).2 ad ∧ sg_Gs (sg_mm f L S).1.length (sg_mm f L S).2 ∧ sg_st (sg_mm f L S).2 = (sg_mm f L S).1.length
  | 0, L, S, h1, h2, h3 => ⟨h1, h2, h3⟩
  | f + 1, L, S, h1, h2, h3 => by
    unfold sg_mm
    by_cases e : sg_cd S = true
    · rw [if_pos e]
      have hc := of_decide_eq_true e
      obtain ⟨k1, k2, k3⟩ := sg_melt_ok (first := S.length - 3) (to := sg_lv S (S.length - 1) + 1) h1 h2 h3 (by omega) (by omega)
      exact sg_mm_ok f _ _ k1 k2 k3
    · rw [if_neg e]; exact ⟨h1, h2, h3⟩
end
section
/-! X: drop, melt, flush -/
def sg_s8 (f : Nat → Int32) (a m : Nat) : Nat → Int32 := fun x => if a ≤ x ∧ x < m then f (x + 8) else f x
theorem sg_s8_0 (f : Nat → Int32) (a : Nat) : sg_s8 f a a = f := by
  funext x; unfold sg_s8; rw [if_neg (by omega)]
theorem sg_s8_s {f : Nat → Int32} {a k : Nat} (h : a ≤ k) : upd (sg_s8 f a k) k (f (k + 8)) = sg_s8 f a (k + 1) := by
  funext x
  unfold upd sg_s8
  by_cases e : x = k
  · rw [if_pos e, if_pos (by omega), e]
  · rw [if_neg e]
    by_cases z : a ≤ x ∧ x < k
    · rw [if_pos z, if_pos (by omega)]
    · rw [if_neg z, if_neg (by omega)]
theorem sg_s8_g {f : Nat → Int32} {a m x : Nat} (h : m ≤ x) : sg_s8 f a m x = f x := by
  unfold sg_s8; rw [if_neg (by omega)]
def sg_h1 (h : Int32) (d : Nat) : Int32 := (h &&& (((1 : Int32) <<< (nI d &&& 31)) - 1)) ||| (((h.toUInt32 >>> ((1 : Int32).toUInt32 &&& Int32.toUInt32 31)).toInt32) &&& ((((1 : Int32) <<< (nI d &&& 31)) - 1) ^^^ (-1)))
theorem sg_h1_b (h : Int32) {d k : Nat} (hd : d < 32) (hk : k < 32) : bt (sg_h1 h d) k = if k < d then bt h k else bt h (k + 1) := by
  unfold sg_h1
  rw [b_or, b_and, b_and, sg_not _ hk, sg_low d hd k hk, show bt ((h.toUInt32 >>> ((1 : Int32).toUInt32 &&& Int32.toUInt32 31)).toInt32) k = bt h (1 + k) from b_ushr 1 (by omega) h k, Nat.add_comm]
  by_cases z : k < d
  · rw [if_pos z, decide_eq_true z]; simp
  · rw [if_neg z, decide_eq_false z]; simp
section
variable {f_documents f_added f_deleted f_segments f_total f_words f_base f_kept : Int32} {a_number a_length a_price a_places a_having a_end a_level a_text a_query a_size a_wanted a_news a_waiting a_sets a_scores a_rarity a_spans a_best a_worth a_keptNumber a_keptScore a_shares : Nat → Int32}
theorem sg_xd138 {post : SX → Prop} {d : Nat}
    (H : ∀ hv, (∀ w, w < 8 → hv w = sg_h1 (a_having w) d) → post (f_documents, f_added, sg_h1 f_deleted d, f_segments, f_total, f_words, f_base, f_kept, a_number, a_length, a_price, a_places, hv, a_end, a_level, a_text, a_query, a_size, a_wanted, a_news, a_waiting, a_sets, a_scores, a_rarity, a_spans, a_best, a_worth, a_keptNumber, a_keptScore, a_shares)) :
    ∀ n w hv, w ≤ 8 → 8 - w < n → (∀ v, v < 8 → hv v = if v < w then sg_h1 (a_having v) d else a_having v) → wX_drop_138 post (((1 : Int32) <<< (nI d &&& 31)) - 1) f_documents f_added f_deleted f_segments f_total f_words f_base f_kept n (nI w) a_number a_length a_price a_places hv a_end a_level a_text a_query a_size a_wanted a_news a_waiting a_sets a_scores a_rarity a_spans a_best a_worth a_keptNumber a_keptScore a_shares := by
  intro n
  induction n with
  | zero => intro w hv _ h; omega
  | succ n ih =>
    intro w hv hw hn hh
    refine pk_le 8 w (fun h => nm_e (H hv (fun v hv2 => ?_))) (fun h => ⟨pk_in w 8 h, pk_in w 8 h, pk_in w 8 h, nm_r (e' := upd hv w (sg_h1 (a_having w) d)) ?_ (nm_r (nI_1 w) (ih (w + 1) _ (by omega) (by omega) (fun v hv2 => ?_)))⟩)
    · rw [hh v hv2, if_pos (by omega)]
    · rw [nI_clamp (show w < 2 ^ 31 by omega), hh w h, if_neg (by omega)]; rfl
    · by_cases e : v = w
      · rw [e, pk_us, if_pos (by omega)]
      · rw [pk_un e, hh v hv2]
        by_cases z : v < w
        · rw [if_pos z, if_pos (by omega)]
        · rw [if_neg z, if_neg (by omega)]
theorem sg_xd87 {post : SX → Prop} {J35 : Int32 → (Nat → Int32) → (Nat → Int32) → (Nat → Int32) → (Nat → Int32) → (Nat → Int32) → (Nat → Int32) → (Nat → Int32) → (Nat → Int32) → (Nat → Int32) → (Nat → Int32) → (Nat → Int32) → (Nat → Int32) → (Nat → Int32) → (Nat → Int32) → (Nat → Int32) → (Nat → Int32) → (Nat → Int32) → (Nat → Int32) → (Nat → Int32) → (Nat → Int32) → (Nat → Int32) → (Nat → Int32) → Prop} {x1 : Int32} {d k : Nat} (hd : d ≤ k) (hk : k < 31) (hp : ∀ w, w < 8 → vp_nar .short (a_places (8 * k + 8 + w)) = a_places (8 * k + 8 + w))
    (H : J35 (nI (k + 1)) a_number a_length a_price (sg_s8 a_places (8 * d) (8 * (k + 1))) a_having a_end a_level a_text a_query a_size a_wanted a_news a_waiting a_sets a_scores a_rarity a_spans a_best a_worth a_keptNumber a_keptScore a_shares) :
    ∀ n w, w ≤ 8 → 8 - w < n → wX_drop_87 post J35 x1 (nI k) f_documents f_added f_deleted f_segments f_total f_words f_base f_kept n (nI w) a_number a_length a_price (sg_s8 a_places (8 * d) (8 * k + w)) a_having a_end a_level a_text a_query a_size a_wanted a_news a_waiting a_sets a_scores a_rarity a_spans a_best a_worth a_keptNumber a_keptScore a_shares := by
  have e8 : (8 : Int32) * nI k = nI (8 * k) := pk_mul 8 k
  intro n
  induction n with
  | zero => intro w _ h; omega
  | succ n ih =>
    intro w hw hn
    have e1 : (8 : Int32) * nI k + 8 + nI w = nI (8 * k + 8 + w) := by
      rw [e8, show (8 : Int32) = nI 8 from rfl, nI_add, nI_add]
    have e2 : (8 : Int32) * nI k + nI w = nI (8 * k + w) := by rw [e8, nI_add]
    refine pk_le 8 w (fun h => nm_r (nI_1 k) ?_) (fun h => ⟨pk_in (8 * k + 8 + w) 256 (by omega) e1, pk_in (8 * k + w) 256 (by omega) e2, nm_r (e' := sg_s8 a_places (8 * d) (8 * k + (w + 1))) ?_ (nm_r (nI_1 w) (ih (w + 1) (by omega) (by omega)))⟩)
    · obtain rfl : w = 8 := by omega
      exact H
    · rw [sg_rd (f := sg_s8 a_places (8 * d) (8 * k + w)) (8 * k + 8 + w) e1 (by omega) (sg_s8_g (by omega)), hp w h, sg_wr (8 * k + w) e2 (by omega) (show a_places (8 * k + 8 + w) = a_places (8 * k + w + 8) by rw [show 8 * k + 8 + w = 8 * k + w + 8 by omega]), sg_s8_s (by omega)]; rfl
theorem sg_xdrop {post : SX → Prop} {L : List sg_D} {S : List (Nat × Nat)} {d tot : Nat} (hL : L.length ≤ 32) (hT : ∀ i, (sg_T L i).length ≤ 12) (hp9 : ∀ i, sg_pr L i ≤ 99) (hd : d < L.length) (hD : sg_XD L f_documents f_deleted a_number a_length a_price a_places a_having) (hS : sg_XS S f_segments a_end a_level) (hst : sg_st S ≤ 32) (htot : f_total = nI tot) (hle : d < sg_st S → (sg_T L d).length ≤ tot)
    (H : ∀ del num len pri pla hav, sg_XD (L.eraseIdx d) (nI (L.length - 1)) del num len pri pla hav → post (nI (L.length - 1), f_added, del, f_segments, nI (if d < sg_st S then tot - (sg_T L d).length else tot), f_words, f_base, f_kept, num, len, pri, pla, hav, a_end, a_level, a_text, a_query, a_size, a_wanted, a_news, a_waiting, a_sets, a_scores, a_rarity, a_spans, a_best, a_worth, a_keptNumber, a_keptScore, a_shares)) : wpX_drop post (f_documents, f_added, f_deleted, f_segments, f_total, f_words, f_base, f_kept, a_number, a_length, a_price, a_places, a_having, a_end, a_level, a_text, a_query, a_size, a_wanted, a_news, a_waiting, a_sets, a_scores, a_rarity, a_spans, a_best, a_worth, a_keptNumber, a_keptScore, a_shares) (nI d) := by
  obtain ⟨x1, x2, x3, x4, x5⟩ := hD
  have key : ∀ tt, (∀ del num len pri pla hav, sg_XD (L.eraseIdx d) (nI (L.length - 1)) del num len pri pla hav → post (nI (L.length - 1), f_added, del, f_segments, tt, f_words, f_base, f_kept, num, len, pri, pla, hav, a_end, a_level, a_text, a_query, a_size, a_wanted, a_news, a_waiting, a_sets, a_scores, a_rarity, a_spans, a_best, a_worth, a_keptNumber, a_keptScore, a_shares)) → wX_drop_23 post (nI d) f_documents f_added f_deleted f_segments tt f_words f_base f_kept a_number a_length a_price a_places a_having a_end a_level a_text a_query a_size a_wanted a_news a_waiting a_sets a_scores a_rarity a_spans a_best a_worth a_keptNumber a_keptScore a_shares := by
    intro tt H
    have hX : sg_XD (L.eraseIdx d) (nI (L.length - 1)) (sg_h1 f_deleted d) (sg_sft a_number d (L.length - 1)) (sg_sft a_length d (L.length - 1)) (sg_sft a_price d (L.length - 1)) (sg_s8 a_places (8 * d) (8 * (L.length - 1))) (fun w => sg_h1 (a_having w) d) := by
      have hl : (L.eraseIdx d).length = L.length - 1 := List.length_eraseIdx_of_lt hd
      refine ⟨by rw [hl], fun k hk => ?_, fun k w i hk hw hi => ?_, fun w k hw hk => ?_, fun k hk => ?_⟩
      · rw [hl] at hk
        rw [sg_nu_er, sg_T_er, sg_pr_er]
        unfold sg_sft
        by_cases z : k < d
        · have c1 : ¬ (d ≤ k ∧ k < L.length - 1) := by omega
          rw [if_neg c1, if_neg c1, if_neg c1, if_pos z, if_pos z, if_pos z]
          exact x2 k (by omega)
        · have c1 : d ≤ k ∧ k < L.length - 1 := by omega
          rw [if_pos c1, if_pos c1, if_pos c1, if_neg z, if_neg z, if_neg z]
          exact x2 (k + 1) (by omega)
      · rw [hl] at hk
        rw [sg_T_er]
        unfold sg_s8
        by_cases z : k < d
        · rw [if_neg (by omega), if_pos z]
          exact x3 k w i (by omega) hw hi
        · rw [if_pos (by omega), if_neg z, show 8 * k + w + 8 = 8 * (k + 1) + w by omega]
          exact x3 (k + 1) w i (by omega) hw hi
      · show bt (sg_h1 (a_having w) d) k = _
        rw [sg_h1_b _ (by omega) hk, sg_T_er]
        by_cases z : k < d
        · rw [if_pos z, if_pos z, x4 w k hw hk]
        · rw [if_neg z, if_neg z]
          by_cases y : k + 1 < 32
          · rw [x4 w (k + 1) hw y]
          · rw [b_big (by omega)]
            unfold sg_T
            rw [sg_g_ge (by omega)]
            exact (decide_eq_false (fun q => by cases q)).symm
      · rw [sg_h1_b _ (by omega) hk, sg_dl_er]
        by_cases z : k < d
        · rw [if_pos z, if_pos z, x5 k hk]
        · rw [if_neg z, if_neg z]
          by_cases y : k + 1 < 32
          · rw [x5 (k + 1) y]
          · rw [b_big (by omega), sg_dl_ge (by omega)]
    have e1 : f_documents - 1 = nI (L.length - 1) := by
      rw [x1, show L.length = (L.length - 1) + 1 by omega, nI_pred, Nat.add_sub_cancel]
    have loop : ∀ n k, d ≤ k → k ≤ L.length - 1 → L.length - 1 - k < n → wX_drop_35 post (nI d) (nI (L.length - 1)) f_added f_deleted f_segments tt f_words f_base f_kept n (nI k) (sg_sft a_number d k) (sg_sft a_length d k) (sg_sft a_price d k) (sg_s8 a_places (8 * d) (8 * k)) a_having a_end a_level a_text a_query a_size a_wanted a_news a_waiting a_sets a_scores a_rarity a_spans a_best a_worth a_keptNumber a_keptScore a_shares := by
      intro n
      induction n with
      | zero => intro k _ _ h; omega
      | succ n ih =>
        intro k hk1 hk2 hn
        refine pk_le (L.length - 1) k (fun h => nm_e (Exists.intro 9 ?_)) (fun h => ?_)
        · obtain rfl : k = L.length - 1 := by omega
          refine sg_xd138 (d := d) (fun hv hh => H _ _ _ _ _ _ ?_) 9 0 a_having (by omega) (by omega) (fun v _ => by rw [if_neg (by omega)])
          refine ⟨hX.1, hX.2.1, hX.2.2.1, fun w k hw hk => ?_, hX.2.2.2.2⟩
          rw [hh w hw]
          exact hX.2.2.2.1 w k hw hk
        · obtain ⟨y1, y2, y3⟩ := x2 (k + 1) (by omega)
          have hk31 : k < 31 := by omega
          have ek : nI k + 1 = nI (k + 1) := nI_1 k
          have h12 := hT (k + 1)
          have h99 := hp9 (k + 1)
          refine ⟨pk_in (k + 1) 32 (by omega) ek, pk_in k 32 (by omega), nm_r (e' := sg_sft a_number d (k + 1)) ?_ ⟨pk_in (k + 1) 32 (by omega) ek, pk_in k 32 (by omega), nm_r (e' := sg_sft a_length d (k + 1)) ?_ ⟨pk_in (k + 1) 32 (by omega) ek, pk_in k 32 (by omega), nm_r (e' := sg_sft a_price d (k + 1)) ?_ (Exists.intro 9 ?_)⟩⟩⟩
          · rw [sg_rd (f := sg_sft a_number d k) (k + 1) ek (by omega) (sg_sft_g (by omega)), nI_clamp (show k < 2 ^ 31 by omega), sg_sft_s hk1]
          · rw [sg_rd (f := sg_sft a_length d k) (k + 1) ek (by omega) (sg_sft_g (by omega)), nI_clamp (show k < 2 ^ 31 by omega), y2, sg_nb (by omega), ← y2, sg_sft_s hk1]
          · rw [sg_rd (f := sg_sft a_price d k) (k + 1) ek (by omega) (sg_sft_g (by omega)), nI_clamp (show k < 2 ^ 31 by omega), y3, sg_nb (by omega), ← y3, sg_sft_s hk1]
          · refine sg_xd87 (d := d) (k := k) hk1 hk31 (fun w hw => ?_) (ih (k + 1) (by omega) (by omega) (by omega)) 9 0 (by omega) (by omega)
            refine sg_sht (fun m hm hm12 => ?_)
            rw [show 8 * k + 8 + w = 8 * (k + 1) + w by omega, x3 (k + 1) w m (by omega) hw hm]
            refine decide_eq_false (fun q => ?_)
            have := sg_getD_lt hw q
            omega
    refine nm_r e1 (Exists.intro (L.length + 1) ?_)
    have := loop (L.length + 1) d (Nat.le_refl _) (by omega) (by omega)
    rw [sg_sft_0, sg_sft_0, sg_sft_0, sg_s8_0] at this
    exact this
  unfold wpX_drop
  refine sg_xstored hS (pk_le (sg_st S) d (fun h => ?_) (fun h => ⟨pk_in d 32 (by omega), nm_r (e' := nI (tot - (sg_T L d).length)) ?_ (key _ ?_)⟩))
  · have := key f_total
    rw [htot] at this ⊢
    rw [if_neg (by omega)] at H
    exact this H
  · rw [sg_rd (f := a_length) d rfl (by omega) (x2 d hd).2.1, htot, pk_sub (hle h)]
  · rw [if_pos h] at H; exact H
end
end
section
/-! X: melt, flush -/
def sg_XC (L : List sg_D) (S : List (Nat × Nat)) (nd del ns tt : Int32) (num len pri pla hav en lv : Nat → Int32) : Prop := sg_XD L nd del num len pri pla hav ∧ sg_XS S ns en lv ∧ tt = nI (sg_al L (sg_st S))
section
variable {f_documents f_added f_deleted f_segments f_total f_words f_base f_kept : Int32} {a_number a_length a_price a_places a_having a_end a_level a_text a_query a_size a_wanted a_news a_waiting a_sets a_scores a_rarity a_spans a_best a_worth a_keptNumber a_keptScore a_shares : Nat → Int32}
theorem sg_xm77 {post : SX → Prop} {S : List (Nat × Nat)} {first to fr a : Nat} (hf : first < S.length) (hto : to ≤ 3) (hfr : fr + a ≤ 32) (hlo : sg_lo S first = fr) (hS : sg_XS S f_segments a_end a_level)
    (H : ∀ ns en lv, sg_XS (sg_mS S first to (fr + a)) ns en lv → post (f_documents, f_added, f_deleted, ns, f_total, f_words, f_base, f_kept, a_number, a_length, a_price, a_places, a_having, en, lv, a_text, a_query, a_size, a_wanted, a_news, a_waiting, a_sets, a_scores, a_rarity, a_spans, a_best, a_worth, a_keptNumber, a_keptScore, a_shares)) :
    ∀ c g, sg_c (bt g) 32 = c → wX_melt_77 post (nI first) (nI to) (nI fr) f_documents f_added f_deleted f_segments f_total f_words f_base f_kept a_number a_length a_price a_places a_having a_end a_level a_text a_query a_size a_wanted a_news a_waiting a_sets a_scores a_rarity a_spans a_best a_worth a_keptNumber a_keptScore a_shares (c + 1) (nI (a + c)) g := by
  obtain ⟨s1, s2, s3⟩ := hS
  intro c
  induction c with
  | zero =>
    intro g hc
    have hz : ∀ d, d < 32 → bt g d = false := fun d hd => by
      cases e : bt g d
      · rfl
      · have := sg_c_pos.mpr ⟨d, hd, e⟩; omega
    have hl : (S.take first).length = first := by rw [List.length_take]; omega
    refine br_t (sg_z hz) (pk_eq a 0 (fun z => H _ _ _ ?_) (fun z => ⟨pk_in first 33 (by omega), nm_r (e' := upd a_end first (nI (fr + a))) ?_ (nm_r (nI_1 first) ⟨pk_in first 33 (by omega), nm_r (e' := upd a_level first (nI to)) ?_ (H _ _ _ ?_)⟩)⟩))
    · unfold sg_mS
      rw [if_pos (by omega)]
      refine ⟨by rw [hl], by omega, fun k hk => ?_⟩
      rw [hl] at hk
      unfold sg_e sg_lv
      rw [sg_sg_take hk]
      exact s3 k (by omega)
    · rw [Nat.add_zero, nI_clamp (show first < 2 ^ 31 by omega), nI_add, sg_nbb (by omega)]
    · rw [nI_clamp (show first < 2 ^ 31 by omega), sg_nbb (by omega)]
    · unfold sg_mS
      rw [if_neg (by omega)]
      refine ⟨by rw [List.length_append, hl]; rfl, by rw [List.length_append, hl]; simp; omega, fun k hk => ?_⟩
      rw [List.length_append, hl, List.length_singleton] at hk
      unfold sg_e sg_lv
      by_cases e : k = first
      · subst e
        have : (S.take k ++ [(fr + a, to)]).getD k (0, 0) = (fr + a, to) := by
          have := sg_app_eq (S := S.take k) (x := (fr + a, to))
          rw [hl] at this; exact this
        rw [this, pk_us, pk_us]; exact ⟨rfl, rfl⟩
      · rw [sg_app_lt (by omega), sg_sg_take (by omega), pk_un e, pk_un e]
        exact s3 k (by omega)
  | succ c ih =>
    intro g hc
    have hz : ¬ g = 0 := fun z => by rw [z, sg_c_0 (fun k _ => b_0 k)] at hc; omega
    obtain ⟨d, d1, d2, d3⟩ := sg_lowest hz
    have hdec := sg_dec d1 d2 d3
    exact br_f hz (nm_r (e' := nI (a + c)) (pk_m1 (a + c)) (nm_e (ih _ (by omega))))
theorem sg_xmelt {post : SX → Prop} {L : List sg_D} {S : List (Nat × Nat)} {ad first to : Nat} (hG : sg_Gd L S ad) (hS : sg_Gs L.length S) (hst : sg_st S = L.length) (hf : first < S.length) (ht : to ≤ 3) (hC : sg_XC L S f_documents f_deleted f_segments f_total a_number a_length a_price a_places a_having a_end a_level)
    (H : ∀ nd del ns tt num len pri pla hav en lv, sg_XC (sg_mL L (sg_lo S first)) (sg_mS S first to (sg_mL L (sg_lo S first)).length) nd del ns tt num len pri pla hav en lv → post (nd, f_added, del, ns, tt, f_words, f_base, f_kept, num, len, pri, pla, hav, en, lv, a_text, a_query, a_size, a_wanted, a_news, a_waiting, a_sets, a_scores, a_rarity, a_spans, a_best, a_worth, a_keptNumber, a_keptScore, a_shares)) : wpX_melt post (f_documents, f_added, f_deleted, f_segments, f_total, f_words, f_base, f_kept, a_number, a_length, a_price, a_places, a_having, a_end, a_level, a_text, a_query, a_size, a_wanted, a_news, a_waiting, a_sets, a_scores, a_rarity, a_spans, a_best, a_worth, a_keptNumber, a_keptScore, a_shares) (nI first) (nI to) := by
  obtain ⟨hD, hX, htt⟩ := hC
  have hL := hG.1
  have hT := sg_Gd_T hG
  have hp9 := sg_Gd_p hG
  have hlo : sg_lo S first ≤ L.length := by
    have := sg_lo_mono hS (j := first) (k := S.length) (by omega) (Nat.le_refl _)
    rw [← hst]; exact this
  have hlo2 : sg_lo S first < L.length := by
    have := hS.1 first hf
    have h2 := sg_lo_mono hS (j := first + 1) (k := S.length) (by omega) (Nat.le_refl _)
    rw [sg_lo_s] at h2
    have h3 : sg_lo S S.length = L.length := hst
    omega
  obtain ⟨k1, k2, k3⟩ := sg_melt_ok (first := first) (to := to) hG hS hst hf ht
  have hml := sg_mL_len hlo
  have hge := sg_mL_ge hlo
  generalize hfr : sg_lo S first = fr at *
  -- the loop over documents
  have loop : ∀ k gone, (∀ d, fr ≤ d → d < 32 → bt gone (d - fr) = sg_dl L d) → sg_c (bt gone) 32 = sg_c (fun k => sg_dl L (fr + k)) (L.length - fr) → ∀ m nd del tt num len pri pla hav, m = fr + k → m ≤ L.length → sg_XD (sg_mL L m) nd del num len pri pla hav → tt = nI (sg_al (sg_mL L m) (sg_mL L m).length) → wX_melt_37 post (nI first) (nI to) (nI fr) (nI L.length) gone (k + 1) (nI m + (-1)) nd f_added del f_segments tt f_words f_base f_kept num len pri pla hav a_end a_level a_text a_query a_size a_wanted a_news a_waiting a_sets a_scores a_rarity a_spans a_best a_worth a_keptNumber a_keptScore a_shares := by
    intro k
    induction k with
    | zero =>
      intro gone hg hcnt m nd del tt num len pri pla hav hm hmL hXD htt
      obtain rfl : m = fr := by omega
      refine sg_pdlt (by omega) (by omega) (fun _ => nm_r (e' := nI (((sg_mL L m).length - m) + sg_c (bt gone) 32)) ?_ (Exists.intro _ (sg_xm77 (a := (sg_mL L m).length - m) hf ht (by omega) hfr hX (fun ns en lv h => ?_) _ gone rfl))) (fun z => by omega)
      · rw [pk_sub (by omega)]
        exact congrArg nI (by omega)
      · rw [show m + ((sg_mL L m).length - m) = (sg_mL L m).length by omega] at h
        refine H _ _ _ _ _ _ _ _ _ _ _ ⟨hXD, h, ?_⟩
        rw [htt, k3]
    | succ k ih =>
      intro gone hg hcnt m nd del tt num len pri pla hav hm hmL hXD htt
      obtain rfl : m = (fr + k) + 1 := by omega
      generalize hd : fr + k = d at *
      rw [pk_m1]
      have hdL : d < L.length := by omega
      have hb := hg d (by omega) (by omega)
      obtain ⟨st1, st2⟩ := sg_mL_step hdL
      have hgeC := sg_mL_ge hmL
      have hTC : ∀ i, (sg_T (sg_mL L (d + 1)) i).length ≤ 12 := sg_g_mem (P := fun x => x.2.2.1.length ≤ 12) (Nat.zero_le _) (fun x hx => (hG.2.2.2.1 x ((sg_mL_sub L _).subset hx)).2.2.1)
      have hPC : ∀ i, sg_pr (sg_mL L (d + 1)) i ≤ 99 := sg_g_mem (P := fun x => x.2.1 ≤ 99) (Nat.zero_le _) (fun x hx => (hG.2.2.2.1 x ((sg_mL_sub L _).subset hx)).2.1)
      have hsub : nI d - nI fr = nI (d - fr) := pk_sub (by omega)
      refine pk_lt d fr (fun z => by omega) (fun z => ?_)
      rw [hsub]
      refine ek_if (sg_tu gone (d := d - fr) (by omega)) (fun h0 => ?_) (fun h0 => ?_)
      · rw [hb] at h0
        refine nm_e (ih gone hg hcnt d nd del tt num len pri pla hav rfl (by omega) ?_ ?_)
        · rw [st2 h0]; exact hXD
        · rw [st2 h0]; exact htt
      · rw [hb] at h0
        have h1 : sg_dl L d = true := by cases e : sg_dl L d <;> simp_all
        have hlen := (sg_mL_sub L (d + 1)).length_le
        refine sg_xdrop (L := sg_mL L (d + 1)) (S := S) (d := d) (by omega) hTC hPC (by omega) hXD hX (by omega) htt (fun _ => sg_al_ge (by omega)) (fun del' num' len' pri' pla' hav' hXD' => ?_)
        have hl : (sg_mL L d).length = (sg_mL L (d + 1)).length - 1 := by rw [st1 h1]; exact List.length_eraseIdx_of_lt (by omega)
        have hal := sg_al_er (sg_mL L (d + 1)) d ((sg_mL L (d + 1)).length - 1) (by omega)
        rw [← st1 h1, show (sg_mL L (d + 1)).length - 1 + 1 = (sg_mL L (d + 1)).length by omega] at hal
        rw [← st1 h1] at hXD'
        refine nm_e (ih gone hg hcnt d _ _ _ _ _ _ _ _ rfl (by omega) hXD' ?_)
        rw [if_pos (by omega), hl]
        exact congrArg nI (by omega)
  have hgone : ∀ z0 : Int32, z0 = nI fr → wX_melt_16 post (nI first) (nI to) z0 f_documents f_added f_deleted f_segments f_total f_words f_base f_kept a_number a_length a_price a_places a_having a_end a_level a_text a_query a_size a_wanted a_news a_waiting a_sets a_scores a_rarity a_spans a_best a_worth a_keptNumber a_keptScore a_shares := by
    intro z0 hz0
    subst hz0
    unfold wX_melt_16
    refine sg_xstored hX (nm_e (nm_r (sg_dm _) (Exists.intro (L.length - fr + 1) ?_)))
    rw [hst]
    have hbt : ∀ i, bt ((f_deleted.toUInt32 >>> ((nI fr).toUInt32 &&& Int32.toUInt32 31)).toInt32) i = bt f_deleted (fr + i) := fun i => b_ushr fr (by omega) f_deleted i
    refine loop (L.length - fr) _ (fun d h1 h2 => ?_) ?_ L.length f_documents f_deleted f_total a_number a_length a_price a_places a_having (by omega) (Nat.le_refl _) (by rw [sg_mL_full]; exact hD) (by rw [sg_mL_full, htt, hst])
    · rw [hbt, show fr + (d - fr) = d by omega]
      exact hD.2.2.2.2 d h2
    · rw [sg_c_ext (a := L.length - fr) (by omega) (fun i h1 h2 => ?_)]
      · refine sg_c_eq (fun k hk => ?_)
        rw [hbt]
        exact hD.2.2.2.2 (fr + k) (by omega)
      · rw [hbt]
        by_cases y : fr + i < 32
        · rw [hD.2.2.2.2 _ y]; exact sg_dl_ge (by omega)
        · exact b_big (by omega)
  have hX33 := hX.2.1
  refine pk_eq first 0 (fun z => hgone 0 ?_) (fun z => ⟨pk_in (first - 1) 33 ?_ ?_, hgone _ ?_⟩)
  · have : fr = 0 := by rw [← hfr, z]; rfl
    rw [this]; rfl
  · have := hX.2.1; omega
  · rw [show first = (first - 1) + 1 by omega, nI_pred, Nat.add_sub_cancel]
  · have := hX.2.1
    refine sg_rd (first - 1) ?_ (by omega) ?_
    · rw [show first = (first - 1) + 1 by omega, nI_pred, Nat.add_sub_cancel]
    · rw [(hX.2.2 (first - 1) (by omega)).1, ← hfr]
      unfold sg_lo
      rw [if_neg z]
theorem sg_xf99 {post : Int32 → SX → Prop} {ad : Nat} : ∀ f L S nd del ns tt num len pri pla hav en lv, sg_Gd L S ad → sg_Gs L.length S → sg_st S = L.length → S.length ≤ f → sg_XC L S nd del ns tt num len pri pla hav en lv →
    (∀ nd del ns tt num len pri pla hav en lv, sg_XC (sg_mm f L S).1 (sg_mm f L S).2 nd del ns tt num len pri pla hav en lv → post ns (nd, f_added, del, ns, tt, f_words, f_base, f_kept, num, len, pri, pla, hav, en, lv, a_text, a_query, a_size, a_wanted, a_news, a_waiting, a_sets, a_scores, a_rarity, a_spans, a_best, a_worth, a_keptNumber, a_keptScore, a_shares)) → wX_flush_99 post (f + 1) nd f_added del ns tt f_words f_base f_kept num len pri pla hav en lv a_text a_query a_size a_wanted a_news a_waiting a_sets a_scores a_rarity a_spans a_best a_worth a_keptNumber a_keptScore a_shares := by
  intro f
  induction f with
  | zero =>
    intro L S nd del ns tt num len pri pla hav en lv hG hS hst hl hC H
    have hX := hC.2.1
    exact pk_le S.length 2 (fun _ => H _ _ _ _ _ _ _ _ _ _ _ hC) (fun z => by omega) hX.1
  | succ f ih =>
    intro L S nd del ns tt num len pri pla hav en lv hG hS hst hl hC H
    have hX := hC.2.1
    have hX2 := hX.2.1
    have hv := hS.2.2
    have no : sg_cd S = false → post ns (nd, f_added, del, ns, tt, f_words, f_base, f_kept, num, len, pri, pla, hav, en, lv, a_text, a_query, a_size, a_wanted, a_news, a_waiting, a_sets, a_scores, a_rarity, a_spans, a_best, a_worth, a_keptNumber, a_keptScore, a_shares) := fun h => by
      have e : sg_mm (f + 1) L S = (L, S) := by show (if sg_cd S = true then _ else _) = _; rw [h]; rfl
      rw [e] at H
      exact H _ _ _ _ _ _ _ _ _ _ _ hC
    have m1 : 2 < S.length → ns - 1 = nI (S.length - 1) := fun z => by rw [hX.1, show (1 : Int32) = nI 1 from rfl, pk_sub (by omega)]
    have m2 : 2 < S.length → ns - 2 = nI (S.length - 2) := fun z => by rw [hX.1, show (2 : Int32) = nI 2 from rfl, pk_sub (by omega)]
    have m3 : 2 < S.length → ns - 3 = nI (S.length - 3) := fun z => by rw [hX.1, show (3 : Int32) = nI 3 from rfl, pk_sub (by omega)]
    have l1 : 2 < S.length → lv (ns - 1).toNatClampNeg = nI (sg_lv S (S.length - 1)) := fun z => sg_rd _ (m1 z) (by omega) (hX.2.2 _ (by omega)).2
    have l2 : 2 < S.length → lv (ns - 2).toNatClampNeg = nI (sg_lv S (S.length - 2)) := fun z => sg_rd _ (m2 z) (by omega) (hX.2.2 _ (by omega)).2
    have l3 : 2 < S.length → lv (ns - 3).toNatClampNeg = nI (sg_lv S (S.length - 3)) := fun z => sg_rd _ (m3 z) (by omega) (hX.2.2 _ (by omega)).2
    have v1 := hv (S.length - 1)
    have v2 := hv (S.length - 2)
    have v3 := hv (S.length - 3)
    refine pk_le S.length 2 (fun z => no (decide_eq_false (by omega))) (fun z => ⟨pk_in _ 33 (by omega) (m1 z), pk_le 3 (sg_lv S (S.length - 1)) (fun z1 => no (decide_eq_false (by omega))) (fun z1 => ⟨pk_in _ 33 (by omega) (m3 z), pk_in _ 33 (by omega) (m1 z), ?_⟩) rfl (l1 z)⟩) hX.1
    refine pk_eq (sg_lv S (S.length - 3)) (sg_lv S (S.length - 1)) (fun z2 => ⟨pk_in _ 33 (by omega) (m2 z), pk_in _ 33 (by omega) (m1 z), ?_⟩) (fun z2 => no (decide_eq_false (by omega))) (l3 z) (l1 z)
    refine pk_eq (sg_lv S (S.length - 2)) (sg_lv S (S.length - 1)) (fun z3 => ⟨pk_in _ 33 (by omega) (m1 z), ?_⟩) (fun z3 => no (decide_eq_false (by omega))) (l2 z) (l1 z)
    have hcd : sg_cd S = true := decide_eq_true (by omega)
    have e : sg_mm (f + 1) L S = sg_mm f (sg_mL L (sg_lo S (S.length - 3))) (sg_mS S (S.length - 3) (sg_lv S (S.length - 1) + 1) (sg_mL L (sg_lo S (S.length - 3))).length) := by
      show (if sg_cd S = true then _ else _) = _; rw [if_pos hcd]
    rw [e] at H
    obtain ⟨k1, k2, k3⟩ := sg_melt_ok (first := S.length - 3) (to := sg_lv S (S.length - 1) + 1) hG hS hst (by omega) (by omega)
    have k4 := sg_mS_len (S := S) (first := S.length - 3) (to := sg_lv S (S.length - 1) + 1) (n := (sg_mL L (sg_lo S (S.length - 3))).length) (by omega)
    rw [m3 z, l1 z, nI_1]
    exact sg_xmelt hG hS hst (by omega) (by omega) hC (fun nd del ns tt num len pri pla hav en lv hC' => ih _ _ nd del ns tt num len pri pla hav en lv k1 k2 k3 (by omega) hC' H)
noncomputable def sg_nwN (L : List sg_D) (fr : Nat) (W N : Nat → List Nat) (m : Nat) : Nat → List Nat := fun v => if v < m then sg_nws L (W v) fr (L.length - fr) (N v) else N v
noncomputable def sg_flN (L : List sg_D) (S : List (Nat × Nat)) (W N : Nat → List Nat) : Nat → List Nat := if L.length = sg_st S then N else sg_nwN L (sg_st S) W N 4
theorem sg_nwN_0 {L : List sg_D} {fr : Nat} {W N : Nat → List Nat} : sg_nwN L fr W N 0 = N := by
  funext v; unfold sg_nwN; rw [if_neg (by omega)]
theorem sg_nwN_s {L : List sg_D} {fr w : Nat} {W N : Nat → List Nat} : sg_set (sg_nwN L fr W N w) w (sg_nws L (W w) fr (L.length - fr) (sg_nwN L fr W N w w)) = sg_nwN L fr W N (w + 1) := by
  funext v
  unfold sg_set sg_nwN
  by_cases e : v = w
  · subst e
    rw [if_pos rfl, if_neg (Nat.lt_irrefl v), if_pos (Nat.lt_succ_self v)]
  · rw [if_neg e]
    by_cases z : v < w
    · rw [if_pos z, if_pos (by omega)]
    · rw [if_neg z, if_neg (by omega)]
theorem sg_xflush {post : Int32 → SX → Prop} {L : List sg_D} {S : List (Nat × Nat)} {ad : Nat} {Q : List Nat} {W N : Nat → List Nat} (hG : sg_Gd L S ad) (hS : sg_Gs L.length S) (hQ : sg_XQ Q W a_query a_size) (hq : sg_Gq Q W) (hN : sg_XN N a_news a_waiting) (hC : sg_XC L S f_documents f_deleted f_segments f_total a_number a_length a_price a_places a_having a_end a_level)
    (H : ∀ nd del ns tt num len pri pla hav en lv bs s g nw wt, sg_XC (sg_fl L S).1 (sg_fl L S).2 nd del ns tt num len pri pla hav en lv → sg_XN (sg_flN L S W N) nw wt → post ns (nd, f_added, del, ns, tt, f_words, bs, f_kept, num, len, pri, pla, hav, en, lv, a_text, a_query, a_size, a_wanted, nw, wt, s, a_scores, a_rarity, g, a_best, a_worth, a_keptNumber, a_keptScore, a_shares)) : wpX_flush post (f_documents, f_added, f_deleted, f_segments, f_total, f_words, f_base, f_kept, a_number, a_length, a_price, a_places, a_having, a_end, a_level, a_text, a_query, a_size, a_wanted, a_news, a_waiting, a_sets, a_scores, a_rarity, a_spans, a_best, a_worth, a_keptNumber, a_keptScore, a_shares) := by
  obtain ⟨hD, hX, htt⟩ := hC
  have hL := hG.1
  have hst := hS.2.1
  have hlen := sg_S_len hS
  unfold wpX_flush
  refine sg_xstored hX (pk_eq L.length (sg_st S) (fun z => ?_) (fun z => ?_) hD.1)
  · refine H _ _ _ _ _ _ _ _ _ _ _ f_base a_sets a_spans a_news a_waiting ?_ ?_
    · unfold sg_fl; rw [if_pos z]; exact ⟨hD, hX, htt⟩
    · unfold sg_flN; rw [if_pos z]; exact hN
  · have hlt : sg_st S < L.length := by omega
    -- the law behind the reports
    have rest : ∀ bs s g nw wt, sg_XN (sg_nwN L (sg_st S) W N 4) nw wt → ∀ n, wX_flush_51 post (nI (sg_st S)) (n + 1) (nI 4) f_documents f_added f_deleted f_segments (nI (sg_al L L.length)) f_words bs f_kept a_number a_length a_price a_places a_having a_end a_level a_text a_query a_size a_wanted nw wt s a_scores a_rarity g a_best a_worth a_keptNumber a_keptScore a_shares := by
      intro bs s g nw wt hN4 n
      have hG1 : sg_Gd L (S ++ [(L.length, 0)]) ad := ⟨hG.1, hG.2.1, hG.2.2.1, hG.2.2.2.1, fun i hi => hG.2.2.2.2 i (by rw [sg_st_app] at hi; exact Nat.le_trans hst hi)⟩
      have hS1 : sg_Gs L.length (S ++ [(L.length, 0)]) := sg_Gs_app hS hlt (Nat.le_refl _) (Nat.zero_le 3)
      have hX1 : sg_XS (S ++ [(L.length, 0)]) (nI (S.length + 1)) (upd a_end S.length (nI L.length)) (upd a_level S.length 0) := by
        refine ⟨by rw [List.length_append]; rfl, by rw [List.length_append]; simp; omega, fun k hk => ?_⟩
        rw [List.length_append, List.length_singleton] at hk
        unfold sg_e sg_lv
        by_cases e : k = S.length
        · rw [e, sg_app_eq, pk_us, pk_us]; exact ⟨rfl, rfl⟩
        · rw [sg_app_lt (by omega), pk_un e, pk_un e]; exact hX.2.2 k (by omega)
      refine br_t (by decide) ⟨pk_in S.length 33 (by omega) hX.1, nm_r (e' := upd a_end S.length (nI L.length)) ?_ (nm_r (e' := nI (S.length + 1)) ?_ ⟨pk_in S.length 33 (by omega) hX.1, nm_r (e' := upd a_level S.length 0) ?_ (Exists.intro 41 ?_)⟩)⟩
      · rw [hX.1, nI_clamp (show S.length < 2 ^ 31 by omega), hD.1, sg_nbb (by omega)]
      · rw [hX.1, nI_1]
      · rw [hX.1, nI_clamp (show S.length < 2 ^ 31 by omega)]; rfl
      · refine sg_xf99 40 L (S ++ [(L.length, 0)]) f_documents f_deleted _ _ a_number a_length a_price a_places a_having _ _ hG1 hS1 (by rw [sg_st_app]) (by rw [List.length_append]; simp; omega) ⟨hD, hX1, by rw [sg_st_app]⟩ (fun nd del ns tt num len pri pla hav en lv hC' => H _ _ _ _ _ _ _ _ _ _ _ _ _ _ _ _ ?_ ?_)
        · unfold sg_fl; rw [if_neg z]; exact hC'
        · unfold sg_flN; rw [if_neg z]; exact hN4
    have reps : ∀ k w bs s g nw wt, w + k = 4 → sg_XN (sg_nwN L (sg_st S) W N w) nw wt → wX_flush_51 post (nI (sg_st S)) (k + 1) (nI w) f_documents f_added f_deleted f_segments (nI (sg_al L L.length)) f_words bs f_kept a_number a_length a_price a_places a_having a_end a_level a_text a_query a_size a_wanted nw wt s a_scores a_rarity g a_best a_worth a_keptNumber a_keptScore a_shares := by
      intro k
      induction k with
      | zero =>
        intro w bs s g nw wt hw hNw
        obtain rfl : w = 4 := by omega
        exact rest bs s g nw wt hNw 0
      | succ k ih =>
        intro w bs s g nw wt hw hNw
        refine pk_le 4 w (fun z => by omega) (fun z => ?_)
        refine sg_xreport (L := L) (N := sg_nwN L (sg_st S) W N w) (Q := Q) (W := W) (by omega) (sg_Gd_T hG) (sg_Gd_p hG) hL hlt hD hQ hq hNw (fun bs s g nw wt h => nm_r (nI_1 w) (ih (w + 1) bs s g nw wt (by omega) ?_))
        rw [← sg_nwN_s]; exact h
    have tot : ∀ k d, d + k = L.length → wX_flush_20 post (nI (sg_st S)) f_documents f_added f_deleted f_segments f_words f_base f_kept a_number a_length a_price a_places a_having a_end a_level a_text a_query a_size a_wanted a_news a_waiting a_sets a_scores a_rarity a_spans a_best a_worth a_keptNumber a_keptScore a_shares (k + 1) (nI d) (nI (sg_al L d)) := by
      intro k
      induction k with
      | zero =>
        intro d hd
        obtain rfl : d = L.length := by omega
        exact pk_le L.length L.length (fun _ => Exists.intro 5 (reps 4 0 f_base a_sets a_spans a_news a_waiting rfl (by rw [sg_nwN_0]; exact hN))) (fun z => by omega) hD.1
      | succ k ih =>
        intro d hd
        refine pk_le L.length d (fun z => by omega) (fun z => ⟨pk_in d 32 (by omega), nm_r (e' := nI (sg_al L (d + 1))) ?_ (nm_r (nI_1 d) (ih (d + 1) (by omega)))⟩) hD.1
        rw [sg_rd (f := a_length) d rfl (by omega) (hD.2.1 d z).2.1, nI_add]; rfl
    refine Exists.intro (L.length - sg_st S + 1) ?_
    rw [htt]
    exact tot (L.length - sg_st S) (sg_st S) (by omega)
end
end
section
/-! X: the whole relation; word, add, find, delete, settle -/
def sg_XP (PT : List Nat) (fw : Int32) (tx : Nat → Int32) : Prop := fw = nI PT.length ∧ ∀ i, i < PT.length → tx i = nI (PT.getD i 8)
def sg_XK (K : List (Nat × Nat)) (fk : Int32) (kn ks : Nat → Int32) : Prop := fk = nI K.length ∧ ∀ r, r < K.length → kn r = nI (K.getD r (0, 0)).1 ∧ ks r = nI (K.getD r (0, 0)).2
def sg_XH (Sh : Nat → Nat) (sh : Nat → Int32) : Prop := ∀ k, k < 10 → sh k = nI (Sh k)
def sg_XR (L : List sg_D) (S : List (Nat × Nat)) (ad : Nat) (PT Q : List Nat) (W N : Nat → List Nat) (K : List (Nat × Nat)) (Sh : Nat → Nat) : SX → Prop
  | (f_documents, f_added, f_deleted, f_segments, f_total, f_words, f_base, f_kept, a_number, a_length, a_price, a_places, a_having, a_end, a_level, a_text, a_query, a_size, a_wanted, a_news, a_waiting, a_sets, a_scores, a_rarity, a_spans, a_best, a_worth, a_keptNumber, a_keptScore, a_shares) => sg_XC L S f_documents f_deleted f_segments f_total a_number a_length a_price a_places a_having a_end a_level ∧ f_added = nI ad ∧ sg_XP PT f_words a_text ∧ sg_XQ Q W a_query a_size ∧ sg_XN N a_news a_waiting ∧ sg_XK K f_kept a_keptNumber a_keptScore ∧ sg_XH Sh a_shares
def sg_Gp (PT : List Nat) : Prop := PT.length ≤ 12 ∧ ∀ w, w ∈ PT → w < 8
def sg_addL (L : List sg_D) (ad p : Nat) (PT : List Nat) : List sg_D := L ++ [(ad, p, PT, false)]
theorem sg_addL_len (L : List sg_D) (ad p : Nat) (PT : List Nat) : (sg_addL L ad p PT).length = L.length + 1 := by
  unfold sg_addL; rw [List.length_append]; rfl
theorem sg_addL_ok {L : List sg_D} {S : List (Nat × Nat)} {ad p : Nat} {PT : List Nat} (hG : sg_Gd L S ad) (hL : L.length < 32) (had : ad < 2000) (hS : sg_Gs L.length S) (hP : sg_Gp PT) (hp : p ≤ 99) : sg_Gd (sg_addL L ad p PT) S (ad + 1) ∧ sg_Gs (sg_addL L ad p PT).length S := by
  refine ⟨⟨by rw [sg_addL_len]; omega, by omega, ?_, fun x hx => ?_, fun i hi => ?_⟩, hS.1, ?_, hS.2.2⟩
  · unfold sg_addL
    rw [List.pairwise_append]
    refine ⟨hG.2.2.1, List.pairwise_singleton _ _, fun x hx y hy => ?_⟩
    rw [List.mem_singleton.mp hy]
    exact (hG.2.2.2.1 x hx).1
  · rcases List.mem_append.mp hx with h | h
    · obtain ⟨h1, h2⟩ := hG.2.2.2.1 x h
      exact ⟨by omega, h2⟩
    · rw [List.mem_singleton.mp h]
      exact ⟨Nat.lt_succ_self _, hp, hP.1, hP.2⟩
  · unfold sg_dl sg_addL
    rw [sg_g_ap]
    by_cases e : i = L.length
    · rw [if_pos e]
    · rw [if_neg e]; exact hG.2.2.2.2 i hi
  · rw [sg_addL_len]; have := hS.2.1; omega
def sg_mark (L : List sg_D) (i : Nat) : List sg_D := L.set i (sg_nu L i, sg_pr L i, sg_T L i, true)
theorem sg_mark_g {L : List sg_D} {i : Nat} (hi : i < L.length) (k : Nat) : sg_g (sg_mark L i) k = if k = i then (sg_nu L i, sg_pr L i, sg_T L i, true) else sg_g L k := by
  unfold sg_mark sg_g
  rw [List.getD_eq_getElem?_getD, List.getD_eq_getElem?_getD, List.getElem?_set]
  by_cases e : k = i
  · subst e
    rw [if_pos rfl, if_pos rfl, if_pos hi]; rfl
  · rw [if_neg (fun z => e z.symm), if_neg e]
theorem sg_mark_nu {L : List sg_D} {i : Nat} (hi : i < L.length) (k : Nat) : sg_nu (sg_mark L i) k = sg_nu L k := by
  unfold sg_nu; rw [sg_mark_g hi]; by_cases e : k = i
  · rw [if_pos e, e]; rfl
  · rw [if_neg e]
theorem sg_mark_pr {L : List sg_D} {i : Nat} (hi : i < L.length) (k : Nat) : sg_pr (sg_mark L i) k = sg_pr L k := by
  unfold sg_pr; rw [sg_mark_g hi]; by_cases e : k = i
  · rw [if_pos e, e]; rfl
  · rw [if_neg e]
theorem sg_mark_T {L : List sg_D} {i : Nat} (hi : i < L.length) (k : Nat) : sg_T (sg_mark L i) k = sg_T L k := by
  unfold sg_T; rw [sg_mark_g hi]; by_cases e : k = i
  · rw [if_pos e, e]; rfl
  · rw [if_neg e]
theorem sg_mark_dl {L : List sg_D} {i : Nat} (hi : i < L.length) (k : Nat) : sg_dl (sg_mark L i) k = (sg_dl L k || decide (k = i)) := by
  unfold sg_dl; rw [sg_mark_g hi]; by_cases e : k = i
  · rw [if_pos e, decide_eq_true e, Bool.or_true]
  · rw [if_neg e, decide_eq_false e, Bool.or_false]
theorem sg_mark_len (L : List sg_D) (i : Nat) : (sg_mark L i).length = L.length := by unfold sg_mark; rw [List.length_set]
theorem sg_mark_ok {L : List sg_D} {S : List (Nat × Nat)} {ad i : Nat} (hG : sg_Gd L S ad) (hS : sg_Gs L.length S) (hi : i < sg_st S) : sg_Gd (sg_mark L i) S ad ∧ sg_Gs (sg_mark L i).length S := by
  have hst := hS.2.1
  have hl : i < L.length := by omega
  refine ⟨⟨by rw [sg_mark_len]; exact hG.1, hG.2.1, ?_, fun x hx => ?_, fun k hk => ?_⟩, by rw [sg_mark_len]; exact hS⟩
  · rw [List.pairwise_iff_getElem]
    intro a b ha hb hab
    rw [sg_mark_len] at ha hb
    have h := sg_Gd_s hG hab hb
    rw [← sg_mark_nu hl a, ← sg_mark_nu hl b] at h
    unfold sg_nu at h
    rw [sg_g_lt (by rw [sg_mark_len]; exact ha), sg_g_lt (by rw [sg_mark_len]; exact hb)] at h
    exact h
  · obtain ⟨k, hk, e⟩ := List.mem_iff_getElem.mp hx
    rw [← sg_g_lt hk, sg_mark_g hl] at e
    rw [sg_mark_len] at hk
    by_cases z : k = i
    · rw [if_pos z] at e
      rw [← e]
      exact ⟨sg_Gd_n hG hl, sg_Gd_p hG i, sg_Gd_T hG i, sg_Gd_w hG i⟩
    · rw [if_neg z, sg_g_lt hk] at e
      rw [← e]; exact hG.2.2.2.1 _ (List.getElem_mem hk)
  · rw [sg_mark_dl hl, hG.2.2.2.2 k hk, decide_eq_false (by omega)]; rfl
theorem sg_er_ok {L : List sg_D} {S : List (Nat × Nat)} {ad i : Nat} (hG : sg_Gd L S ad) (hS : sg_Gs L.length S) (hi : i < L.length) (hst : sg_st S ≤ i) : sg_Gd (L.eraseIdx i) S ad ∧ sg_Gs (L.eraseIdx i).length S := by
  have hl : (L.eraseIdx i).length = L.length - 1 := List.length_eraseIdx_of_lt hi
  have hsub : (L.eraseIdx i).Sublist L := List.eraseIdx_sublist L i
  refine ⟨⟨by rw [hl]; have := hG.1; omega, hG.2.1, hG.2.2.1.sublist hsub, fun x hx => hG.2.2.2.1 x (hsub.subset hx), fun k hk => ?_⟩, hS.1, by rw [hl]; omega, hS.2.2⟩
  rw [sg_dl_er]
  by_cases z : k < i
  · rw [if_pos z]; exact hG.2.2.2.2 k hk
  · rw [if_neg z]; exact hG.2.2.2.2 _ (by omega)
section
variable {f_documents f_added f_deleted f_segments f_total f_words f_base f_kept : Int32} {a_number a_length a_price a_places a_having a_end a_level a_text a_query a_size a_wanted a_news a_waiting a_sets a_scores a_rarity a_spans a_best a_worth a_keptNumber a_keptScore a_shares : Nat → Int32}
variable {L : List sg_D} {S : List (Nat × Nat)} {ad : Nat} {PT Q : List Nat} {W N : Nat → List Nat} {K : List (Nat × Nat)} {Sh : Nat → Nat}
theorem sg_XR_mk (hC : sg_XC L S f_documents f_deleted f_segments f_total a_number a_length a_price a_places a_having a_end a_level) (hA : f_added = nI ad) (hP : sg_XP PT f_words a_text) (hQ : sg_XQ Q W a_query a_size) (hN : sg_XN N a_news a_waiting) (hK : sg_XK K f_kept a_keptNumber a_keptScore) (hH : sg_XH Sh a_shares) : sg_XR L S ad PT Q W N K Sh (f_documents, f_added, f_deleted, f_segments, f_total, f_words, f_base, f_kept, a_number, a_length, a_price, a_places, a_having, a_end, a_level, a_text, a_query, a_size, a_wanted, a_news, a_waiting, a_sets, a_scores, a_rarity, a_spans, a_best, a_worth, a_keptNumber, a_keptScore, a_shares) := ⟨hC, hA, hP, hQ, hN, hK, hH⟩
theorem sg_xfind {post : Int32 → Prop} (hG : sg_Gd L S ad) (hD : sg_XD L f_documents f_deleted a_number a_length a_price a_places a_having) (v : Int32) (H1 : ∀ i, i < L.length → nI (sg_nu L i) = v → post (nI i)) (H0 : (∀ i, i < L.length → ¬ nI (sg_nu L i) = v) → post (-1)) : wpX_find post (f_documents, f_added, f_deleted, f_segments, f_total, f_words, f_base, f_kept, a_number, a_length, a_price, a_places, a_having, a_end, a_level, a_text, a_query, a_size, a_wanted, a_news, a_waiting, a_sets, a_scores, a_rarity, a_spans, a_best, a_worth, a_keptNumber, a_keptScore, a_shares) v := by
  obtain ⟨e0, hD1⟩ := hD
  subst e0
  have hL := hG.1
  have hti : ∀ i, i < L.length → (nI (sg_nu L i)).toInt = sg_nu L i := fun i hi => nI_toInt (by have := sg_Gd_n hG hi; have := hG.2.1; omega)
  have key : ∀ n lo hi, lo ≤ hi → hi ≤ L.length → hi - lo < n → (∀ i, i < lo → ((sg_nu L i : Int) < v.toInt)) → (∀ i, hi ≤ i → i < L.length → v.toInt ≤ (sg_nu L i : Int)) → wX_find_7 post v (nI L.length) f_added f_deleted f_segments f_total f_words f_base f_kept a_number a_length a_price a_places a_having a_end a_level a_text a_query a_size a_wanted a_news a_waiting a_sets a_scores a_rarity a_spans a_best a_worth a_keptNumber a_keptScore a_shares n (nI lo) (nI hi) := by
    intro n
    induction n with
    | zero => intro lo hi _ _ h; omega
    | succ n ih =>
      intro lo hi h1 h2 hn hlo hhi
      refine pk_le hi lo (fun z => pk_le L.length lo (fun z2 => H0 (fun i hi' e => ?_)) (fun z2 => ⟨pk_in lo 32 (by omega), ?_⟩)) (fun z => ?_)
      · have a := hlo i (by omega)
        have b := hti i hi'
        rw [e] at b
        omega
      · have er : a_number (nI lo).toNatClampNeg = nI (sg_nu L lo) := sg_rd lo rfl (by omega) (hD1.1 lo z2).1
        rw [er]
        refine br_c (fun e => H1 lo z2 e) (fun e => H0 (fun i hi' e2 => ?_))
        rcases Nat.lt_trichotomy i lo with y | y | y
        · have a := hlo i y
          have b := hti i hi'
          rw [e2] at b
          omega
        · rw [y] at e2; exact e e2
        · have a := hhi lo (by omega) z2
          have b := hti i hi'
          have c := sg_Gd_s hG y hi'
          rw [e2] at b
          omega
      · have em : (nI lo + nI hi) >>> ((1 : Int32) &&& 31) = nI ((lo + hi) / 2) := by
          rw [nI_add, pk_shrN (by omega) _ 1 (by decide)]
        refine nm_r em ⟨pk_in ((lo + hi) / 2) 32 (by omega), ?_⟩
        have hm : (lo + hi) / 2 < L.length := by omega
        have er : a_number (nI ((lo + hi) / 2)).toNatClampNeg = nI (sg_nu L ((lo + hi) / 2)) := sg_rd _ rfl (by omega) (hD1.1 _ hm).1
        rw [er]
        have b := hti _ hm
        refine br_c (fun e => ih lo _ (by omega) (by omega) (by omega) hlo (fun i h3 h4 => ?_)) (fun e => nm_r (nI_1 _) (ih _ hi (by omega) h2 (by omega) (fun i h3 => ?_) hhi))
        · rw [Int32.le_iff_toInt_le, b] at e
          rcases Nat.eq_or_lt_of_le h3 with y | y
          · rw [← y]; exact e
          · have := sg_Gd_s hG y h4; omega
        · rw [Int32.le_iff_toInt_le, b] at e
          rcases Nat.eq_or_lt_of_le (show i ≤ (lo + hi) / 2 by omega) with y | y
          · rw [y]; omega
          · have := sg_Gd_s hG y hm; omega
  exact Exists.intro _ (key (L.length + 1) 0 L.length (Nat.zero_le _) (Nat.le_refl _) (by omega) (fun i hi => by omega) (fun i h1 h2 => by omega))
theorem sg_xword {post : Int32 → SX → Prop} {u : SX} {v : Int32} (hP : sg_Gp PT) (hu : sg_XR L S ad PT Q W N K Sh u) (H0 : ¬ (0 ≤ v ∧ v ≤ 7) ∨ PT.length = 12 → post (-1) u) (H1 : ∀ w u', v = nI w → w < 8 → PT.length < 12 → sg_XR L S ad (PT ++ [w]) Q W N K Sh u' → post (nI (PT.length + 1)) u') : wpX_word post u v := by
  obtain ⟨f_documents, f_added, f_deleted, f_segments, f_total, f_words, f_base, f_kept, a_number, a_length, a_price, a_places, a_having, a_end, a_level, a_text, a_query, a_size, a_wanted, a_news, a_waiting, a_sets, a_scores, a_rarity, a_spans, a_best, a_worth, a_keptNumber, a_keptScore, a_shares⟩ := u
  obtain ⟨hC, hA, hX, hQ, hN, hK, hH⟩ := hu
  obtain ⟨hX1, hX2⟩ := hX
  subst hX1
  unfold wpX_word
  refine sg_outside (fun h1 h2 => br_t rfl (pk_eq PT.length 12 (fun z => H0 (Or.inr z)) (fun z => ?_) rfl rfl (by have := hP.1; omega))) (fun h => br_f (by decide) (H0 (Or.inl h)))
  have hl : PT.length < 12 := by have := hP.1; omega
  obtain ⟨w, hw, rfl⟩ := nI_of2 (M := 7) (n := 7) (by decide) (Int32.not_lt.mpr h1) h2
  refine ⟨pk_in PT.length 12 hl, nm_r (e' := upd a_text PT.length (nI w)) ?_ (nm_r (nI_1 _) ?_)⟩
  · rw [nI_clamp (show PT.length < 2 ^ 31 by omega), sg_nbb (by omega)]
  · rw [nI_1]
    refine H1 w _ rfl (by omega) hl (sg_XR_mk hC hA ⟨by rw [List.length_append]; rfl, fun i hi => ?_⟩ hQ hN hK hH)
    rw [List.length_append, List.length_singleton] at hi
    rw [List.getD_eq_getElem?_getD]
    by_cases e : i = PT.length
    · rw [e, pk_us, List.getElem?_append_right (Nat.le_refl _), Nat.sub_self]; rfl
    · rw [pk_un e, List.getElem?_append_left (by omega), hX2 i (by omega), List.getD_eq_getElem?_getD]
theorem sg_xdelete {post : Int32 → SX → Prop} {u : SX} {v : Int32} (hG : sg_Gd L S ad) (hS : sg_Gs L.length S) (hu : sg_XR L S ad PT Q W N K Sh u)
    (H0 : (∀ i, i < L.length → ¬ nI (sg_nu L i) = v) → post 0 u) (H1 : ∀ i, i < L.length → nI (sg_nu L i) = v → sg_dl L i = true → post 0 u)
    (H2 : ∀ i u', i < L.length → nI (sg_nu L i) = v → sg_dl L i = false → i < sg_st S → sg_XR (sg_mark L i) S ad PT Q W N K Sh u' → post 1 u')
    (H3 : ∀ i u', i < L.length → nI (sg_nu L i) = v → sg_dl L i = false → sg_st S ≤ i → sg_XR (L.eraseIdx i) S ad PT Q W N K Sh u' → post 1 u') : wpX_delete post u v := by
  obtain ⟨f_documents, f_added, f_deleted, f_segments, f_total, f_words, f_base, f_kept, a_number, a_length, a_price, a_places, a_having, a_end, a_level, a_text, a_query, a_size, a_wanted, a_news, a_waiting, a_sets, a_scores, a_rarity, a_spans, a_best, a_worth, a_keptNumber, a_keptScore, a_shares⟩ := u
  obtain ⟨⟨hD, hX, htt⟩, hA, hP, hQ, hN, hK, hH⟩ := hu
  have hL := hG.1
  unfold wpX_delete
  refine sg_xfind hG hD v (fun i hi e => br_f (nI_pos (by omega)) (ek_if (sg_tu f_deleted (d := i) (by omega)) (fun h0 => ?_) (fun h0 => ?_))) (fun h => br_t (by decide) (H0 h))
  · rw [hD.2.2.2.2 i (by omega)] at h0
    refine sg_xstored hX (pk_le (sg_st S) i (fun z => ?_) (fun z => nm_e (H2 i _ hi e h0 z (sg_XR_mk ⟨?_, hX, ?_⟩ hA hP hQ hN hK hH))) rfl rfl (by have := hS.2.1; omega) (by omega))
    · refine sg_xdrop (L := L) (S := S) hL (sg_Gd_T hG) (sg_Gd_p hG) hi hD hX (by have := hS.2.1; omega) htt (fun h => by omega) (fun del num len pri pla hav h2 => ?_)
      rw [if_neg (by omega)]
      have hl : (L.eraseIdx i).length = L.length - 1 := List.length_eraseIdx_of_lt hi
      refine H3 i _ hi e h0 z (sg_XR_mk ⟨h2, hX, ?_⟩ hA hP hQ hN hK hH)
      exact congrArg nI (sg_al_eq (fun k hk => by rw [sg_T_er, if_pos (by omega)]))
    · refine ⟨by rw [sg_mark_len]; exact hD.1, fun k hk => ?_, fun k w m hk hw hm => ?_, fun w k hw hk => ?_, fun k hk => ?_⟩
      · rw [sg_mark_len] at hk
        rw [sg_mark_nu hi, sg_mark_T hi, sg_mark_pr hi]; exact hD.2.1 k hk
      · rw [sg_mark_len] at hk
        rw [sg_mark_T hi]; exact hD.2.2.1 k w m hk hw hm
      · rw [sg_mark_T hi]; exact hD.2.2.2.1 w k hw hk
      · rw [b_or, sg_mark_dl hi, sg_one i (by omega) k hk, hD.2.2.2.2 k hk]
    · rw [htt]
      exact congrArg nI (sg_al_eq (fun k _ => (sg_mark_T hi k).symm))
  · rw [hD.2.2.2.2 i (by omega)] at h0
    exact H1 i hi e (by cases e2 : sg_dl L i <;> simp_all)
theorem sg_xsettle {post : Int32 → SX → Prop} {u : SX} (hG : sg_Gd L S ad) (hS : sg_Gs L.length S) (hq : sg_Gq Q W) (hu : sg_XR L S ad PT Q W N K Sh u)
    (hF : sg_Gd (sg_fl L S).1 (sg_fl L S).2 ad ∧ sg_Gs (sg_fl L S).1.length (sg_fl L S).2 ∧ sg_st (sg_fl L S).2 = (sg_fl L S).1.length)
    (H0 : ∀ u', (sg_fl L S).2.length = 0 → sg_XR (sg_fl L S).1 (sg_fl L S).2 ad PT Q W (sg_flN L S W N) K Sh u' → post 0 u')
    (H1 : ∀ u', 0 < (sg_fl L S).2.length → sg_XR (sg_mL (sg_fl L S).1 0) (sg_mS (sg_fl L S).2 0 3 (sg_mL (sg_fl L S).1 0).length) ad PT Q W (sg_flN L S W N) K Sh u' → post (nI (sg_mL (sg_fl L S).1 0).length) u') : wpX_settle post u := by
  obtain ⟨f_documents, f_added, f_deleted, f_segments, f_total, f_words, f_base, f_kept, a_number, a_length, a_price, a_places, a_having, a_end, a_level, a_text, a_query, a_size, a_wanted, a_news, a_waiting, a_sets, a_scores, a_rarity, a_spans, a_best, a_worth, a_keptNumber, a_keptScore, a_shares⟩ := u
  obtain ⟨hC, hA, hP, hQ, hN, hK, hH⟩ := hu
  have hX0 := hC.2.1
  unfold wpX_settle
  refine sg_xflush hG hS hQ hq hN hC (fun nd del ns tt num len pri pla hav en lv bs s g nw wt hC' hN' => ?_)
  have hX' := hC'.2.1
  refine pk_le (sg_fl L S).2.length 0 (fun z => ?_) (fun z => ?_) hX'.1 rfl (by have := hX'.2.1; omega)
  · unfold wX_settle_18
    refine sg_xstored hX' ?_
    have e : sg_st (sg_fl L S).2 = 0 := by unfold sg_st; rw [show (sg_fl L S).2.length = 0 by omega]; rfl
    rw [e]
    exact H0 _ (by omega) (sg_XR_mk hC' hA hP hQ hN' hK hH)
  · have hm := sg_melt_ok (first := 0) (to := 3) hF.1 hF.2.1 hF.2.2 z (by omega)
    refine sg_xmelt (first := 0) (to := 3) hF.1 hF.2.1 hF.2.2 z (by omega) hC' (fun nd del ns tt num len pri pla hav en lv hC2 => ?_)
    unfold wX_settle_18
    refine sg_xstored hC2.2.1 ?_
    rw [hm.2.2]
    exact H1 _ z (sg_XR_mk hC2 hA hP hQ hN' hK hH)
end
end
section
/-! X: add -/
section
variable {f_documents f_added f_deleted f_segments f_total f_words f_base f_kept : Int32} {a_number a_length a_price a_places a_having a_end a_level a_text a_query a_size a_wanted a_news a_waiting a_sets a_scores a_rarity a_spans a_best a_worth a_keptNumber a_keptScore a_shares : Nat → Int32}
variable {L : List sg_D} {S : List (Nat × Nat)} {ad : Nat} {PT Q : List Nat} {W N : Nat → List Nat} {K : List (Nat × Nat)} {Sh : Nat → Nat}
theorem sg_xa93 {post : Int32 → SX → Prop} {d : Nat} (hd : d < 32) (hP : sg_Gp PT) (hx : sg_XP PT f_words a_text)
    (H : ∀ g h, (∀ v m, v < 8 → m < 32 → bt (g (8 * d + v)) m = decide (PT.getD m 8 = v)) → (∀ x, x < 8 * d → g x = a_places x) → (∀ v k, v < 8 → k < 32 → bt (h v) k = (bt (a_having v) k || (decide (k = d) && decide (v ∈ PT)))) →
      wpX_stored (fun r_13 => (((f_documents - r_13) = 4 → (wpX_flush (fun r_46 u => match u with | (f_documents, f_added, f_deleted, f_segments, f_total, f_words, f_base, f_kept, a_number, a_length, a_price, a_places, a_having, a_end, a_level, a_text, a_query, a_size, a_wanted, a_news, a_waiting, a_sets, a_scores, a_rarity, a_spans, a_best, a_worth, a_keptNumber, a_keptScore, a_shares) => (wX_add_170 post f_documents f_added f_deleted f_segments f_total f_words f_base f_kept a_number a_length a_price a_places a_having a_end a_level a_text a_query a_size a_wanted a_news a_waiting a_sets a_scores a_rarity a_spans a_best a_worth a_keptNumber a_keptScore a_shares)) (f_documents, f_added, f_deleted, f_segments, f_total, 0, f_base, f_kept, a_number, a_length, a_price, g, h, a_end, a_level, a_text, a_query, a_size, a_wanted, a_news, a_waiting, a_sets, a_scores, a_rarity, a_spans, a_best, a_worth, a_keptNumber, a_keptScore, a_shares))) ∧ (¬ (f_documents - r_13) = 4 → (wX_add_170 post f_documents f_added f_deleted f_segments f_total 0 f_base f_kept a_number a_length a_price g h a_end a_level a_text a_query a_size a_wanted a_news a_waiting a_sets a_scores a_rarity a_spans a_best a_worth a_keptNumber a_keptScore a_shares)))) (f_documents, f_added, f_deleted, f_segments, f_total, 0, f_base, f_kept, a_number, a_length, a_price, g, h, a_end, a_level, a_text, a_query, a_size, a_wanted, a_news, a_waiting, a_sets, a_scores, a_rarity, a_spans, a_best, a_worth, a_keptNumber, a_keptScore, a_shares)) :
    ∀ n i g h, i ≤ PT.length → PT.length - i < n → (∀ v m, v < 8 → m < 32 → bt (g (8 * d + v)) m = decide (m < i ∧ PT.getD m 8 = v)) → (∀ x, x < 8 * d → g x = a_places x) → (∀ v k, v < 8 → k < 32 → bt (h v) k = (bt (a_having v) k || (decide (k = d) && sg_b (∃ m, m < i ∧ PT.getD m 8 = v)))) →
      wX_add_93 post (nI d) f_documents f_added f_deleted f_segments f_total f_words f_base f_kept n (nI i) a_number a_length a_price g h a_end a_level a_text a_query a_size a_wanted a_news a_waiting a_sets a_scores a_rarity a_spans a_best a_worth a_keptNumber a_keptScore a_shares := by
  obtain ⟨hx1, hx2⟩ := hx
  have hp1 := hP.1
  intro n
  induction n with
  | zero => intro i g h _ z; omega
  | succ n ih =>
    intro i g h hi hn h1 h2 h3
    refine pk_le PT.length i (fun z => H g h (fun v m hv hm => ?_) h2 (fun v k hv hk => ?_)) (fun z => ?_) hx1
    · rw [h1 v m hv hm]
      refine sg_beq ?_
      simp only [decide_eq_true_iff]
      exact ⟨fun q => q.2, fun q => ⟨by have := sg_getD_lt hv q; omega, q⟩⟩
    · rw [h3 v k hv hk]
      congr 2
      refine (sg_be ?_).symm
      rw [decide_eq_true_iff, sg_mem_T hv]
      exact ⟨fun ⟨m, q1, q2⟩ => ⟨m, by omega, q2⟩, fun ⟨m, q1, q2⟩ => ⟨m, by omega, q2⟩⟩
    · have hw : PT.getD i 8 < 8 := by
        rw [List.getD_eq_getElem?_getD, List.getElem?_eq_getElem z]
        exact hP.2 _ (List.getElem_mem z)
      have et : a_text (nI i).toNatClampNeg = nI (PT.getD i 8) := sg_rd i rfl (by omega) (hx2 i z)
      generalize hwe : PT.getD i 8 = w at *
      have e8 : (8 : Int32) * nI d + nI w = nI (8 * d + w) := by rw [show (8 : Int32) * nI d = nI (8 * d) from pk_mul 8 d, nI_add]
      rw [et]
      have hb : ∀ m, m < 32 → bt (g (8 * d + w) ||| ((1 : Int32) <<< (nI i &&& 31))) m = decide (m < i + 1 ∧ PT.getD m 8 = w) := by
        intro m hm
        rw [b_or, h1 w m hw hm, sg_one i (by omega) m hm]
        refine sg_beq ?_
        simp only [Bool.or_eq_true, decide_eq_true_iff]
        constructor
        · intro q
          rcases q with q | q
          · exact ⟨by omega, q.2⟩
          · exact ⟨by omega, by rw [q]; exact hwe⟩
        · intro q
          by_cases y : m = i
          · exact Or.inr y
          · exact Or.inl ⟨by omega, q.2⟩
      refine ⟨pk_in i 12 (by omega), pk_in (8 * d + w) 256 (by omega) e8, pk_in (8 * d + w) 256 (by omega) e8, nm_r (e' := upd g (8 * d + w) (g (8 * d + w) ||| ((1 : Int32) <<< (nI i &&& 31)))) ?_ ⟨pk_in i 12 (by omega), pk_in w 8 hw, pk_in w 8 hw, nm_r (e' := upd h w (h w ||| ((1 : Int32) <<< (nI d &&& 31)))) ?_ (nm_r (nI_1 i) (ih (i + 1) _ _ (by omega) (by omega) ?_ ?_ ?_))⟩⟩
      · rw [sg_rd (f := g) (8 * d + w) e8 (by omega) rfl]
        refine sg_wr (8 * d + w) e8 (by omega) (sg_shs (fun m hm h12 => ?_))
        rw [hb m hm]
        exact decide_eq_false (by omega)
      · rw [nI_clamp (show w < 2 ^ 31 by omega)]
      · intro v m hv hm
        by_cases e : v = w
        · rw [e, pk_us, hb m hm]
        · rw [pk_un (by omega), h1 v m hv hm]
          refine sg_beq ?_
          simp only [decide_eq_true_iff]
          constructor
          · intro q; exact ⟨by omega, q.2⟩
          · intro q
            refine ⟨?_, q.2⟩
            by_cases y : m = i
            · rw [y, hwe] at q; omega
            · omega
      · intro x hxx
        rw [pk_un (by omega)]; exact h2 x hxx
      · intro v k hv hk
        by_cases e : v = w
        · rw [e, pk_us, b_or, h3 w k hw hk, sg_one d hd k hk]
          by_cases y : k = d
          · have hy : sg_b (∃ m, m < i + 1 ∧ PT.getD m 8 = w) = true := sg_bt.mpr ⟨i, by omega, hwe⟩
            rw [decide_eq_true y, Bool.true_and, Bool.true_and, hy, Bool.or_true, Bool.or_true]
          · rw [decide_eq_false y, Bool.false_and, Bool.false_and, Bool.or_false]
        · rw [pk_un e, h3 v k hv hk]
          congr 2
          refine sg_bi ⟨fun ⟨m, q1, q2⟩ => ⟨m, by omega, q2⟩, fun ⟨m, q1, q2⟩ => ⟨m, ?_, q2⟩⟩
          by_cases y : m = i
          · rw [y, hwe] at q2; omega
          · omega
theorem sg_xadd {post : Int32 → SX → Prop} {u : SX} {v : Int32} (hG : sg_Gd L S ad) (had : ad < 2000) (hS : sg_Gs L.length S) (hq : sg_Gq Q W) (hP : sg_Gp PT) (hu : sg_XR L S ad PT Q W N K Sh u)
    (H0 : ¬ (0 ≤ v ∧ v ≤ 99) → post (-1) u) (H1 : 0 ≤ v → v ≤ 99 → L.length = 32 → post (-2) u)
    (H2 : ∀ p u', v = nI p → p ≤ 99 → L.length < 32 → L.length + 1 - sg_st S = 4 → sg_XR (sg_fl (sg_addL L ad p PT) S).1 (sg_fl (sg_addL L ad p PT) S).2 (ad + 1) [] Q W (sg_flN (sg_addL L ad p PT) S W N) K Sh u' → post (nI ad) u')
    (H3 : ∀ p u', v = nI p → p ≤ 99 → L.length < 32 → ¬ L.length + 1 - sg_st S = 4 → sg_XR (sg_addL L ad p PT) S (ad + 1) [] Q W N K Sh u' → post (nI ad) u') : wpX_add post u v := by
  obtain ⟨f_documents, f_added, f_deleted, f_segments, f_total, f_words, f_base, f_kept, a_number, a_length, a_price, a_places, a_having, a_end, a_level, a_text, a_query, a_size, a_wanted, a_news, a_waiting, a_sets, a_scores, a_rarity, a_spans, a_best, a_worth, a_keptNumber, a_keptScore, a_shares⟩ := u
  obtain ⟨⟨hD, hX, htt⟩, hA, hXP, hQ, hN, hK, hH⟩ := hu
  have hL := hG.1
  have hst := hS.2.1
  have hp1 := hP.1
  unfold wpX_add
  refine sg_outside (fun h1 h2 => br_t rfl (pk_eq L.length 32 (fun z => H1 h1 h2 z) (fun z => ?_) hD.1)) (fun h => br_f (by decide) (H0 h))
  have hl : L.length < 32 := by omega
  obtain ⟨p, hp, rfl⟩ := nI_of2 (M := 99) (n := 99) (by decide) (Int32.not_lt.mpr h1) h2
  obtain ⟨hG1, hS1⟩ := sg_addL_ok hG hl had hS hP hp
  have hlen := sg_addL_len L ad p PT
  have hgl : ∀ k, k < L.length → sg_g (sg_addL L ad p PT) k = sg_g L k := fun k hk => by unfold sg_addL; rw [sg_g_ap, if_neg (by omega)]
  have hge : sg_g (sg_addL L ad p PT) L.length = (ad, p, PT, false) := by unfold sg_addL; rw [sg_g_ap, if_pos rfl]
  have hgn : ∀ k, k ≠ L.length → sg_g (sg_addL L ad p PT) k = sg_g L k := fun k hk => by unfold sg_addL; rw [sg_g_ap, if_neg hk]
  have fin : ∀ g h, (∀ v m, v < 8 → m < 32 → bt (g (8 * L.length + v)) m = decide (PT.getD m 8 = v)) → (∀ x, x < 8 * L.length → g x = a_places x) → (∀ v k, v < 8 → k < 32 → bt (h v) k = (bt (a_having v) k || (decide (k = L.length) && decide (v ∈ PT)))) → sg_XC (sg_addL L ad p PT) S (nI (L.length + 1)) f_deleted f_segments f_total (upd a_number L.length (nI ad)) (upd a_length L.length (nI PT.length)) (upd a_price L.length (nI p)) g h a_end a_level := by
    intro g h q1 q2 q3
    refine ⟨⟨by rw [hlen], fun k hk => ?_, fun k w m hk hw hm => ?_, fun w k hw hk => ?_, fun k hk => ?_⟩, hX, ?_⟩
    · rw [hlen] at hk
      unfold sg_nu sg_T sg_pr
      by_cases e : k = L.length
      · rw [e, hge, pk_us, pk_us, pk_us]; exact ⟨rfl, rfl, rfl⟩
      · rw [hgn k e, pk_un e, pk_un e, pk_un e]; exact hD.2.1 k (by omega)
    · rw [hlen] at hk
      unfold sg_T
      by_cases e : k = L.length
      · rw [e, hge]; exact q1 w m hw hm
      · rw [hgn k e, q2 _ (by omega)]; exact hD.2.2.1 k w m (by omega) hw hm
    · rw [q3 w k hw hk, hD.2.2.2.1 w k hw hk]
      unfold sg_T
      by_cases e : k = L.length
      · rw [e, hge, sg_g_ge (Nat.le_refl _), decide_eq_true rfl, Bool.true_and]
        show (decide (w ∈ ([] : List Nat)) || _) = _
        rw [decide_eq_false (by simp), Bool.false_or]
      · rw [hgn k e, decide_eq_false e, Bool.false_and, Bool.or_false]
    · rw [hD.2.2.2.2 k hk]
      unfold sg_dl
      by_cases e : k = L.length
      · rw [e, hge, sg_g_ge (Nat.le_refl _)]; rfl
      · rw [hgn k e]
    · rw [htt]
      exact congrArg nI (sg_al_eq (fun k hk => by unfold sg_T; rw [hgl k (by omega)]))
  have e67 : ∀ n w g, w ≤ 8 → 8 - w < n → (∀ v, v < w → g (8 * L.length + v) = 0) → (∀ x, x < 8 * L.length → g x = a_places x) → wX_add_67 post (nI L.length) (nI (L.length + 1)) f_added f_deleted f_segments f_total f_words f_base f_kept n (nI w) (upd a_number L.length (nI ad)) (upd a_length L.length (nI PT.length)) (upd a_price L.length (nI p)) g a_having a_end a_level a_text a_query a_size a_wanted a_news a_waiting a_sets a_scores a_rarity a_spans a_best a_worth a_keptNumber a_keptScore a_shares := by
    intro n
    induction n with
    | zero => intro w g _ q; omega
    | succ n ih =>
      intro w g hw hn q1 q2
      have e8 : (8 : Int32) * nI L.length + nI w = nI (8 * L.length + w) := by rw [show (8 : Int32) * nI L.length = nI (8 * L.length) from pk_mul 8 _, nI_add]
      refine pk_le 8 w (fun y => Exists.intro (PT.length + 1) ?_) (fun y => ⟨pk_in (8 * L.length + w) 256 (by omega) e8, nm_r (sg_wr (8 * L.length + w) e8 (by omega) (w := 0) rfl) (nm_r (nI_1 w) (ih (w + 1) _ (by omega) (by omega) (fun v hv => ?_) (fun x hx => ?_)))⟩)
      · refine sg_xa93 (a_places := a_places) (a_having := a_having) (d := L.length) hl hP hXP (fun g' h' r1 r2 r3 => ?_) (PT.length + 1) 0 g a_having (Nat.zero_le _) (by omega) (fun v m hv hm => ?_) q2 (fun v k hv hk => ?_)
        · have hC' := fin g' h' r1 r2 r3
          refine sg_xstored hX ?_
          rw [pk_sub (show sg_st S ≤ L.length + 1 by omega)]
          refine pk_eq (L.length + 1 - sg_st S) 4 (fun e4 => ?_) (fun e4 => ?_)
          · refine sg_xflush (L := sg_addL L ad p PT) hG1 hS1 hQ hq hN hC' (fun nd del ns tt num len pri pla hav en lv bs s g nw wt hC2 hN2 => ?_)
            unfold wX_add_170
            rw [hA]
            exact nm_r (nI_1 ad) (H2 p _ rfl hp hl e4 (sg_XR_mk hC2 rfl ⟨rfl, fun i hi => by cases hi⟩ hQ hN2 hK hH))
          · unfold wX_add_170
            rw [hA]
            exact nm_r (nI_1 ad) (H3 p _ rfl hp hl e4 (sg_XR_mk hC' rfl ⟨rfl, fun i hi => by cases hi⟩ hQ hN hK hH))
        · rw [q1 v (by omega), b_0, decide_eq_false (by omega)]
        · rw [sg_bf.mpr (fun ⟨m, z, _⟩ => by omega), Bool.and_false, Bool.or_false]
      · by_cases e : v = w
        · rw [e, pk_us]
        · rw [pk_un (by omega)]; exact q1 v (by omega)
      · rw [pk_un (by omega)]; exact q2 x hx
  refine nm_r (e' := nI (L.length + 1)) (by rw [hD.1, nI_1]) ⟨pk_in L.length 32 hl hD.1, nm_r (sg_wr L.length hD.1 (by omega) hA) ⟨pk_in L.length 32 hl hD.1, nm_r (sg_wr L.length hD.1 (by omega) (w := nI PT.length) ?_) ⟨pk_in L.length 32 hl hD.1, nm_r (sg_wr L.length hD.1 (by omega) (w := nI p) (sg_nbb (by omega))) (Exists.intro 9 ?_)⟩⟩⟩
  · rw [hXP.1, sg_nbb (by omega)]
  · rw [hD.1]
    exact e67 9 0 a_places (by omega) (by omega) (fun v hv => by omega) (fun x _ => rfl)
end
end
section
/-! X: held, segment, about, at, hit, share, next -/
def sg_heldA (L : List sg_D) (S : List (Nat × Nat)) (v : Int32) : Int32 := if v = 0 then nI L.length else if v = 1 then nI (L.length - sg_st S) else if v = 2 then nI (sg_c (sg_dl L) L.length) else if v = 3 then nI S.length else -1
def sg_segV (L : List sg_D) (S : List (Nat × Nat)) (j c : Nat) : Nat := if c = 0 then sg_lv S j else if c = 1 then sg_e S j - sg_lo S j else if c = 2 then sg_c (fun k => sg_dl L k && decide (sg_lo S j ≤ k ∧ k < sg_e S j)) L.length else sg_nu L (sg_lo S j)
def sg_shl (S : List (Nat × Nat)) (d : Nat) (v : Int32) : Prop := (∀ k, k < S.length → sg_lo S k ≤ d → d < sg_e S k → v = nI k) ∧ (sg_st S ≤ d → v = -1)
theorem sg_e_le {n : Nat} {S : List (Nat × Nat)} (h : sg_Gs n S) {k : Nat} (hk : k < S.length) : sg_e S k ≤ sg_st S := by
  have := sg_lo_mono h (j := k + 1) (k := S.length) (by omega) (Nat.le_refl _)
  rw [sg_lo_s] at this; exact this
section
variable {f_documents f_added f_deleted f_segments f_total f_words f_base f_kept : Int32} {a_number a_length a_price a_places a_having a_end a_level a_text a_query a_size a_wanted a_news a_waiting a_sets a_scores a_rarity a_spans a_best a_worth a_keptNumber a_keptScore a_shares : Nat → Int32}
variable {L : List sg_D} {S : List (Nat × Nat)} {ad : Nat} {PT Q : List Nat} {W N : Nat → List Nat} {K : List (Nat × Nat)} {Sh : Nat → Nat}
theorem sg_xheld {post : Int32 → Prop} {u : SX} {v : Int32} (hG : sg_Gd L S ad) (hS : sg_Gs L.length S) (hu : sg_XR L S ad PT Q W N K Sh u) (H : post (sg_heldA L S v)) : wpX_held post u v := by
  obtain ⟨f_documents, f_added, f_deleted, f_segments, f_total, f_words, f_base, f_kept, a_number, a_length, a_price, a_places, a_having, a_end, a_level, a_text, a_query, a_size, a_wanted, a_news, a_waiting, a_sets, a_scores, a_rarity, a_spans, a_best, a_worth, a_keptNumber, a_keptScore, a_shares⟩ := u
  obtain ⟨⟨hD, hX, htt⟩, hA, hP, hQ, hN, hK, hH⟩ := hu
  unfold sg_heldA at H
  refine br_c (fun h => ?_) (fun h => br_c (fun h2 => ?_) (fun h2 => br_c (fun e => ?_) (fun e => br_c (fun e1 => ?_) (fun e1 => br_c (fun e2 => ?_) (fun e2 => br_c (fun e3 => ?_) (fun e3 => trivial))))))
  · rw [if_neg (by rintro rfl; revert h; decide), if_neg (by rintro rfl; revert h; decide), if_neg (by rintro rfl; revert h; decide), if_neg (by rintro rfl; revert h; decide)] at H
    exact H
  · rw [if_neg (by rintro rfl; revert h2; decide), if_neg (by rintro rfl; revert h2; decide), if_neg (by rintro rfl; revert h2; decide), if_neg (by rintro rfl; revert h2; decide)] at H
    exact H
  · rw [if_pos e] at H; rw [hD.1]; exact H
  · rw [if_neg e, if_pos e1] at H
    refine sg_xstored hX ?_
    rw [hD.1, pk_sub hS.2.1]; exact H
  · rw [if_neg e, if_neg e1, if_pos e2] at H
    refine sg_count ?_ H
    rw [sg_c_ext (a := L.length) hG.1 (fun i h3 h4 => by rw [hD.2.2.2.2 i h4]; exact sg_dl_ge h3)]
    exact sg_c_eq (fun k hk => hD.2.2.2.2 k (by have := hG.1; omega))
  · rw [if_neg e, if_neg e1, if_neg e2, if_pos e3] at H
    rw [hX.1]; exact H
theorem sg_xsegment {post : Int32 → Prop} {u : SX} {v1 v2 : Int32} (hG : sg_Gd L S ad) (hS : sg_Gs L.length S) (hu : sg_XR L S ad PT Q W N K Sh u)
    (H0 : (¬ ∃ j, j < S.length ∧ v1 = nI j) → post (-1)) (H1 : ∀ j, j < S.length → v1 = nI j → (¬ ∃ c, c < 4 ∧ v2 = nI c) → post (-1)) (H2 : ∀ j c, j < S.length → v1 = nI j → c < 4 → v2 = nI c → post (nI (sg_segV L S j c))) : wpX_segment post u v1 v2 := by
  obtain ⟨f_documents, f_added, f_deleted, f_segments, f_total, f_words, f_base, f_kept, a_number, a_length, a_price, a_places, a_having, a_end, a_level, a_text, a_query, a_size, a_wanted, a_news, a_waiting, a_sets, a_scores, a_rarity, a_spans, a_best, a_worth, a_keptNumber, a_keptScore, a_shares⟩ := u
  obtain ⟨⟨hD, hX, htt⟩, hA, hP, hQ, hN, hK, hH⟩ := hu
  have hL := hG.1
  have hst := hS.2.1
  have hX2 := hX.2.1
  have es : (f_segments - 1).toInt = (S.length : Int) - 1 := by
    rw [hX.1, show (1 : Int32) = nI 1 from rfl, pk_sub_toInt (by omega) (by omega)]; rfl
  unfold wpX_segment
  refine sg_outside (fun h1 h2 => br_t rfl ?_) (fun h => br_f (by decide) (H0 ?_))
  · rw [Int32.le_iff_toInt_le, es] at h2
    obtain ⟨j, hj, rfl⟩ := nI_of (x := v1) (Int32.not_lt.mpr h1)
    rw [nI_toInt hj] at h2
    have hjS : j < S.length := by omega
    have hlo : sg_lo S j < 32 := by have := hS.1 j hjS; have := sg_e_le hS hjS; omega
    have hee : sg_e S j ≤ 32 := by have := sg_e_le hS hjS; omega
    have hle := hS.1 j hjS
    have hel := sg_e_le hS hjS
    have ee : a_end (nI j).toNatClampNeg = nI (sg_e S j) := sg_rd j rfl (by omega) (hX.2.2 j hjS).1
    have el : a_level (nI j).toNatClampNeg = nI (sg_lv S j) := sg_rd j rfl (by omega) (hX.2.2 j hjS).2
    have key : ∀ z0, z0 = nI (sg_lo S j) → wX_segment_32 post (nI j) v2 z0 f_documents f_added f_deleted f_segments f_total f_words f_base f_kept a_number a_length a_price a_places a_having a_end a_level a_text a_query a_size a_wanted a_news a_waiting a_sets a_scores a_rarity a_spans a_best a_worth a_keptNumber a_keptScore a_shares := by
      intro z0 hz0
      subst hz0
      refine And.intro (pk_in j 33 (by omega)) ?_
      rw [ee]
      refine sg_row hlo hee (fun r hr => ?_)
      have no : (¬ ∃ c, c < 4 ∧ v2 = nI c) → post (-1) := H1 j hjS rfl
      refine br_c (fun q => no ?_) (fun q => br_c (fun q2 => no ?_) (fun q2 => br_c (fun e => ?_) (fun e => br_c (fun e1 => ?_) (fun e1 => br_c (fun e2 => ?_) (fun e2 => br_c (fun e3 => ?_) (fun e3 => trivial))))))
      · rintro ⟨c, hc, rfl⟩
        exact nI_pos (by omega) q
      · rintro ⟨c, hc, rfl⟩
        exact nI_nlt (a := 3) (b := c) (by omega) (by omega) q2
      · have := H2 j 0 hjS rfl (by omega) e
        refine ⟨pk_in j 33 (by omega), ?_⟩
        rw [el]; exact this
      · have := H2 j 1 hjS rfl (by omega) e1
        refine ⟨pk_in j 33 (by omega), ?_⟩
        rw [pk_sub (by omega)]; exact this
      · have := H2 j 2 hjS rfl (by omega) e2
        refine sg_count ?_ this
        rw [sg_c_ext (a := L.length) hL (fun i h3 h4 => by rw [b_and, hD.2.2.2.2 i h4, sg_dl_ge h3]; rfl)]
        refine sg_c_eq (fun k hk => ?_)
        rw [b_and, hD.2.2.2.2 k (by omega), hr k (by omega)]
      · have := H2 j 3 hjS rfl (by omega) e3
        refine ⟨pk_in (sg_lo S j) 32 hlo, ?_⟩
        rw [sg_rd (f := a_number) (sg_lo S j) rfl (by omega) (hD.2.1 _ (by omega)).1]; exact this
    refine pk_eq j 0 (fun z => key 0 ?_) (fun z => ?_)
    · rw [z]; rfl
    · have e1 : nI j - 1 = nI (j - 1) := by rw [show j = (j - 1) + 1 by omega, nI_pred, Nat.add_sub_cancel]
      refine ⟨pk_in (j - 1) 33 (by omega) e1, key _ ?_⟩
      refine sg_rd (j - 1) e1 (by omega) ?_
      rw [(hX.2.2 (j - 1) (by omega)).1]
      unfold sg_lo; rw [if_neg z]
  · rintro ⟨j, hj, rfl⟩
    refine h ⟨nI_pos' (by omega), ?_⟩
    rw [Int32.le_iff_toInt_le, es, nI_toInt (by omega)]; omega
theorem sg_xabout {post : Int32 → Prop} {u : SX} {v1 v2 : Int32} (hG : sg_Gd L S ad) (hS : sg_Gs L.length S) (hu : sg_XR L S ad PT Q W N K Sh u)
    (H0 : (∀ i, i < L.length → ¬ nI (sg_nu L i) = v1) → post (-5)) (H1 : ∀ i, i < L.length → nI (sg_nu L i) = v1 → ¬ (0 ≤ v2 ∧ v2 ≤ 2) → post (-5))
    (H2 : ∀ i, i < L.length → nI (sg_nu L i) = v1 → v2 = 0 → post (nI (sg_pr L i))) (H3 : ∀ i, i < L.length → nI (sg_nu L i) = v1 → v2 = 1 → post (nI (sg_T L i).length))
    (H4 : ∀ i r, i < L.length → nI (sg_nu L i) = v1 → v2 = 2 → sg_shl S i r → post r) : wpX_about post u v1 v2 := by
  obtain ⟨f_documents, f_added, f_deleted, f_segments, f_total, f_words, f_base, f_kept, a_number, a_length, a_price, a_places, a_having, a_end, a_level, a_text, a_query, a_size, a_wanted, a_news, a_waiting, a_sets, a_scores, a_rarity, a_spans, a_best, a_worth, a_keptNumber, a_keptScore, a_shares⟩ := u
  obtain ⟨⟨hD, hX, htt⟩, hA, hP, hQ, hN, hK, hH⟩ := hu
  have hL := hG.1
  have hst := hS.2.1
  have hX2 := hX.2.1
  unfold wpX_about
  refine sg_xfind hG hD v1 (fun i hi e => br_f (nI_pos (by omega)) (sg_outside (fun h1 h2 => br_t rfl ?_) (fun h => br_f (by decide) (H1 i hi e h)))) (fun h => br_t (by decide) (H0 h))
  obtain ⟨c, hc, rfl⟩ := nI_of2 (M := 2) (n := 2) (by decide) (Int32.not_lt.mpr h1) h2
  obtain ⟨y1, y2, y3⟩ := hD.2.1 i hi
  refine pk_le 2 c (fun z => ?_) (fun z => pk_eq c 0 (fun z2 => ⟨pk_in i 32 (by omega), ?_⟩) (fun z2 => ⟨pk_in i 32 (by omega), ?_⟩))
  · have key : ∀ n k, k ≤ S.length → S.length - k < n → (∀ j, j < k → sg_e S j ≤ i) → wX_about_50 post (nI i) f_documents f_added f_deleted f_segments f_total f_words f_base f_kept a_number a_length a_price a_places a_having a_end a_level a_text a_query a_size a_wanted a_news a_waiting a_sets a_scores a_rarity a_spans a_best a_worth a_keptNumber a_keptScore a_shares n (nI k) := by
      intro n
      induction n with
      | zero => intro k _ h; omega
      | succ n ih =>
        intro k hk hn hj
        have hlast : k ≤ S.length → sg_lo S k ≤ i := fun _ => by
          cases k with
          | zero => exact Nat.zero_le _
          | succ k => rw [sg_lo_s]; exact hj k (by omega)
        refine pk_le S.length k (fun y => ?_) (fun y => ⟨pk_in k 33 (by omega), ?_⟩) hX.1
        · obtain rfl : k = S.length := by omega
          unfold wX_about_76
          refine pk_le S.length S.length (fun _ => H4 i (-1) hi e (by rw [show c = 2 by omega]; rfl) ⟨fun k' hk' q1 q2 => ?_, fun _ => rfl⟩) (fun q => by omega) hX.1
          have := hj k' hk'
          omega
        · have ee : a_end (nI k).toNatClampNeg = nI (sg_e S k) := sg_rd k rfl (by omega) (hX.2.2 k y).1
          have := sg_e_le hS y
          rw [ee]
          refine pk_lt i (sg_e S k) (fun q => ?_) (fun q => nm_r (nI_1 k) (ih (k + 1) (by omega) (by omega) (fun j hj2 => ?_)))
          · unfold wX_about_76
            refine pk_le S.length k (fun q2 => by omega) (fun _ => H4 i (nI k) hi e (by rw [show c = 2 by omega]; rfl) ⟨fun k' hk' q1 q2 => ?_, fun q2 => ?_⟩) hX.1
            · rw [sg_seg_u hS hk' y q1 q2 (hlast (by omega)) q]
            · omega
          · by_cases q2 : j = k
            · rw [q2]; exact q
            · exact hj j (by omega)
    exact Exists.intro _ (key (S.length + 1) 0 (Nat.zero_le _) (by omega) (fun j hj => by omega))
  · rw [sg_rd (f := a_price) i rfl (by omega) y3]
    exact H2 i hi e (by rw [z2]; rfl)
  · rw [sg_rd (f := a_length) i rfl (by omega) y2]
    exact H3 i hi e (by rw [show c = 1 by omega]; rfl)
theorem sg_xat {post : Int32 → Prop} {u : SX} {v1 v2 : Int32} (hG : sg_Gd L S ad) (hu : sg_XR L S ad PT Q W N K Sh u)
    (H0 : (∀ i, i < L.length → ¬ nI (sg_nu L i) = v1) → post (-1)) (H1 : ∀ i, i < L.length → nI (sg_nu L i) = v1 → (¬ ∃ j, j < (sg_T L i).length ∧ v2 = nI j) → post (-1))
    (H2 : ∀ i j, i < L.length → nI (sg_nu L i) = v1 → j < (sg_T L i).length → v2 = nI j → post (nI ((sg_T L i).getD j 8))) : wpX_at post u v1 v2 := by
  obtain ⟨f_documents, f_added, f_deleted, f_segments, f_total, f_words, f_base, f_kept, a_number, a_length, a_price, a_places, a_having, a_end, a_level, a_text, a_query, a_size, a_wanted, a_news, a_waiting, a_sets, a_scores, a_rarity, a_spans, a_best, a_worth, a_keptNumber, a_keptScore, a_shares⟩ := u
  obtain ⟨⟨hD, hX, htt⟩, hA, hP, hQ, hN, hK, hH⟩ := hu
  have hL := hG.1
  unfold wpX_at
  refine sg_xfind hG hD v1 (fun i hi e => br_f (nI_pos (by omega)) ⟨pk_in i 32 (by omega), ?_⟩) (fun h => br_t (by decide) (H0 h))
  obtain ⟨y1, y2, y3⟩ := hD.2.1 i hi
  have hT := sg_Gd_T hG i
  rw [sg_rd (f := a_length) i rfl (by omega) y2]
  have es : (nI (sg_T L i).length - 1).toInt = ((sg_T L i).length : Int) - 1 := by
    rw [show (1 : Int32) = nI 1 from rfl, pk_sub_toInt (by omega) (by omega)]; rfl
  refine sg_outside (fun h1 h2 => br_t rfl ?_) (fun h => br_f (by decide) (H1 i hi e ?_))
  · rw [Int32.le_iff_toInt_le, es] at h2
    obtain ⟨j, hj, rfl⟩ := nI_of (x := v2) (Int32.not_lt.mpr h1)
    rw [nI_toInt hj] at h2
    have hjT : j < (sg_T L i).length := by omega
    have hw : (sg_T L i).getD j 8 < 8 := by
      rw [List.getD_eq_getElem?_getD, List.getElem?_eq_getElem hjT]
      exact sg_Gd_w hG i _ (List.getElem_mem hjT)
    have key : ∀ n k, k ≤ (sg_T L i).getD j 8 → (sg_T L i).getD j 8 - k < n → wX_at_31 post (nI j) (nI i) f_documents f_added f_deleted f_segments f_total f_words f_base f_kept a_number a_length a_price a_places a_having a_end a_level a_text a_query a_size a_wanted a_news a_waiting a_sets a_scores a_rarity a_spans a_best a_worth a_keptNumber a_keptScore a_shares n (nI k) := by
      intro n
      induction n with
      | zero => intro k _ h; omega
      | succ n ih =>
        intro k hk hn
        have e8 : (8 : Int32) * nI i + nI k = nI (8 * i + k) := by rw [show (8 : Int32) * nI i = nI (8 * i) from pk_mul 8 i, nI_add]
        refine And.intro (pk_in (8 * i + k) 256 (by omega) e8) ?_
        rw [sg_rd (f := a_places) (8 * i + k) e8 (by omega) rfl]
        refine ek_if (sg_ts (a_places (8 * i + k)) (d := j) (by omega)) (fun h0 => nm_r (nI_1 k) (ih (k + 1) ?_ ?_)) (fun h0 => ?_)
        · rw [hD.2.2.1 i k j hi (by omega) (by omega)] at h0
          have := of_decide_eq_false h0
          omega
        · rw [hD.2.2.1 i k j hi (by omega) (by omega)] at h0
          have := of_decide_eq_false h0
          omega
        · rw [hD.2.2.1 i k j hi (by omega) (by omega)] at h0
          have : (sg_T L i).getD j 8 = k := by
            by_cases q : (sg_T L i).getD j 8 = k
            · exact q
            · exact absurd (decide_eq_false q) h0
          rw [← this]
          exact H2 i j hi e hjT rfl
    exact Exists.intro _ (key 9 0 (Nat.zero_le _) (by omega))
  · rintro ⟨j, hj, rfl⟩
    refine h ⟨nI_pos' (by omega), ?_⟩
    rw [Int32.le_iff_toInt_le, es, nI_toInt (by omega)]; omega
theorem sg_xhit {post : Int32 → Prop} {u : SX} {v1 v2 : Int32} (hk : K.length ≤ 10) (hu : sg_XR L S ad PT Q W N K Sh u)
    (H0 : (¬ ∃ j, j < K.length ∧ v1 = nI j) → post (-1)) (H1 : ∀ j, j < K.length → v1 = nI j → ¬ (0 ≤ v2 ∧ v2 ≤ 1) → post (-1))
    (H2 : ∀ j, j < K.length → v1 = nI j → v2 = 0 → post (nI (K.getD j (0, 0)).1)) (H3 : ∀ j, j < K.length → v1 = nI j → v2 = 1 → post (nI (K.getD j (0, 0)).2)) : wpX_hit post u v1 v2 := by
  obtain ⟨f_documents, f_added, f_deleted, f_segments, f_total, f_words, f_base, f_kept, a_number, a_length, a_price, a_places, a_having, a_end, a_level, a_text, a_query, a_size, a_wanted, a_news, a_waiting, a_sets, a_scores, a_rarity, a_spans, a_best, a_worth, a_keptNumber, a_keptScore, a_shares⟩ := u
  obtain ⟨hC, hA, hP, hQ, hN, hK, hH⟩ := hu
  have es : (f_kept - 1).toInt = (K.length : Int) - 1 := by
    rw [hK.1, show (1 : Int32) = nI 1 from rfl, pk_sub_toInt (by omega) (by omega)]; rfl
  unfold wpX_hit
  refine sg_outside (fun h1 h2 => br_t rfl ?_) (fun h => br_f (by decide) (H0 ?_))
  · rw [Int32.le_iff_toInt_le, es] at h2
    obtain ⟨j, hj, rfl⟩ := nI_of (x := v1) (Int32.not_lt.mpr h1)
    rw [nI_toInt hj] at h2
    have hjK : j < K.length := by omega
    obtain ⟨y1, y2⟩ := hK.2 j hjK
    refine sg_outside (fun h3 h4 => br_t rfl ?_) (fun h => br_f (by decide) (H1 j hjK rfl h))
    obtain ⟨c, hc, rfl⟩ := nI_of2 (M := 1) (n := 1) (by decide) (Int32.not_lt.mpr h3) h4
    refine pk_eq c 0 (fun z => ⟨pk_in j 10 (by omega), ?_⟩) (fun z => ⟨pk_in j 10 (by omega), ?_⟩)
    · rw [sg_rd (f := a_keptNumber) j rfl (by omega) y1]
      exact H2 j hjK rfl (by rw [z]; rfl)
    · rw [sg_rd (f := a_keptScore) j rfl (by omega) y2]
      exact H3 j hjK rfl (by rw [show c = 1 by omega]; rfl)
  · rintro ⟨j, hj, rfl⟩
    refine h ⟨nI_pos' (by omega), ?_⟩
    rw [Int32.le_iff_toInt_le, es, nI_toInt (by omega)]; omega
theorem sg_xshare {post : Int32 → Prop} {u : SX} {v1 : Int32} (hu : sg_XR L S ad PT Q W N K Sh u) (H0 : ¬ (0 ≤ v1 ∧ v1 ≤ 9) → post (-1)) (H1 : ∀ j, j < 10 → v1 = nI j → post (nI (Sh j))) : wpX_share post u v1 := by
  obtain ⟨f_documents, f_added, f_deleted, f_segments, f_total, f_words, f_base, f_kept, a_number, a_length, a_price, a_places, a_having, a_end, a_level, a_text, a_query, a_size, a_wanted, a_news, a_waiting, a_sets, a_scores, a_rarity, a_spans, a_best, a_worth, a_keptNumber, a_keptScore, a_shares⟩ := u
  obtain ⟨hC, hA, hP, hQ, hN, hK, hH⟩ := hu
  unfold wpX_share
  refine sg_outside (fun h1 h2 => br_t rfl ?_) (fun h => br_f (by decide) (H0 h))
  obtain ⟨c, hc, rfl⟩ := nI_of2 (M := 9) (n := 9) (by decide) (Int32.not_lt.mpr h1) h2
  refine ⟨pk_in c 10 (by omega), ?_⟩
  rw [sg_rd (f := a_shares) c rfl (by omega) (hH c (by omega))]
  exact H1 c (by omega) rfl
theorem sg_xnext {post : Int32 → SX → Prop} {u : SX} {v1 : Int32} (hu : sg_XR L S ad PT Q W N K Sh u) (H0 : ¬ (0 ≤ v1 ∧ v1 ≤ 3) → post (-1) u) (H1 : ∀ w, w < 4 → v1 = nI w → N w = [] → post (-1) u) (H2 : ∀ w u', w < 4 → v1 = nI w → N w ≠ [] → sg_XR L S ad PT Q W (sg_set N w (N w).tail) K Sh u' → post (nI ((N w).getD 0 0)) u') : wpX_next post u v1 := by
  obtain ⟨f_documents, f_added, f_deleted, f_segments, f_total, f_words, f_base, f_kept, a_number, a_length, a_price, a_places, a_having, a_end, a_level, a_text, a_query, a_size, a_wanted, a_news, a_waiting, a_sets, a_scores, a_rarity, a_spans, a_best, a_worth, a_keptNumber, a_keptScore, a_shares⟩ := u
  obtain ⟨hC, hA, hP, hQ, hN, hK, hH⟩ := hu
  unfold wpX_next
  refine sg_outside (fun h1 h2 => br_t rfl ?_) (fun h => br_f (by decide) (H0 h))
  obtain ⟨w, hw, rfl⟩ := nI_of2 (M := 3) (n := 3) (by decide) (Int32.not_lt.mpr h1) h2
  obtain ⟨a1, a2, a3⟩ := hN w (by omega)
  have e8 : (8 : Int32) * nI w = nI (8 * w) := pk_mul 8 w
  refine ⟨pk_in w 4 (by omega), pk_eq (N w).length 0 (fun z => H1 w (by omega) rfl (List.eq_nil_of_length_eq_zero z)) (fun z => ⟨pk_in (8 * w) 32 (by omega) e8, nm_r (sg_rd (8 * w) e8 (by omega) (a3 0 (by omega))) ?_⟩) (sg_rd w rfl (by omega) a1)⟩
  exact sg_xforget (by omega) hN (by omega) (fun nw wt h => H2 w _ (by omega) rfl (fun q => z (by rw [q]; rfl)) (sg_XR_mk hC hA hP hQ h hK hH))
end
end
section
/-! X: token, isWhole, watch -/
def sg_bi1 (b : Bool) : Int32 := if b = true then 1 else 0
def sg_Wd (f : Nat → Int32) : List Bool → Prop
  | [] => True
  | b :: r => f r.length = sg_bi1 b ∧ sg_Wd f r
theorem sg_Wd_eq {f g : Nat → Int32} : ∀ {due : List Bool}, (∀ x, x < due.length → g x = f x) → sg_Wd f due → sg_Wd g due
  | [], _, _ => trivial
  | b :: r, h, hw => ⟨by rw [h r.length (by simp)]; exact hw.1, sg_Wd_eq (fun x hx => h x (by simp; omega)) hw.2⟩
theorem sg_At_u {f : Nat → Int32} {p : Nat} {e : List Nat} {x : Nat} {v : Int32} (h : sg_At f p e) (hx : x < p ∨ p + e.length ≤ x) : sg_At (upd f x v) p e := fun k hk => by rw [pk_un (by omega)]; exact h k hk
section
variable {f_documents f_added f_deleted f_segments f_total f_words f_base f_kept : Int32} {a_number a_length a_price a_places a_having a_end a_level a_text a_query a_size a_wanted a_news a_waiting a_sets a_scores a_rarity a_spans a_best a_worth a_keptNumber a_keptScore a_shares : Nat → Int32}
variable {L : List sg_D} {S : List (Nat × Nat)} {ad : Nat} {PT Q : List Nat} {W N : Nat → List Nat} {K : List (Nat × Nat)} {Sh : Nat → Nat}
theorem sg_xw16 {post : Int32 → SX → Prop} {B : Nat} (hB : B + 16 ≤ 96) : ∀ (ts : List Nat) (k : Nat) (due : List Bool) (g : Nat → Int32), sg_At a_query (B + k) ts → (∀ t, t ∈ ts → sg_tok t) → k + ts.length ≤ 12 → due.length ≤ 1 + k → sg_Wd g due →
      (∀ g', post (sg_bi1 (sg_chk ts due)) (f_documents, f_added, f_deleted, f_segments, f_total, f_words, nI B, f_kept, a_number, a_length, a_price, a_places, a_having, a_end, a_level, a_text, a_query, a_size, g', a_news, a_waiting, a_sets, a_scores, a_rarity, a_spans, a_best, a_worth, a_keptNumber, a_keptScore, a_shares)) → wX_isWhole_16 post (nI (k + ts.length)) f_documents f_added f_deleted f_segments f_total f_words (nI B) f_kept (ts.length + 1) (nI due.length) (nI k) a_number a_length a_price a_places a_having a_end a_level a_text a_query a_size g a_news a_waiting a_sets a_scores a_rarity a_spans a_best a_worth a_keptNumber a_keptScore a_shares := by
  intro ts
  induction ts with
  | nil =>
    intro k due g hat htok hk hdue hW H
    refine pk_le k k (fun _ => pk_eq due.length 0 (fun z => ?_) (fun z => ?_)) (fun z => by omega)
    · have : due = [] := List.eq_nil_of_length_eq_zero z
      subst this; exact H g
    · cases due with
      | nil => exact absurd rfl z
      | cons b r => exact H g
  | cons t ts ih =>
    intro k due g hat htok hk hdue hW H
    obtain ⟨hq, hr⟩ := sg_At_c hat
    have ht := htok t (List.mem_cons_self ..)
    have hlen : (t :: ts).length = ts.length + 1 := rfl
    rw [hlen] at hk
    have nxt : ∀ due' g', due'.length ≤ 1 + (k + 1) → sg_Wd g' due' → sg_chk (t :: ts) due = sg_chk ts due' → wX_isWhole_16 post (nI (k + (ts.length + 1))) f_documents f_added f_deleted f_segments f_total f_words (nI B) f_kept (ts.length + 1) (nI due'.length) (nI (k + 1)) a_number a_length a_price a_places a_having a_end a_level a_text a_query a_size g' a_news a_waiting a_sets a_scores a_rarity a_spans a_best a_worth a_keptNumber a_keptScore a_shares := by
      intro due' g' h1 h2 h3
      rw [show k + (ts.length + 1) = k + 1 + ts.length by omega]
      refine ih (k + 1) due' g' (by rw [show B + (k + 1) = B + k + 1 by omega]; exact hr) (fun u hu => htok u (List.mem_cons_of_mem _ hu)) (by omega) h1 h2 (fun g2 => ?_)
      rw [← h3]; exact H g2
    -- from the test of the top on
    have k60 : wX_isWhole_60 post (wX_isWhole_16 post (nI (k + (ts.length + 1))) f_documents f_added f_deleted f_segments f_total f_words (nI B) f_kept (ts.length + 1)) (nI due.length) (nI (k + (ts.length + 1))) (nI k) (nI t) (sg_bi1 (sg_ist t)) f_documents f_added f_deleted f_segments f_total f_words (nI B) f_kept a_number a_length a_price a_places a_having a_end a_level a_text a_query a_size g a_news a_waiting a_sets a_scores a_rarity a_spans a_best a_worth a_keptNumber a_keptScore a_shares := by
      refine pk_eq due.length 0 (fun z => ?_) (fun z => ?_)
      · have : due = [] := List.eq_nil_of_length_eq_zero z
        subst this; exact H g
      · obtain ⟨b, r, rfl⟩ : ∃ b r, due = b :: r := by
          cases due with
          | nil => exact absurd rfl z
          | cons b r => exact ⟨b, r, rfl⟩
        have hrl : (b :: r).length = r.length + 1 := rfl
        rw [hrl] at hdue ⊢
        have e1 : nI (r.length + 1) - 1 = nI r.length := nI_pred _
        have eg : g (nI (r.length + 1) - 1).toNatClampNeg = sg_bi1 b := sg_rd r.length e1 (by omega) hW.1
        have hstep : (b && !sg_ist t) = false → wX_isWhole_85 post (wX_isWhole_16 post (nI (k + (ts.length + 1))) f_documents f_added f_deleted f_segments f_total f_words (nI B) f_kept (ts.length + 1)) (nI (r.length + 1)) (nI (k + (ts.length + 1))) (nI k) (nI t) (sg_bi1 (sg_ist t)) f_documents f_added f_deleted f_segments f_total f_words (nI B) f_kept a_number a_length a_price a_places a_having a_end a_level a_text a_query a_size g a_news a_waiting a_sets a_scores a_rarity a_spans a_best a_worth a_keptNumber a_keptScore a_shares := by
          intro hc
          refine nm_r (pk_m1 _) (pk_lt t 8 (fun h8 => nm_r (nI_1 k) (nxt r g (by omega) hW.2 ?_)) (fun h8 => pk_le t 999 (fun h9 => pk_le r.length 11 (fun h11 => ?_) (fun h11 => by omega)) (fun h9 => nm_r (nI_1 k) (nxt r g (by omega) hW.2 ?_)) rfl rfl (by rcases ht with h | h <;> omega)) rfl rfl (by rcases ht with h | h <;> omega))
          · show (if (b && !sg_ist t) = true then false else if t < 8 ∨ 999 < t then sg_chk ts r else _) = _
            rw [hc, if_neg (by decide), if_pos (Or.inl h8)]
          · have fin : ∀ z0 z1 : Int32, z0 = sg_bi1 (sg_ist t) → z1 = nI r.length → wX_isWhole_129 post (wX_isWhole_16 post (nI (k + (ts.length + 1))) f_documents f_added f_deleted f_segments f_total f_words (nI B) f_kept (ts.length + 1)) (nI r.length) (nI (k + (ts.length + 1))) (nI k) z0 z1 f_documents f_added f_deleted f_segments f_total f_words (nI B) f_kept a_number a_length a_price a_places a_having a_end a_level a_text a_query a_size g a_news a_waiting a_sets a_scores a_rarity a_spans a_best a_worth a_keptNumber a_keptScore a_shares := by
              intro z0 z1 hz0 hz1
              subst hz0 hz1
              have eb : ∀ b : Bool, vp_nar .byte (sg_bi1 b) = sg_bi1 b ∧ vp_nar .byte (sg_bi1 b).toInt8.toInt32 = sg_bi1 b := by
                intro b; cases b
                · exact ⟨by decide, by decide⟩
                · exact ⟨by decide, by decide⟩
              refine And.intro (pk_in r.length 18 (by omega)) (nm_r (sg_wr r.length rfl (by omega) (eb (sg_ist t)).2) (And.intro (pk_in r.length 18 (by omega)) (And.intro (pk_in (r.length + 1) 18 (by omega) (nI_1 _)) (nm_r (sg_wr (r.length + 1) (nI_1 _) (by omega) (w := sg_bi1 (sg_ist t)) ?_) (nm_r (e' := nI (r.length + 2)) (nI_add r.length 2) (nm_r (nI_1 k) ?_))))))
              · rw [sg_rd (f := upd g r.length (sg_bi1 (sg_ist t))) r.length rfl (by omega) pk_us]
                exact (eb _).1
              · refine nxt (sg_ist t :: sg_ist t :: r) _ (by simp; omega) ⟨?_, ?_, ?_⟩ ?_
                · show upd _ _ _ (r.length + 1) = _
                  rw [pk_us]
                · show upd _ _ _ r.length = _
                  rw [pk_un (by omega), pk_us]
                · refine sg_Wd_eq (fun x hx => ?_) hW.2
                  rw [pk_un (by omega), pk_un (by omega)]
                · show (if (b && !sg_ist t) = true then false else if t < 8 ∨ 999 < t then sg_chk ts r else _) = _
                  rw [hc, if_neg (by decide), if_neg (by omega)]
            refine br_c (fun h0 => fin 0 _ h0.symm rfl) (fun h0 => fin 1 _ ?_ rfl)
            cases hi : sg_ist t
            · rw [hi] at h0; exact absurd rfl h0
            · rfl
          · show (if (b && !sg_ist t) = true then false else if t < 8 ∨ 999 < t then sg_chk ts r else _) = _
            rw [hc, if_neg (by decide), if_pos (Or.inr h9)]
        refine ⟨pk_in r.length 18 (by omega) e1, ?_⟩
        rw [eg]
        cases b
        · exact br_f (by decide) (hstep rfl)
        · refine br_t rfl ?_
          cases hi : sg_ist t
          · have : sg_chk (t :: ts) (true :: r) = false := by
              show (if (true && !sg_ist t) = true then false else _) = false
              rw [hi]; rfl
            rw [this] at H
            exact br_t rfl (H g)
          · refine br_f (by decide) ?_
            rw [hi] at hstep
            exact hstep rfl
    refine pk_le (k + (ts.length + 1)) k (fun z => by omega) (fun z => ⟨pk_in (B + k) 96 (by omega) (nI_add _ _), nm_r (sg_rd (B + k) (nI_add _ _) (by omega) hq) ?_⟩)
    have ht2 : t < 2 ^ 31 := by rcases ht with h | h <;> omega
    refine pk_lt t 8 (fun h8 => ?_) (fun h8 => pk_eq t 11 (fun h11 => ?_) (fun h11 => pk_eq t 12 (fun h12 => ?_) (fun h12 => ?_)))
    · unfold wX_isWhole_55
      have : sg_ist t = true := decide_eq_true (by omega)
      rw [this] at k60; exact k60
    · unfold wX_isWhole_55
      have : sg_ist t = true := decide_eq_true (by omega)
      rw [this] at k60; exact k60
    · unfold wX_isWhole_55
      have : sg_ist t = true := decide_eq_true (by omega)
      rw [this] at k60; exact k60
    · have : sg_ist t = false := decide_eq_false (by omega)
      rw [this] at k60; exact k60
theorem sg_xisWhole {post : Int32 → SX → Prop} (hQ : sg_XQ Q W a_query a_size) (hq : sg_Gq Q W) (H : ∀ g, post (sg_bi1 (sg_chk Q [false])) (f_documents, f_added, f_deleted, f_segments, f_total, f_words, nI 64, f_kept, a_number, a_length, a_price, a_places, a_having, a_end, a_level, a_text, a_query, a_size, g, a_news, a_waiting, a_sets, a_scores, a_rarity, a_spans, a_best, a_worth, a_keptNumber, a_keptScore, a_shares)) : wpX_isWhole post (f_documents, f_added, f_deleted, f_segments, f_total, f_words, nI 64, f_kept, a_number, a_length, a_price, a_places, a_having, a_end, a_level, a_text, a_query, a_size, a_wanted, a_news, a_waiting, a_sets, a_scores, a_rarity, a_spans, a_best, a_worth, a_keptNumber, a_keptScore, a_shares) := by
  have e : vp_nar .byte 0 = 0 := by decide
  have hx : ∀ wa, wa = upd a_wanted 0 (vp_nar .byte 0) → wpX_tokens (fun r_3 => ∃ n16 : Nat, wX_isWhole_16 post r_3 f_documents f_added f_deleted f_segments f_total f_words (nI 64) f_kept n16 1 0 a_number a_length a_price a_places a_having a_end a_level a_text a_query a_size wa a_news a_waiting a_sets a_scores a_rarity a_spans a_best a_worth a_keptNumber a_keptScore a_shares) (f_documents, f_added, f_deleted, f_segments, f_total, f_words, nI 64, f_kept, a_number, a_length, a_price, a_places, a_having, a_end, a_level, a_text, a_query, a_size, wa, a_news, a_waiting, a_sets, a_scores, a_rarity, a_spans, a_best, a_worth, a_keptNumber, a_keptScore, a_shares) := by
    refine nm_e (sg_xtokens (q := 4) (by omega) hQ.2.1 (Exists.intro (Q.length + 1) ?_))
    have := sg_xw16 (post := post) (B := 64) (by omega) Q 0 [false] (upd a_wanted 0 (vp_nar .byte 0)) hQ.1 hq.2.1 (by have := hq.1; omega) (by simp) ⟨by show upd _ _ _ 0 = _; rw [pk_us]; exact e, trivial⟩ H
    rw [Nat.zero_add] at this
    exact this
  exact hx
theorem sg_xtoken {post : Int32 → SX → Prop} {u : SX} {v : Int32} (hq : sg_Gq Q W) (hu : sg_XR L S ad PT Q W N K Sh u) (H0 : (¬ ∃ t, sg_tok t ∧ v = nI t) → post (-1) u) (H1 : ∀ t, sg_tok t → v = nI t → Q.length = 12 → post (-1) u) (H2 : ∀ t u', sg_tok t → v = nI t → Q.length < 12 → sg_XR L S ad PT (Q ++ [t]) W N K Sh u' → post (nI (Q.length + 1)) u') : wpX_token post u v := by
  obtain ⟨f_documents, f_added, f_deleted, f_segments, f_total, f_words, f_base, f_kept, a_number, a_length, a_price, a_places, a_having, a_end, a_level, a_text, a_query, a_size, a_wanted, a_news, a_waiting, a_sets, a_scores, a_rarity, a_spans, a_best, a_worth, a_keptNumber, a_keptScore, a_shares⟩ := u
  obtain ⟨hC, hA, hP, hQ, hN, hK, hH⟩ := hu
  have hq1 := hq.1
  have good : ∀ t, sg_tok t → v = nI t → wX_token_29 post v 1 f_documents f_added f_deleted f_segments f_total f_words f_base f_kept a_number a_length a_price a_places a_having a_end a_level a_text a_query a_size a_wanted a_news a_waiting a_sets a_scores a_rarity a_spans a_best a_worth a_keptNumber a_keptScore a_shares := by
    intro t ht hv
    subst hv
    refine br_f (by decide) (pk_eq Q.length 12 (fun z => H1 t ht rfl z) (fun z => ?_) hQ.2.1)
    have e1 : (64 : Int32) + a_size 4 = nI (64 + Q.length) := by rw [hQ.2.1, show (64 : Int32) = nI 64 from rfl, nI_add]
    have e2 : (a_size 4 + 1).toInt8.toInt32 = nI (Q.length + 1) := by rw [hQ.2.1, nI_1, sg_i8 (by omega)]
    refine ⟨pk_in (64 + Q.length) 96 (by omega) e1, nm_r (sg_wr (64 + Q.length) e1 (by omega) rfl) (nm_r (e' := upd a_size 4 (nI (Q.length + 1))) ?_ ?_)⟩
    · rw [e2, sg_nb (by omega)]
    · rw [e2]
      refine H2 t _ ht rfl (by omega) (sg_XR_mk hC hA hP ⟨fun k hk => ?_, by rw [pk_us, List.length_append]; rfl, fun w hw => ?_⟩ hN hK hH)
      · rw [List.length_append, List.length_singleton] at hk
        rw [List.getD_eq_getElem?_getD]
        by_cases e : k = Q.length
        · rw [e, pk_us, List.getElem?_append_right (Nat.le_refl _), Nat.sub_self]; rfl
        · rw [pk_un (by omega), List.getElem?_append_left (by omega), hQ.1 k (by omega), List.getD_eq_getElem?_getD]
      · have := (hq.2.2 w hw).1
        rw [pk_un (by omega)]
        exact ⟨sg_At_u (hQ.2.2 w hw).1 (by omega), (hQ.2.2 w hw).2⟩
  have bad : (¬ ∃ t, sg_tok t ∧ v = nI t) → wX_token_29 post v 0 f_documents f_added f_deleted f_segments f_total f_words f_base f_kept a_number a_length a_price a_places a_having a_end a_level a_text a_query a_size a_wanted a_news a_waiting a_sets a_scores a_rarity a_spans a_best a_worth a_keptNumber a_keptScore a_shares := fun h => br_t rfl (H0 h)
  have t10 : ¬ (0 ≤ v ∧ v < 13) → wX_token_10 post v f_documents f_added f_deleted f_segments f_total f_words f_base f_kept a_number a_length a_price a_places a_having a_end a_level a_text a_query a_size a_wanted a_news a_waiting a_sets a_scores a_rarity a_spans a_best a_worth a_keptNumber a_keptScore a_shares := by
    intro hn
    refine br_c (fun h => bad ?_) (fun h => br_c (fun h2 => bad ?_) (fun h2 => ?_))
    · rintro ⟨t, ht, rfl⟩
      rcases ht with ht | ht
      · exact hn ⟨nI_pos' (by omega), nI_lt (b := 13) ht (by omega)⟩
      · exact nI_ge (a := 999) (b := t) (by omega) (by omega) h
    · rintro ⟨t, ht, rfl⟩
      rcases ht with ht | ht
      · exact hn ⟨nI_pos' (by omega), nI_lt (b := 13) ht (by omega)⟩
      · exact nI_ge (a := t) (b := 11000) (by omega) (by omega) h2
    · obtain ⟨t, ht, rfl⟩ := nI_of (x := v) (fun q => h (Int32.le_trans (Int32.le_of_lt q) (by decide)))
      refine good t (Or.inr ⟨?_, ?_⟩) rfl
      · rw [show (999 : Int32) = nI 999 from rfl, nI_leI ht (by omega)] at h; omega
      · rw [show (11000 : Int32) = nI 11000 from rfl, nI_leI (by omega) ht] at h2; omega
  refine br_c (fun h => t10 (fun q => Int32.not_lt.mpr q.1 h)) (fun h => br_c (fun h2 => ?_) (fun h2 => t10 (fun q => h2 q.2)))
  obtain ⟨t, ht, rfl⟩ := nI_of (x := v) h
  refine good t (Or.inl ?_) rfl
  rw [show (13 : Int32) = nI 13 from rfl, nI_ltI ht (by omega)] at h2; exact h2
theorem sg_xwatch {post : Int32 → SX → Prop} {u : SX} {v : Int32} (hq : sg_Gq Q W) (hu : sg_XR L S ad PT Q W N K Sh u) (H0 : ¬ (0 ≤ v ∧ v ≤ 3) → post (-1) u)
    (H1 : ∀ w u', w < 4 → v = nI w → Q ≠ [] → sg_chk Q [false] = false → sg_XR L S ad PT [] W N K Sh u' → post (-3) u')
    (H2 : ∀ w u', w < 4 → v = nI w → (Q = [] ∨ sg_chk Q [false] = true) → sg_XR L S ad PT [] (sg_set W w Q) (sg_set N w []) K Sh u' → post (nI Q.length) u') : wpX_watch post u v := by
  obtain ⟨f_documents, f_added, f_deleted, f_segments, f_total, f_words, f_base, f_kept, a_number, a_length, a_price, a_places, a_having, a_end, a_level, a_text, a_query, a_size, a_wanted, a_news, a_waiting, a_sets, a_scores, a_rarity, a_spans, a_best, a_worth, a_keptNumber, a_keptScore, a_shares⟩ := u
  obtain ⟨hC, hA, hP, hQ, hN, hK, hH⟩ := hu
  have hq1 := hq.1
  have hz0 : vp_nar .byte 0 = 0 := by decide
  unfold wpX_watch
  refine sg_outside (fun h1 h2 => br_t rfl ?_) (fun h => br_f (by decide) (H0 h))
  obtain ⟨w, hw, rfl⟩ := nI_of2 (M := 3) (n := 3) (by decide) (Int32.not_lt.mpr h1) h2
  have hw4 : w < 4 := by omega
  have no : ∀ bs wa, Q ≠ [] → sg_chk Q [false] = false → ∃ n40 : Nat, wX_watch_40 post (nI w) 0 f_documents f_added f_deleted f_segments f_total f_words bs f_kept n40 0 a_number a_length a_price a_places a_having a_end a_level a_text a_query a_size wa a_news a_waiting a_sets a_scores a_rarity a_spans a_best a_worth a_keptNumber a_keptScore a_shares := by
    intro bs wa hne hc
    refine Exists.intro 1 ?_
    have k80 : wX_watch_80 post (nI w) 0 f_documents f_added f_deleted f_segments f_total f_words bs f_kept a_number a_length a_price a_places a_having a_end a_level a_text a_query a_size wa a_news a_waiting a_sets a_scores a_rarity a_spans a_best a_worth a_keptNumber a_keptScore a_shares := by
      refine nm_e (br_t rfl (nm_e (br_t rfl (H1 w _ hw4 rfl hne hc (sg_XR_mk hC hA hP ⟨(fun k hk => by cases hk), ?_, fun w' hw' => ?_⟩ hN hK hH)))))
      · rw [pk_us]; exact hz0
      · rw [pk_un (by omega)]; exact hQ.2.2 w' hw'
    exact br_c (fun _ => k80) (fun _ => br_t rfl k80)
  have yes : ∀ bs wa, (Q = [] ∨ sg_chk Q [false] = true) → ∃ n40 : Nat, wX_watch_40 post (nI w) 1 f_documents f_added f_deleted f_segments f_total f_words bs f_kept n40 0 a_number a_length a_price a_places a_having a_end a_level a_text a_query a_size wa a_news a_waiting a_sets a_scores a_rarity a_spans a_best a_worth a_keptNumber a_keptScore a_shares := by
    intro bs wa hc
    have key : ∀ n k qu, k ≤ Q.length → Q.length - k < n → sg_At qu 64 Q → (∀ i, i < k → qu (16 * w + i) = nI (Q.getD i 0)) → (∀ w', w' < 4 → w' ≠ w → sg_At qu (16 * w') (W w')) → wX_watch_40 post (nI w) 1 f_documents f_added f_deleted f_segments f_total f_words bs f_kept n (nI k) a_number a_length a_price a_places a_having a_end a_level a_text qu a_size wa a_news a_waiting a_sets a_scores a_rarity a_spans a_best a_worth a_keptNumber a_keptScore a_shares := by
      intro n
      induction n with
      | zero => intro k qu _ h; omega
      | succ n ih =>
        intro k qu hk hn hat hcp hoth
        have e1 : (64 : Int32) + nI k = nI (64 + k) := nI_add 64 k
        have e2 : (16 : Int32) * nI w + nI k = nI (16 * w + k) := by rw [show (16 : Int32) * nI w = nI (16 * w) from pk_mul 16 w, nI_add]
        refine pk_le Q.length k (fun z => ?_) (fun z => br_f (by decide) ⟨pk_in (64 + k) 96 (by omega) e1, pk_in (16 * w + k) 96 (by omega) e2, nm_r (sg_wr (16 * w + k) e2 (by omega) (sg_rd (64 + k) e1 (by omega) (hat k z))) (nm_r (nI_1 k) (ih (k + 1) _ (by omega) (by omega) (sg_At_u hat (by omega)) (fun i hi => ?_) (fun w' h3 h4 => ?_)))⟩) hQ.2.1
        · refine nm_r hQ.2.1 (br_f (by decide) ⟨pk_in w 6 (by omega), nm_r (sg_wr w rfl (by omega) (sg_nbb (by omega))) ⟨pk_in w 4 (by omega), nm_r (sg_wr w rfl (by omega) hz0) (nm_e (br_f (by decide) (H2 w _ hw4 rfl hc (sg_XR_mk hC hA hP ⟨(fun k hk => by cases hk), ?_, fun w' hw' => ?_⟩ ?_ hK hH))))⟩⟩)
          · rw [pk_us]; exact hz0
          · rw [pk_un (by omega)]
            by_cases e : w' = w
            · subst e
              rw [pk_us, sg_set_s]
              exact ⟨fun i hi => hcp i (by omega), rfl⟩
            · rw [pk_un e, sg_set_n e]
              exact ⟨hoth w' hw' e, (hQ.2.2 w' hw').2⟩
          · intro w' hw'
            by_cases e : w' = w
            · subst e
              rw [pk_us, sg_set_s]
              exact ⟨rfl, by simp, fun i hi => by cases hi⟩
            · rw [pk_un e, sg_set_n e]; exact hN w' hw'
        · by_cases e : i = k
          · rw [e, pk_us]
          · rw [pk_un (by omega)]; exact hcp i (by omega)
        · have := (hq.2.2 w' h3).1
          refine sg_At_u (hoth w' h3 h4) ?_
          rcases Nat.lt_or_ge w w' with q | q
          · omega
          · omega
    refine Exists.intro (Q.length + 1) ?_
    exact key (Q.length + 1) 0 a_query (Nat.zero_le _) (by omega) hQ.1 (fun i hi => by omega) (fun w' h3 h4 => (hQ.2.2 w' h3).1)
  refine nm_r (e' := nI 64) (by decide) (pk_eq Q.length 0 (fun z => ?_) (fun z => ?_) hQ.2.1)
  · exact yes _ _ (Or.inl (List.eq_nil_of_length_eq_zero z))
  · refine sg_xisWhole hQ hq (fun g => ?_)
    have hne : Q ≠ [] := fun e => z (by rw [e]; rfl)
    cases hc : sg_chk Q [false]
    · exact br_t rfl (no _ _ hne hc)
    · exact br_f (by decide) (yes _ _ (Or.inr hc))
end
end
section
/-! ranks of hits: pure -/
def sg_pc (hit : Nat → Bool) (ky : Nat → Int) (k d : Nat) : Bool := hit k && (decide (ky d < ky k) || (decide (ky k = ky d) && decide (k < d)))
def sg_rk (hit : Nat → Bool) (ky : Nat → Int) (m d : Nat) : Nat := sg_c (fun k => sg_pc hit ky k d) m
def sg_IV (hit : Nat → Bool) (ky : Nat → Int) (lim m n : Nat) (b : Nat → Nat) : Prop :=
  n = min lim (sg_c hit m) ∧ (∀ r, r < n → b r < m ∧ hit (b r) = true ∧ sg_rk hit ky m (b r) = r) ∧ ∀ d, d < m → hit d = true → sg_rk hit ky m d < lim → sg_rk hit ky m d < n ∧ b (sg_rk hit ky m d) = d
section
variable {hit : Nat → Bool} {ky : Nat → Int} {lim m n : Nat} {b : Nat → Nat}
theorem sg_pc_iff {k d : Nat} : sg_pc hit ky k d = true ↔ hit k = true ∧ (ky d < ky k ∨ (ky k = ky d ∧ k < d)) := by
  unfold sg_pc; simp
/-- one more hit before y than before x, if x goes before y -/
theorem sg_rk_lt {x y : Nat} (hx : x < m) (h : sg_pc hit ky x y = true) : sg_rk hit ky m x < sg_rk hit ky m y := by
  obtain ⟨h1, h2⟩ := sg_pc_iff.mp h
  unfold sg_rk
  have e := sg_c_rm (p := fun k => sg_pc hit ky k y) (q := fun k => sg_pc hit ky k y && decide (k ≠ x)) (d := x) h (n := m) hx (fun k _ => rfl)
  have l : sg_c (fun k => sg_pc hit ky k x) m ≤ sg_c (fun k => sg_pc hit ky k y && decide (k ≠ x)) m := by
    refine sg_c_mono (fun k _ hk => ?_)
    obtain ⟨h3, h4⟩ := sg_pc_iff.mp hk
    show (sg_pc hit ky k y && decide (k ≠ x)) = true
    rw [Bool.and_eq_true]
    refine ⟨sg_pc_iff.mpr ⟨h3, by omega⟩, decide_eq_true (by intro e; subst e; omega)⟩
  omega
theorem sg_rk_tri {x y : Nat} (hx : hit x = true) (hy : hit y = true) (hne : x ≠ y) : sg_pc hit ky x y = true ∨ sg_pc hit ky y x = true := by
  rcases Int.lt_trichotomy (ky x) (ky y) with h | h | h
  · exact Or.inr (sg_pc_iff.mpr ⟨hy, Or.inl h⟩)
  · rcases Nat.lt_or_gt_of_ne hne with z | z
    · exact Or.inl (sg_pc_iff.mpr ⟨hx, Or.inr ⟨h, z⟩⟩)
    · exact Or.inr (sg_pc_iff.mpr ⟨hy, Or.inr ⟨h.symm, z⟩⟩)
  · exact Or.inl (sg_pc_iff.mpr ⟨hx, Or.inl h⟩)
theorem sg_rk_inj {x y : Nat} (hxm : x < m) (hym : y < m) (hx : hit x = true) (hy : hit y = true) (h : sg_rk hit ky m x = sg_rk hit ky m y) : x = y := by
  by_cases e : x = y
  · exact e
  · rcases sg_rk_tri (ky := ky) hx hy e with z | z
    · have := sg_rk_lt hxm z; omega
    · have := sg_rk_lt hym z; omega
theorem sg_rk_ky {x y : Nat} (hxm : x < m) (hym : y < m) (hx : hit x = true) (hy : hit y = true) (h : sg_rk hit ky m x < sg_rk hit ky m y) : ky y ≤ ky x := by
  by_cases e : x = y
  · rw [e]; omega
  · rcases sg_rk_tri (ky := ky) hx hy e with z | z
    · have := (sg_pc_iff.mp z).2; omega
    · have := sg_rk_lt hym z; omega
theorem sg_rk_s (d : Nat) : sg_rk hit ky (m + 1) d = sg_rk hit ky m d + (sg_pc hit ky m d).toNat := rfl
theorem sg_IV_0 : sg_IV hit ky lim 0 0 b := ⟨by simp [sg_c], fun r hr => by omega, fun d hd => by omega⟩
theorem sg_IV_skip (h : sg_IV hit ky lim m n b) (hm : hit m = false) : sg_IV hit ky lim (m + 1) n b := by
  obtain ⟨h1, h2, h3⟩ := h
  have e : ∀ d, sg_rk hit ky (m + 1) d = sg_rk hit ky m d := fun d => by
    rw [sg_rk_s]; unfold sg_pc; rw [hm]; rfl
  refine ⟨?_, fun r hr => ?_, fun d hd hh hl => ?_⟩
  · show n = min lim (sg_c hit m + (hit m).toNat)
    rw [hm]; exact h1
  · rw [e]; obtain ⟨a, c⟩ := h2 r hr; exact ⟨by omega, c⟩
  · rw [e] at hl ⊢
    have : d ≠ m := fun z => by rw [z, hm] at hh; cases hh
    exact h3 d (by omega) hh hl
theorem sg_IV_step (h : sg_IV hit ky lim m n b) (hm : hit m = true) {p : Nat} (hp : p ≤ n) (hgt : ∀ r, p ≤ r → r < n → ky (b r) < ky m) (hle : 0 < p → ky m ≤ ky (b (p - 1))) :
    sg_IV hit ky lim (m + 1) (if lim ≤ n then n else n + 1) (fun r => if r < p then b r else if r = p then m else b (r - 1)) := by
  obtain ⟨h1, h2, h3⟩ := h
  have hcm : sg_c hit (m + 1) = sg_c hit m + 1 := by show sg_c hit m + (hit m).toNat = _; rw [hm]; rfl
  -- all below p are at least as good
  have hlo : ∀ r, r < p → ky m ≤ ky (b r) := by
    intro r hr
    by_cases e : r = p - 1
    · rw [e]; exact hle (by omega)
    · have a := h2 r (by omega)
      have c := h2 (p - 1) (by omega)
      have := sg_rk_ky (ky := ky) a.1 c.1 a.2.1 c.2.1 (by rw [a.2.2, c.2.2]; omega)
      have := hle (by omega)
      omega
  have pc1 : ∀ d, d < m → (sg_pc hit ky m d = true ↔ ky d < ky m) := by
    intro d hd
    rw [sg_pc_iff]
    exact ⟨fun z => by omega, fun z => ⟨hm, Or.inl z⟩⟩
  have e0 : ∀ d, d < m → ky m ≤ ky d → sg_rk hit ky (m + 1) d = sg_rk hit ky m d := by
    intro d hd hk
    rw [sg_rk_s]
    have : sg_pc hit ky m d = false := by
      cases e : sg_pc hit ky m d
      · rfl
      · have := (pc1 d hd).mp e; omega
    rw [this]; rfl
  have e1 : ∀ d, d < m → ky d < ky m → sg_rk hit ky (m + 1) d = sg_rk hit ky m d + 1 := by
    intro d hd hk
    rw [sg_rk_s, (pc1 d hd).mpr hk]; rfl
  -- the rank of the new one
  have em : sg_rk hit ky (m + 1) m = sg_c (fun k => hit k && decide (ky m ≤ ky k)) m := by
    rw [sg_rk_s]
    have : sg_pc hit ky m m = false := by
      cases e : sg_pc hit ky m m
      · rfl
      · have := (sg_pc_iff.mp e).2; omega
    rw [this]
    show sg_rk hit ky m m + 0 = _
    rw [Nat.add_zero]
    refine sg_c_eq (fun k hk => sg_beq ?_)
    rw [sg_pc_iff, Bool.and_eq_true, decide_eq_true_iff]
    exact ⟨fun z => ⟨z.1, by omega⟩, fun z => ⟨z.1, by omega⟩⟩
  have cge : p ≤ sg_rk hit ky (m + 1) m := by
    rw [em]
    by_cases e : p = 0
    · omega
    · obtain ⟨a1, a2, a3⟩ := h2 (p - 1) (by omega)
      have hk := hle (by omega)
      have f := sg_c_rm (p := fun k => hit k && decide (ky m ≤ ky k)) (q := fun k => (hit k && decide (ky m ≤ ky k)) && decide (k ≠ b (p - 1))) (d := b (p - 1)) (by show (hit _ && _) = true; rw [a2, decide_eq_true hk]; rfl) (n := m) a1 (fun k _ => rfl)
      have l : sg_rk hit ky m (b (p - 1)) ≤ sg_c (fun k => (hit k && decide (ky m ≤ ky k)) && decide (k ≠ b (p - 1))) m := by
        refine sg_c_mono (fun k _ hk2 => ?_)
        obtain ⟨z1, z2⟩ := sg_pc_iff.mp hk2
        show ((hit k && _) && _) = true
        rw [z1, decide_eq_true (show ky m ≤ ky k by omega), decide_eq_true (show k ≠ b (p - 1) by intro e; rw [e] at z2; omega)]; rfl
      omega
  have cle : p < (if lim ≤ n then n else n + 1) → sg_rk hit ky (m + 1) m ≤ p := by
    intro hlt
    rw [em]
    by_cases e : p < n
    · obtain ⟨a1, a2, a3⟩ := h2 p e
      have hk := hgt p (Nat.le_refl _) e
      have l : sg_c (fun k => hit k && decide (ky m ≤ ky k)) m ≤ sg_rk hit ky m (b p) := by
        refine sg_c_mono (fun k _ hk2 => ?_)
        rw [Bool.and_eq_true, decide_eq_true_iff] at hk2
        exact sg_pc_iff.mpr ⟨hk2.1, Or.inl (by omega)⟩
      omega
    · by_cases y : lim ≤ n
      · rw [if_pos y] at hlt; omega
      · have l : sg_c (fun k => hit k && decide (ky m ≤ ky k)) m ≤ sg_c hit m := sg_c_mono (fun k _ hk2 => ((Bool.and_eq_true _ _).mp hk2).1)
        omega
  have hnl : n ≤ lim := by omega
  refine ⟨?_, fun r hr => ?_, fun d hd hh hl => ?_⟩
  · rw [hcm]
    by_cases y : lim ≤ n
    · rw [if_pos y]; omega
    · rw [if_neg y]; omega
  · dsimp only
    have hr2 : r ≤ n := by by_cases y : lim ≤ n <;> simp [y] at hr <;> omega
    by_cases z : r < p
    · rw [if_pos z]
      obtain ⟨a1, a2, a3⟩ := h2 r (by omega)
      exact ⟨by omega, a2, by rw [e0 _ a1 (hlo r z)]; exact a3⟩
    · rw [if_neg z]
      by_cases y : r = p
      · rw [if_pos y]
        have := cle (by rw [← y]; exact hr)
        exact ⟨by omega, hm, by omega⟩
      · rw [if_neg y]
        obtain ⟨a1, a2, a3⟩ := h2 (r - 1) (by omega)
        exact ⟨by omega, a2, by rw [e1 _ a1 (hgt (r - 1) (by omega) (by omega)), a3]; omega⟩
  · dsimp only
    by_cases z : d = m
    · subst z
      have hpn : p < (if lim ≤ n then n else n + 1) := by
        by_cases y : lim ≤ n
        · rw [if_pos y]; omega
        · rw [if_neg y]; omega
      have hc : sg_rk hit ky (d + 1) d = p := by have := cle hpn; omega
      rw [hc, if_neg (Nat.lt_irrefl p), if_pos rfl]
      exact ⟨hpn, rfl⟩
    · have hdm : d < m := by omega
      rcases Int.lt_or_le (ky d) (ky m) with y | y
      · rw [e1 d hdm y] at hl ⊢
        obtain ⟨a1, a2⟩ := h3 d hdm hh (by omega)
        have hge : p ≤ sg_rk hit ky m d := by
          rcases Nat.lt_or_ge (sg_rk hit ky m d) p with q | q
          · have := hlo _ q; rw [a2] at this; omega
          · exact q
        rw [if_neg (show ¬ sg_rk hit ky m d + 1 < p by omega), if_neg (show ¬ sg_rk hit ky m d + 1 = p by omega), Nat.add_sub_cancel]
        refine ⟨?_, a2⟩
        by_cases q : lim ≤ n
        · rw [if_pos q]; omega
        · rw [if_neg q]; omega
      · rw [e0 d hdm y] at hl ⊢
        obtain ⟨a1, a2⟩ := h3 d hdm hh hl
        have hlt : sg_rk hit ky m d < p := by
          rcases Nat.lt_or_ge (sg_rk hit ky m d) p with q | q
          · exact q
          · have := hgt _ q a1; rw [a2] at this; omega
        rw [if_pos hlt]
        refine ⟨?_, a2⟩
        by_cases q : lim ≤ n
        · rw [if_pos q]; omega
        · rw [if_neg q]; omega
theorem sg_IV_ext (h : sg_IV hit ky lim m n b) : ∀ k, (∀ d, m ≤ d → d < m + k → hit d = false) → sg_IV hit ky lim (m + k) n b := by
  intro k
  induction k with
  | zero => intro _; exact h
  | succ k ih => intro hh; exact sg_IV_skip (ih (fun d h1 h2 => hh d h1 (by omega))) (hh (m + k) (by omega) (by omega))
end
/-- the kept list: what both sides end with -/
def sg_KK (hit : Nat → Bool) (ky : Nat → Int) (nu sc : Nat → Nat) (lim n : Nat) (K : List (Nat × Nat)) : Prop :=
  K.length = min lim (sg_c hit n) ∧ ∀ r, r < K.length → ∃ d, d < n ∧ hit d = true ∧ sg_rk hit ky n d = r ∧ K.getD r (0, 0) = (nu d, sc d)
theorem sg_KK_of {hit : Nat → Bool} {ky : Nat → Int} {nu sc : Nat → Nat} {lim m n : Nat} {b : Nat → Nat} (h : sg_IV hit ky lim m n b) : sg_KK hit ky nu sc lim m ((List.range n).map (fun r => (nu (b r), sc (b r)))) := by
  obtain ⟨h1, h2, h3⟩ := h
  refine ⟨by rw [List.length_map, List.length_range]; exact h1, fun r hr => ?_⟩
  rw [List.length_map, List.length_range] at hr
  obtain ⟨a1, a2, a3⟩ := h2 r hr
  refine ⟨b r, a1, a2, a3, ?_⟩
  rw [List.getD_eq_getElem?_getD, List.getElem?_map, List.getElem?_range hr]; rfl
end
section
/-! which spans score: pure -/
def sg_It : List Nat → List (List Nat) → Prop
  | [], G => G = []
  | _ :: _, [] => False
  | t :: r, g :: G => (g ≠ [] → sg_Sp g ∧ ∃ z, t :: r = g ++ z) ∧ sg_It r G
theorem sg_It_len : ∀ {e : List Nat} {G : List (List Nat)}, sg_It e G → G.length = e.length
  | [], G, h => by rw [show G = [] from h]; rfl
  | _ :: _, [], h => h.elim
  | t :: r, g :: G, h => by have := sg_It_len h.2; simp; exact this
theorem sg_It_app : ∀ {a : List Nat} {A : List (List Nat)} {b : List Nat} {B : List (List Nat)}, sg_It a A → sg_It b B → sg_It (a ++ b) (A ++ B)
  | [], A, b, B, h, hb => by rw [show A = [] from h]; exact hb
  | _ :: _, [], _, _, h, _ => h.elim
  | t :: r, g :: G, b, B, h, hb => ⟨fun hg => ⟨(h.1 hg).1, by
      obtain ⟨z, hz⟩ := (h.1 hg).2
      exact ⟨z ++ b, by rw [← List.append_assoc, ← hz]; rfl⟩⟩, sg_It_app h.2 hb⟩
theorem sg_It_rep : ∀ e : List Nat, sg_It e (List.replicate e.length [])
  | [] => rfl
  | _ :: r => ⟨fun h => absurd rfl h, sg_It_rep r⟩
theorem sg_It_get : ∀ {e : List Nat} {G : List (List Nat)} {m : Nat}, sg_It e G → G.getD m [] ≠ [] → sg_Sp (G.getD m []) ∧ ∃ z, e.drop m = G.getD m [] ++ z
  | [], G, m, h, hg => by rw [show G = [] from h] at hg; exact absurd (by simp) hg
  | _ :: _, [], _, h, _ => h.elim
  | t :: r, g :: G, 0, h, hg => h.1 hg
  | t :: r, g :: G, m + 1, h, hg => sg_It_get (m := m) h.2 hg
noncomputable def sg_tm (T : List Nat) (dg : Nat → Nat) (sf : Nat → Nat → Nat) (g : List Nat) : Nat := if g = [] then 0 else sf (sg_w dg g) (sg_nsp (sg_S T g))
noncomputable def sg_gs (T : List Nat) (dg : Nat → Nat) (sf : Nat → Nat → Nat) : List (List Nat) → Nat
  | [] => 0
  | g :: G => sg_tm T dg sf g + sg_gs T dg sf G
section
variable {T : List Nat} {dg : Nat → Nat} {sf : Nat → Nat → Nat}
theorem sg_gs_app : ∀ (A B : List (List Nat)), sg_gs T dg sf (A ++ B) = sg_gs T dg sf A + sg_gs T dg sf B
  | [], B => by show _ = 0 + _; rw [Nat.zero_add]; rfl
  | g :: A, B => by show _ + sg_gs T dg sf (A ++ B) = _ + _ + _; rw [sg_gs_app A B]; omega
theorem sg_gs_rep : ∀ n, sg_gs T dg sf (List.replicate n []) = 0
  | 0 => rfl
  | n + 1 => by show sg_tm T dg sf [] + sg_gs T dg sf (List.replicate n []) = 0; rw [sg_gs_rep n]; rfl
theorem sg_gs_le {M : Nat} (h : ∀ w n, n ≤ 144 → w ≤ 72 → sf w n ≤ M) (hd : ∀ t, t < 8 → dg t ≤ 9) : ∀ {e : List Nat} {G : List (List Nat)}, e.length ≤ 15 → sg_It e G → sg_gs T dg sf G ≤ e.length * M
  | [], G, _, hi => by rw [show G = [] from hi]; exact Nat.zero_le _
  | _ :: _, [], _, hi => hi.elim
  | t :: r, g :: G, hl, hi => by
    have h1 := sg_gs_le h hd (e := r) (G := G) (by simp at hl; omega) hi.2
    have h2 : sg_tm T dg sf g ≤ M := by
      unfold sg_tm
      by_cases e : g = []
      · rw [if_pos e]; exact Nat.zero_le _
      · rw [if_neg e]
        obtain ⟨hs, z, hz⟩ := hi.1 e
        have := sg_Sp_odd hs hd
        have hzl := congrArg List.length hz
        rw [List.length_append] at hzl
        exact h _ _ (sg_nsp_le _) (by omega)
    show sg_tm T dg sf g + sg_gs T dg sf G ≤ (r.length + 1) * M
    rw [Nat.add_mul, Nat.one_mul]; omega
end
theorem sg_w_app (dg : Nat → Nat) (a b : List Nat) : sg_w dg (a ++ b) = sg_w dg a + sg_w dg b := by
  unfold sg_w; simp
theorem sg_w_take {dg : Nat → Nat} {e : List Nat} {i : Nat} (hi : i < e.length) : sg_w dg (e.take (i + 1)) = sg_w dg (e.take i) + (if e.getD i 0 < 8 then dg (e.getD i 0) else 0) := by
  rw [List.take_succ_eq_append_getElem hi, sg_w_app, List.getD_eq_getElem?_getD, List.getElem?_eq_getElem hi]
  unfold sg_w; simp
theorem sg_w_take_le (dg : Nat → Nat) (e : List Nat) (i : Nat) : sg_w dg (e.take i) ≤ sg_w dg e := by
  have : sg_w dg e = sg_w dg (e.take i) + sg_w dg (e.drop i) := by rw [← sg_w_app, List.take_append_drop]
  omega
def sg_Sa (dg : Nat → Nat) (sc ra : Nat → Int32) : Nat → List (List Nat) → Prop
  | _, [] => True
  | k, g :: G => (sc k = (if g = [] then 0 else 1) ∧ ra k = nI (sg_w dg g)) ∧ sg_Sa dg sc ra (k + 1) G
theorem sg_Sa_app {dg : Nat → Nat} {sc ra : Nat → Int32} : ∀ {k : Nat} {A B : List (List Nat)}, sg_Sa dg sc ra k A → sg_Sa dg sc ra (k + A.length) B → sg_Sa dg sc ra k (A ++ B)
  | _, [], _, _, hb => hb
  | k, g :: A, B, ha, hb => ⟨ha.1, sg_Sa_app ha.2 (by rw [show k + 1 + A.length = k + (g :: A).length by simp; omega]; exact hb)⟩
theorem sg_Sa_eq {dg : Nat → Nat} {sc ra sc' ra' : Nat → Int32} : ∀ {k : Nat} {G : List (List Nat)}, (∀ x, k ≤ x → x < k + G.length → sc' x = sc x ∧ ra' x = ra x) → sg_Sa dg sc ra k G → sg_Sa dg sc' ra' k G
  | _, [], _, _ => trivial
  | k, g :: G, h, ha => by
    have hl : (g :: G).length = G.length + 1 := rfl
    rw [hl] at h
    refine ⟨?_, sg_Sa_eq (fun x h1 h2 => h x (by omega) (by omega)) ha.2⟩
    rw [(h k (by omega) (by omega)).1, (h k (by omega) (by omega)).2]; exact ha.1
theorem sg_Sa_rep {dg : Nat → Nat} {sc ra : Nat → Int32} : ∀ {n k : Nat}, (∀ x, k ≤ x → x < k + n → sc x = 0 ∧ ra x = 0) → sg_Sa dg sc ra k (List.replicate n [])
  | 0, _, _ => trivial
  | n + 1, k, h => ⟨⟨(h k (by omega) (by omega)).1, (h k (by omega) (by omega)).2⟩, sg_Sa_rep (fun x h1 h2 => h x (by omega) (by omega))⟩
theorem sg_Sa_get {dg : Nat → Nat} {sc ra : Nat → Int32} : ∀ {k : Nat} {G : List (List Nat)} {m : Nat}, sg_Sa dg sc ra k G → m < G.length → sc (k + m) = (if G.getD m [] = [] then 0 else 1) ∧ ra (k + m) = nI (sg_w dg (G.getD m []))
  | _, [], _, _, h => by cases h
  | k, g :: G, 0, ha, _ => ha.1
  | k, g :: G, m + 1, ha, h => by
    have := sg_Sa_get (m := m) ha.2 (by simp at h; exact h)
    rw [show k + (m + 1) = k + 1 + m by omega]; exact this
/-! X: digits, plan -/
section
variable {f_documents f_added f_deleted f_segments f_total f_words f_base f_kept : Int32} {a_number a_length a_price a_places a_having a_end a_level a_text a_query a_size a_wanted a_news a_waiting a_sets a_scores a_rarity a_spans a_best a_worth a_keptNumber a_keptScore a_shares : Nat → Int32}
variable {L : List sg_D} {S : List (Nat × Nat)} {ad : Nat}
theorem sg_xdig_l {post : Int32 → Prop} : ∀ f v c n, v < 2 ^ f → v < 1000 → f < n → post (nI (c + sg_dgf f v)) → wX_digits_20 post f_documents f_added f_deleted f_segments f_total f_words f_base f_kept a_number a_length a_price a_places a_having a_end a_level a_text a_query a_size a_wanted a_news a_waiting a_sets a_scores a_rarity a_spans a_best a_worth a_keptNumber a_keptScore a_shares n (nI v) (nI c) := by
  intro f
  induction f with
  | zero =>
    intro v c n hv hv2 hn H
    obtain ⟨n, rfl⟩ : ∃ k, n = k + 1 := ⟨n - 1, by omega⟩
    rw [Nat.pow_zero] at hv
    exact pk_le v 0 (fun _ => H) (fun h => by omega)
  | succ f ih =>
    intro v c n hv hv2 hn H
    obtain ⟨n, rfl⟩ : ∃ k, n = k + 1 := ⟨n - 1, by omega⟩
    refine pk_le v 0 (fun h => ?_) (fun h => nm_r (e' := nI (v / 2)) ?_ (nm_r (nI_1 c) (ih (v / 2) (c + 1) n (by rw [Nat.pow_succ] at hv; omega) (by omega) (by omega) ?_)))
    · have e : sg_dgf (f + 1) v = 0 := by show (if v = 0 then 0 else _) = 0; rw [if_pos (by omega)]
      rw [e] at H; exact H
    · rw [pk_shrN (by omega) _ 1 (by decide)]
    · have e : sg_dgf (f + 1) v = sg_dgf f (v / 2) + 1 := by show (if v = 0 then 0 else _) = _; rw [if_neg (by omega)]
      rw [e, show c + (sg_dgf f (v / 2) + 1) = c + 1 + sg_dgf f (v / 2) by omega] at H; exact H
theorem sg_xinseg {post : Int32 → Prop} {w : Nat} (hD : sg_XD L f_documents f_deleted a_number a_length a_price a_places a_having) (hX : sg_XS S f_segments a_end a_level) (hst : sg_st S ≤ 32) (hw : w < 8) (H : post (nI (sg_cw L (sg_st S) w))) : wpX_inSegments post (f_documents, f_added, f_deleted, f_segments, f_total, f_words, f_base, f_kept, a_number, a_length, a_price, a_places, a_having, a_end, a_level, a_text, a_query, a_size, a_wanted, a_news, a_waiting, a_sets, a_scores, a_rarity, a_spans, a_best, a_worth, a_keptNumber, a_keptScore, a_shares) (nI w) := by
  unfold wpX_inSegments
  refine sg_xstored hX ?_
  refine sg_row (a := 0) (b := sg_st S) (by omega) hst (fun r hr => ⟨pk_in w 8 hw, ?_⟩)
  rw [nI_clamp (show w < 2 ^ 31 by omega)]
  refine sg_count ?_ H
  rw [sg_c_ext (a := sg_st S) hst (fun i h1 h2 => by rw [b_and, hr i h2, decide_eq_false (by omega), Bool.and_false])]
  refine sg_c_eq (fun k hk => ?_)
  rw [b_and, hr k (by omega), decide_eq_true (by omega), Bool.and_true]
  exact hD.2.2.2.1 w k hw (by omega)
theorem sg_xdigits {post : Int32 → Prop} {w : Nat} (hD : sg_XD L f_documents f_deleted a_number a_length a_price a_places a_having) (hX : sg_XS S f_segments a_end a_level) (hst : sg_st S ≤ 32) (hw : w < 8) (H : post (nI (sg_dg L (sg_st S) w))) : wpX_digits post (f_documents, f_added, f_deleted, f_segments, f_total, f_words, f_base, f_kept, a_number, a_length, a_price, a_places, a_having, a_end, a_level, a_text, a_query, a_size, a_wanted, a_news, a_waiting, a_sets, a_scores, a_rarity, a_spans, a_best, a_worth, a_keptNumber, a_keptScore, a_shares) (nI w) := by
  have hc : sg_cw L (sg_st S) w ≤ sg_st S := sg_c_le _ _
  have hdv := Nat.div_le_self (8 * (sg_st S + 1)) (sg_cw L (sg_st S) w + 1)
  unfold wpX_digits
  refine sg_xstored hX ?_
  refine sg_xinseg hD hX hst hw ⟨?_, nm_r (e' := nI (8 * (sg_st S + 1) / (sg_cw L (sg_st S) w + 1))) ?_ (Exists.intro 33 ?_)⟩
  · rw [nI_1]; exact nI_ne0 (by omega) (by omega)
  · rw [nI_1, nI_1, show (8 : Int32) * nI (sg_st S + 1) = nI (8 * (sg_st S + 1)) from pk_mul 8 _, pk_div (by omega) (by omega) (by omega)]
  · refine sg_xdig_l 32 _ 0 33 (by omega) (by omega) (by omega) ?_
    rw [Nat.zero_add]; exact H
theorem sg_xp171 {post : SX → Prop} {J36 : Int32 → Int32 → (Nat → Int32) → (Nat → Int32) → (Nat → Int32) → (Nat → Int32) → (Nat → Int32) → (Nat → Int32) → (Nat → Int32) → (Nat → Int32) → (Nat → Int32) → (Nat → Int32) → (Nat → Int32) → (Nat → Int32) → (Nat → Int32) → (Nat → Int32) → (Nat → Int32) → (Nat → Int32) → (Nat → Int32) → (Nat → Int32) → (Nat → Int32) → (Nat → Int32) → (Nat → Int32) → (Nat → Int32) → Prop} {x1 x2 : Int32} {B k : Nat} {e : List Nat} (hD : sg_XD L f_documents f_deleted a_number a_length a_price a_places a_having) (hX : sg_XS S f_segments a_end a_level) (hst : sg_st S ≤ 32) (hk : k + e.length ≤ 15) (hB : B + 16 ≤ 96) (hat : sg_At a_query (B + k) e) (htok : ∀ t, t ∈ e → t ≤ 12 ∨ (1000 ≤ t ∧ t < 11000)) (hk1 : 0 < e.length) (hw : sg_w (sg_dg L (sg_st S)) e ≤ 100)
    (H : ∀ ra, ra k = nI (sg_w (sg_dg L (sg_st S)) e) → (∀ x, x ≠ k → ra x = a_rarity x) → J36 x2 (nI (k + e.length)) a_number a_length a_price a_places a_having a_end a_level a_text a_query a_size a_wanted a_news a_waiting a_sets a_scores ra a_spans a_best a_worth a_keptNumber a_keptScore a_shares) :
    ∀ n i ra, i ≤ e.length → e.length - i < n → ra k = nI (sg_w (sg_dg L (sg_st S)) (e.take i)) → (∀ x, x ≠ k → ra x = a_rarity x) → wX_plan_171 post J36 x1 x2 (nI k) (nI (k + e.length)) f_documents f_added f_deleted f_segments f_total f_words (nI B) f_kept n (nI (k + i)) a_number a_length a_price a_places a_having a_end a_level a_text a_query a_size a_wanted a_news a_waiting a_sets a_scores ra a_spans a_best a_worth a_keptNumber a_keptScore a_shares := by
  intro n
  induction n with
  | zero => intro i ra _ h; omega
  | succ n ih =>
    intro i ra hi hn h1 h2
    refine pk_le (k + e.length) (k + i) (fun z => ?_) (fun z => ⟨pk_in (B + (k + i)) 96 (by omega) (nI_add _ _), nm_r (sg_rd (B + (k + i)) (nI_add _ _) (by omega) (v := nI (e.getD i 0)) ?_) ?_⟩)
    · obtain rfl : i = e.length := by omega
      rw [List.take_length] at h1
      exact H ra h1 h2
    · rw [show B + (k + i) = B + k + i by omega]; exact hat i (by omega)
    · have hil : i < e.length := by omega
      have htk : e.getD i 0 ≤ 12 ∨ (1000 ≤ e.getD i 0 ∧ e.getD i 0 < 11000) := by
        rw [List.getD_eq_getElem?_getD, List.getElem?_eq_getElem hil]; exact htok _ (List.getElem_mem hil)
      have hwt := sg_w_take (dg := sg_dg L (sg_st S)) hil
      have hwl := sg_w_take_le (sg_dg L (sg_st S)) e (i + 1)
      refine pk_le 8 (e.getD i 0) (fun y => nm_r (e' := nI (k + (i + 1))) (nI_1 _) (ih (i + 1) ra (by omega) (by omega) ?_ h2)) (fun y => ⟨pk_in k 16 (by omega), sg_xdigits hD hX hst y ⟨pk_in k 16 (by omega), nm_r (sg_wr k rfl (by omega) (w := nI (sg_w (sg_dg L (sg_st S)) (e.take (i + 1)))) ?_) (nm_r (e' := nI (k + (i + 1))) (nI_1 _) (ih (i + 1) _ (by omega) (by omega) pk_us (fun x hx => ?_)))⟩⟩) rfl rfl (by omega) (by omega)
      · rw [hwt, if_neg (by omega), Nat.add_zero]; exact h1
      · rw [sg_rd (f := ra) k rfl (by omega) h1, nI_add, hwt, if_pos y, sg_nbb (by rw [hwt, if_pos y] at hwl; omega)]
      · rw [pk_un hx]; exact h2 x hx
theorem sg_xp82 {post : SX → Prop} {J36 : Int32 → Int32 → (Nat → Int32) → (Nat → Int32) → (Nat → Int32) → (Nat → Int32) → (Nat → Int32) → (Nat → Int32) → (Nat → Int32) → (Nat → Int32) → (Nat → Int32) → (Nat → Int32) → (Nat → Int32) → (Nat → Int32) → (Nat → Int32) → (Nat → Int32) → (Nat → Int32) → (Nat → Int32) → (Nat → Int32) → (Nat → Int32) → (Nat → Int32) → (Nat → Int32) → (Nat → Int32) → (Nat → Int32) → Prop} {x1 x3 x4 : Int32} {hi : Nat} (hh : hi ≤ 15) :
    ∀ n i wo, i ≤ hi → hi - i < n → (∀ wo', (∀ m, m < 32 → bt wo' m = (bt wo m || decide (i ≤ m ∧ m < hi))) → wX_plan_102 post J36 x1 wo' x3 x4 f_documents f_added f_deleted f_segments f_total f_words f_base f_kept a_number a_length a_price a_places a_having a_end a_level a_text a_query a_size a_wanted a_news a_waiting a_sets a_scores a_rarity a_spans a_best a_worth a_keptNumber a_keptScore a_shares) → wX_plan_82 post J36 x1 x3 x4 (nI hi) f_documents f_added f_deleted f_segments f_total f_words f_base f_kept a_number a_length a_price a_places a_having a_end a_level a_text a_query a_size a_wanted a_news a_waiting a_sets a_scores a_rarity a_spans a_best a_worth a_keptNumber a_keptScore a_shares n wo (nI i) := by
  intro n
  induction n with
  | zero => intro i wo _ h; omega
  | succ n ih =>
    intro i wo hi1 hn H
    refine pk_le hi i (fun z => H wo (fun m hm => ?_)) (fun z => nm_e (nm_r (nI_1 i) (ih (i + 1) _ (by omega) (by omega) (fun wo' h => H wo' (fun m hm => ?_)))))
    · rw [decide_eq_false (by omega), Bool.or_false]
    · rw [h m hm, b_or, sg_one i (by omega) m hm]
      refine sg_beq ?_
      simp only [Bool.or_eq_true, decide_eq_true_iff]
      constructor
      · intro q
        rcases q with (q | q) | q
        · exact Or.inl q
        · exact Or.inr (by omega)
        · exact Or.inr (by omega)
      · intro q
        rcases q with q | q
        · exact Or.inl (Or.inl q)
        · by_cases y : m = i
          · exact Or.inl (Or.inr y)
          · exact Or.inr (by omega)
theorem sg_xp102n {post : SX → Prop} {J36 : Int32 → Int32 → (Nat → Int32) → (Nat → Int32) → (Nat → Int32) → (Nat → Int32) → (Nat → Int32) → (Nat → Int32) → (Nat → Int32) → (Nat → Int32) → (Nat → Int32) → (Nat → Int32) → (Nat → Int32) → (Nat → Int32) → (Nat → Int32) → (Nat → Int32) → (Nat → Int32) → (Nat → Int32) → (Nat → Int32) → (Nat → Int32) → (Nat → Int32) → (Nat → Int32) → (Nat → Int32) → (Nat → Int32) → Prop} {x1 wo : Int32} {k t : Nat} (h8 : 8 ≤ t) (h11 : t ≠ 11) (h12 : t ≠ 12) (ht : t < 20000) (H : J36 wo (nI (k + 1)) a_number a_length a_price a_places a_having a_end a_level a_text a_query a_size a_wanted a_news a_waiting a_sets a_scores a_rarity a_spans a_best a_worth a_keptNumber a_keptScore a_shares) : wX_plan_102 post J36 x1 wo (nI k) (nI t) f_documents f_added f_deleted f_segments f_total f_words f_base f_kept a_number a_length a_price a_places a_having a_end a_level a_text a_query a_size a_wanted a_news a_waiting a_sets a_scores a_rarity a_spans a_best a_worth a_keptNumber a_keptScore a_shares := by
  refine pk_lt t 8 (fun z => by omega) (fun z => pk_eq t 11 (fun z => absurd z h11) (fun z => pk_eq t 12 (fun z => absurd z h12) (fun z => ?_)))
  unfold wX_plan_128
  refine br_t rfl ?_
  unfold wX_plan_146
  refine br_t rfl ?_
  rw [nI_1]; exact H
theorem sg_xp102s {post : SX → Prop} {J36 : Int32 → Int32 → (Nat → Int32) → (Nat → Int32) → (Nat → Int32) → (Nat → Int32) → (Nat → Int32) → (Nat → Int32) → (Nat → Int32) → (Nat → Int32) → (Nat → Int32) → (Nat → Int32) → (Nat → Int32) → (Nat → Int32) → (Nat → Int32) → (Nat → Int32) → (Nat → Int32) → (Nat → Int32) → (Nat → Int32) → (Nat → Int32) → (Nat → Int32) → (Nat → Int32) → (Nat → Int32) → (Nat → Int32) → Prop} {x1 wo : Int32} {B k t : Nat} {e : List Nat} (h8 : t < 8 ∨ t = 11 ∨ t = 12) (he : sg_Tr e) (hk : k + e.length ≤ 15) (hB : B + 16 ≤ 96) (hat : sg_At a_query (B + k) e) (H : wX_plan_146 post J36 x1 wo (nI k) 1 (nI (k + e.length)) f_documents f_added f_deleted f_segments f_total f_words (nI B) f_kept a_number a_length a_price a_places a_having a_end a_level a_text a_query a_size a_wanted a_news a_waiting a_sets a_scores a_rarity a_spans a_best a_worth a_keptNumber a_keptScore a_shares) : wX_plan_102 post J36 x1 wo (nI k) (nI t) f_documents f_added f_deleted f_segments f_total f_words (nI B) f_kept a_number a_length a_price a_places a_having a_end a_level a_text a_query a_size a_wanted a_news a_waiting a_sets a_scores a_rarity a_spans a_best a_worth a_keptNumber a_keptScore a_shares := by
  have key : wX_plan_123 post J36 x1 wo (nI k) f_documents f_added f_deleted f_segments f_total f_words (nI B) f_kept a_number a_length a_price a_places a_having a_end a_level a_text a_query a_size a_wanted a_news a_waiting a_sets a_scores a_rarity a_spans a_best a_worth a_keptNumber a_keptScore a_shares := by
    unfold wX_plan_123 wX_plan_128
    exact br_f (by decide) (sg_xbehind he (by omega) hat H)
  exact pk_lt t 8 (fun z => key) (fun z => pk_eq t 11 (fun z => key) (fun z => pk_eq t 12 (fun z => key) (fun z => by omega)))
theorem sg_xpl {post : SX → Prop} {B tk : Nat} (hD : sg_XD L f_documents f_deleted a_number a_length a_price a_places a_having) (hX : sg_XS S f_segments a_end a_level) (hst : sg_st S ≤ 32) (htk : tk ≤ 15) (hB : B + 16 ≤ 96) {e : List Nat} (h : sg_Ex e) : ∀ b : Bool, ∃ (G : List (List Nat)) (c : Nat), sg_It e G ∧ (∀ T p sf, sg_gs T (sg_dg L (sg_st S)) sf G = if b = true then 0 else sg_Sc T p (sg_dg L (sg_st S)) sf e) ∧ ∀ n k wo sc ra, k + e.length ≤ tk → sg_At a_query (B + k) e → (∀ m, k ≤ m → m < k + e.length → bt wo m = b) → (∀ x, k ≤ x → x < k + e.length → sc x = 0 ∧ ra x = 0) →
      (∀ wo' sc' ra', (∀ m, m < 32 → m < k ∨ k + e.length ≤ m → bt wo' m = bt wo m) → (∀ x, x < k ∨ k + e.length ≤ x → sc' x = sc x ∧ ra' x = ra x) → sg_Sa (sg_dg L (sg_st S)) sc' ra' k G → wX_plan_36 post (nI tk) f_documents f_added f_deleted f_segments f_total f_words (nI B) f_kept n wo' (nI (k + e.length)) a_number a_length a_price a_places a_having a_end a_level a_text a_query a_size a_wanted a_news a_waiting a_sets sc' ra' a_spans a_best a_worth a_keptNumber a_keptScore a_shares) →
      wX_plan_36 post (nI tk) f_documents f_added f_deleted f_segments f_total f_words (nI B) f_kept (n + c) wo (nI k) a_number a_length a_price a_places a_having a_end a_level a_text a_query a_size a_wanted a_news a_waiting a_sets sc ra a_spans a_best a_worth a_keptNumber a_keptScore a_shares := by
  have hdg : ∀ t, t < 8 → sg_dg L (sg_st S) t ≤ 9 := fun t _ => sg_dg_le hst
  refine sg_Ex_ind (R := fun e => ∀ b : Bool, ∃ (G : List (List Nat)) (c : Nat), sg_It e G ∧ (∀ T p sf, sg_gs T (sg_dg L (sg_st S)) sf G = if b = true then 0 else sg_Sc T p (sg_dg L (sg_st S)) sf e) ∧ ∀ n k wo sc ra, k + e.length ≤ tk → sg_At a_query (B + k) e → (∀ m, k ≤ m → m < k + e.length → bt wo m = b) → (∀ x, k ≤ x → x < k + e.length → sc x = 0 ∧ ra x = 0) →
      (∀ wo' sc' ra', (∀ m, m < 32 → m < k ∨ k + e.length ≤ m → bt wo' m = bt wo m) → (∀ x, x < k ∨ k + e.length ≤ x → sc' x = sc x ∧ ra' x = ra x) → sg_Sa (sg_dg L (sg_st S)) sc' ra' k G → wX_plan_36 post (nI tk) f_documents f_added f_deleted f_segments f_total f_words (nI B) f_kept n wo' (nI (k + e.length)) a_number a_length a_price a_places a_having a_end a_level a_text a_query a_size a_wanted a_news a_waiting a_sets sc' ra' a_spans a_best a_worth a_keptNumber a_keptScore a_shares) →
      wX_plan_36 post (nI tk) f_documents f_added f_deleted f_segments f_total f_words (nI B) f_kept (n + c) wo (nI k) a_number a_length a_price a_places a_having a_end a_level a_text a_query a_size a_wanted a_news a_waiting a_sets sc ra a_spans a_best a_worth a_keptNumber a_keptScore a_shares) ?_ ?_ ?_ h
  · intro e he b
    have hpos := sg_Tr_pos (sg_Sp_Tr he)
    obtain ⟨t, r, rfl⟩ : ∃ t r, e = t :: r := by
      cases e with
      | nil => exact absurd hpos (by decide)
      | cons t r => exact ⟨t, r, rfl⟩
    have hroot : t < 8 ∨ t = 11 ∨ t = 12 := sg_Sp_ind (R := fun e => ∀ t r, e = t :: r → t < 8 ∨ t = 11 ∨ t = 12) (fun t ht t' r' e => by cases e; exact Or.inl ht) (fun t a b ht _ _ _ _ t' r' e => by cases e; exact Or.inr ht) he t r rfl
    have hlen : (t :: r).length = r.length + 1 := rfl
    cases b
    · -- it scores
      refine ⟨(t :: r) :: List.replicate r.length [], 1, ⟨fun _ => ⟨he, [], by rw [List.append_nil]⟩, sg_It_rep r⟩, fun T p sf => ?_, fun n k wo sc ra hk hat hwo hz H => ?_⟩
      · show sg_tm T _ sf (t :: r) + sg_gs T _ sf (List.replicate r.length []) = _
        rw [sg_gs_rep, Nat.add_zero, if_neg (by decide), sg_Sc_s he]
        unfold sg_tm
        rw [if_neg (by simp)]
      · have hq := (sg_At_c hat).1
        have hwb := sg_Sp_odd he hdg
        rw [hlen] at hk hwb hwo hz
        refine pk_le tk k (fun z => by omega) (fun z => ⟨pk_in (B + k) 96 (by omega) (nI_add _ _), nm_r (sg_rd (B + k) (nI_add _ _) (by omega) hq) (pk_eq t 10 (fun z => by omega) (fun z => ?_))⟩)
        refine sg_xp102s hroot (sg_Sp_Tr he) (by rw [hlen]; omega) hB hat ?_
        refine br_f (by decide) (ek_if (sg_ts wo (d := k) (by omega)) (fun h0 => ⟨pk_in k 16 (by omega), nm_r (sg_wr k rfl (by omega) (w := 1) (by decide)) (Exists.intro ((t :: r).length + 1) ?_)⟩) (fun h0 => ?_))
        · have := sg_xp171 (post := post) (J36 := wX_plan_36 post (nI tk) f_documents f_added f_deleted f_segments f_total f_words (nI B) f_kept n) (x1 := nI tk) (x2 := wo) (B := B) (k := k) (e := t :: r) (f_added := f_added) (f_total := f_total) (f_words := f_words) (f_kept := f_kept) (a_scores := upd sc k 1) (a_rarity := ra) hD hX hst (by rw [hlen]; omega) hB hat (sg_Tr_tok (sg_Sp_Tr he)) hpos (by omega) (fun ra' q1 q2 => H wo (upd sc k 1) ra' (fun m _ _ => rfl) (fun x hx => ?_) ⟨⟨?_, q1⟩, sg_Sa_rep (fun x h1 h2 => ?_)⟩) ((t :: r).length + 1) 0 ra (Nat.zero_le _) (by omega) ?_ (fun x _ => rfl)
          · rw [Nat.add_zero] at this; exact this
          · rw [hlen] at hx
            rw [pk_un (by omega), q2 x (by omega)]; exact ⟨rfl, rfl⟩
          · rw [pk_us, if_neg (by simp)]
          · rw [pk_un (by omega), q2 x (by omega)]; exact hz x (by omega) (by omega)
          · exact (hz k (by omega) (by omega)).2
        · exact absurd (hwo k (by omega) (by omega)) h0
    · -- it does not
      refine ⟨List.replicate (t :: r).length [], 1, sg_It_rep (t :: r), fun T p sf => ?_, fun n k wo sc ra hk hat hwo hz H => ?_⟩
      · rw [sg_gs_rep, if_pos rfl]
      · have hq := (sg_At_c hat).1
        rw [hlen] at hk hwo hz
        refine pk_le tk k (fun z => by omega) (fun z => ⟨pk_in (B + k) 96 (by omega) (nI_add _ _), nm_r (sg_rd (B + k) (nI_add _ _) (by omega) hq) (pk_eq t 10 (fun z => by omega) (fun z => ?_))⟩)
        refine sg_xp102s hroot (sg_Sp_Tr he) (by rw [hlen]; omega) hB hat ?_
        refine br_f (by decide) (ek_if (sg_ts wo (d := k) (by omega)) (fun h0 => ?_) (fun h0 => ?_))
        · rw [hwo k (by omega) (by omega)] at h0; cases h0
        · exact H wo sc ra (fun m _ _ => rfl) (fun x _ => ⟨rfl, rfl⟩) (sg_Sa_rep (fun x h1 h2 => hz x h1 (by rw [hlen] at h2; exact h2)))
  · intro t ht hu b
    have hlen : [t].length = 1 := rfl
    refine ⟨[[]], 1, ⟨fun q => absurd rfl q, rfl⟩, fun T p sf => ?_, fun n k wo sc ra hk hat hwo hz H => ?_⟩
    · rw [sg_Sc_p ht hu]
      show sg_tm T _ sf [] + 0 = _
      cases b <;> rfl
    · have hq := (sg_At_c hat).1
      rw [hlen] at hk hwo hz H
      refine pk_le tk k (fun z => by omega) (fun z => ⟨pk_in (B + k) 96 (by omega) (nI_add _ _), nm_r (sg_rd (B + k) (nI_add _ _) (by omega) hq) (pk_eq t 10 (fun z => by omega) (fun z => ?_))⟩)
      refine sg_xp102n (by omega) (by omega) (by omega) (by omega) (H wo sc ra (fun m _ _ => rfl) (fun x _ => ⟨rfl, rfl⟩) ⟨?_, trivial⟩)
      exact hz k (by omega) (by omega)
  · intro t a b2 ht ha hb ia ib b
    have hlen : (t :: (a ++ b2)).length = 1 + a.length + b2.length := by simp; omega
    obtain ⟨Ga, ca, ia1, ia2, ia3⟩ := ia b
    obtain ⟨Gb, cb, ib1, ib2, ib3⟩ := ib (b || decide (t = 10))
    have la := sg_It_len ia1
    refine ⟨[] :: (Ga ++ Gb), cb + ca + 1, ⟨fun q => absurd rfl q, sg_It_app ia1 ib1⟩, fun T p sf => ?_, fun n k wo sc ra hk hat hwo hz H => ?_⟩
    · show sg_tm T _ sf [] + sg_gs T _ sf (Ga ++ Gb) = _
      rw [sg_gs_app, ia2 T p sf, ib2 T p sf, sg_Sc_o ht (sg_Ex_Tr ha) (sg_Ex_Tr hb)]
      show 0 + _ = _
      rw [Nat.zero_add]
      cases b
      · rw [if_neg (by decide), if_neg (show ¬ false = true by decide), Bool.false_or]
        by_cases e : t = 10
        · rw [if_pos (decide_eq_true e), if_pos e, Nat.add_zero]
        · rw [if_neg (by simp [e]), if_neg e]
      · rw [if_pos rfl, if_pos rfl, Bool.true_or, if_pos rfl]
    · obtain ⟨hq, hr⟩ := sg_At_c hat
      obtain ⟨hra, hrb⟩ := sg_At_a hr
      rw [hlen] at hk hwo hz H
      -- from k + 1 on, whatever the mask, if it fits
      have go : ∀ wo1, (∀ m, m < 32 → m < k + 1 + a.length ∨ k + 1 + a.length + b2.length ≤ m → bt wo1 m = bt wo m) → (∀ m, k + 1 + a.length ≤ m → m < k + 1 + a.length + b2.length → bt wo1 m = (b || decide (t = 10))) → wX_plan_36 post (nI tk) f_documents f_added f_deleted f_segments f_total f_words (nI B) f_kept (n + cb + ca) wo1 (nI (k + 1)) a_number a_length a_price a_places a_having a_end a_level a_text a_query a_size a_wanted a_news a_waiting a_sets sc ra a_spans a_best a_worth a_keptNumber a_keptScore a_shares := by
        intro wo1 w1 w2
        refine ia3 (n + cb) (k + 1) wo1 sc ra (by omega) (by rw [show B + (k + 1) = B + k + 1 by omega]; exact hra) (fun m h1 h2 => ?_) (fun x h1 h2 => hz x (by omega) (by omega)) (fun wo2 sc2 ra2 p1 p2 p3 => ?_)
        · rw [w1 m (by omega) (by omega)]; exact hwo m (by omega) (by omega)
        · refine ib3 n (k + 1 + a.length) wo2 sc2 ra2 (by omega) (by rw [show B + (k + 1 + a.length) = B + k + 1 + a.length by omega]; exact hrb) (fun m h1 h2 => ?_) (fun x h1 h2 => ?_) (fun wo3 sc3 ra3 s1 s2 s3 => ?_)
          · rw [p1 m (by omega) (by omega)]; exact w2 m h1 h2
          · rw [(p2 x (by omega)).1, (p2 x (by omega)).2]; exact hz x (by omega) (by omega)
          · rw [show k + 1 + a.length + b2.length = k + (1 + a.length + b2.length) by omega]
            refine H wo3 sc3 ra3 (fun m h1 h2 => ?_) (fun x hx => ?_) ⟨?_, sg_Sa_app (sg_Sa_eq (fun x h1 h2 => ?_) p3) (by rw [la]; exact s3)⟩
            · rw [s1 m h1 (by omega), p1 m h1 (by omega), w1 m h1 (by omega)]
            · rw [(s2 x (by omega)).1, (s2 x (by omega)).2, (p2 x (by omega)).1, (p2 x (by omega)).2]; exact ⟨rfl, rfl⟩
            · rw [(s2 k (by omega)).1, (s2 k (by omega)).2, (p2 k (by omega)).1, (p2 k (by omega)).2]; exact hz k (by omega) (by omega)
            · rw [la] at h2
              exact s2 x (by omega)
      rw [show n + (cb + ca + 1) = (n + cb + ca) + 1 by omega]
      refine pk_le tk k (fun z => by omega) (fun z => ⟨pk_in (B + k) 96 (by omega) (nI_add _ _), nm_r (sg_rd (B + k) (nI_add _ _) (by omega) hq) (pk_eq t 10 (fun z => ?_) (fun z => ?_))⟩)
      · rw [nI_1]
        refine sg_xbehind (sg_Ex_Tr ha) (by omega) (by rw [show B + (k + 1) = B + k + 1 by omega]; exact hra) ?_
        refine sg_xbehind (sg_Ex_Tr hb) (by omega) (by rw [show B + (k + 1 + a.length) = B + k + 1 + a.length by omega]; exact hrb) (Exists.intro (b2.length + 1) ?_)
        refine sg_xp82 (by omega) (b2.length + 1) (k + 1 + a.length) wo (by omega) (by omega) (fun wo' hw' => ?_)
        refine sg_xp102n (by omega) (by omega) (by omega) (by omega) (go wo' (fun m h1 h2 => ?_) (fun m h1 h2 => ?_))
        · rw [hw' m h1, decide_eq_false (by omega), Bool.or_false]
        · rw [hw' m (by omega), decide_eq_true (show k + 1 + a.length ≤ m ∧ m < k + 1 + a.length + b2.length from ⟨h1, h2⟩), decide_eq_true z, Bool.or_true, Bool.or_true]
      · refine sg_xp102n (by omega) (by omega) (by omega) (by omega) (go wo (fun m _ _ => rfl) (fun m h1 h2 => ?_))
        rw [decide_eq_false z, Bool.or_false]; exact hwo m (by omega) (by omega)
end
end
section
/-! X: plan, score, gather -/
theorem sg_At_d {f : Nat → Int32} {p m : Nat} {e : List Nat} (h : sg_At f p e) : sg_At f (p + m) (e.drop m) := fun k hk => by
  rw [List.length_drop] at hk
  rw [show p + m + k = p + (m + k) by omega, h (m + k) (by omega), List.getD_eq_getElem?_getD, List.getD_eq_getElem?_getD, List.getElem?_drop]
theorem sg_sf_le {L : List sg_D} {st d w n : Nat} (hn : n ≤ 144) (hw : w ≤ 72) : sg_sf L st d w n ≤ 2280960 := by
  unfold sg_sf
  by_cases h : n = 0
  · rw [if_pos h]; omega
  · rw [if_neg h]
    refine Nat.le_trans (Nat.div_le_self _ _) ?_
    exact Nat.le_trans (Nat.mul_le_mul (Nat.mul_le_mul hw (Nat.le_refl 220)) hn) (by decide)
section
variable {f_documents f_added f_deleted f_segments f_total f_words f_base f_kept : Int32} {a_number a_length a_price a_places a_having a_end a_level a_text a_query a_size a_wanted a_news a_waiting a_sets a_scores a_rarity a_spans a_best a_worth a_keptNumber a_keptScore a_shares : Nat → Int32}
variable {L : List sg_D} {S : List (Nat × Nat)} {ad : Nat}
theorem sg_xplan {post : SX → Prop} {q : Nat} {e : List Nat} (hq : q < 6) (hD : sg_XD L f_documents f_deleted a_number a_length a_price a_places a_having) (hX : sg_XS S f_segments a_end a_level) (hst : sg_st S ≤ 32) (hE : sg_Ex e) (hl : e.length ≤ 15) (hz : a_size q = nI e.length) (hat : sg_At a_query (16 * q) e)
    (H : ∀ sc ra G, sg_It e G → (∀ T p sf, sg_gs T (sg_dg L (sg_st S)) sf G = sg_Sc T p (sg_dg L (sg_st S)) sf e) → sg_Sa (sg_dg L (sg_st S)) sc ra 0 G → post (f_documents, f_added, f_deleted, f_segments, f_total, f_words, nI (16 * q), f_kept, a_number, a_length, a_price, a_places, a_having, a_end, a_level, a_text, a_query, a_size, a_wanted, a_news, a_waiting, a_sets, sc, ra, a_spans, a_best, a_worth, a_keptNumber, a_keptScore, a_shares)) : wpX_plan post (f_documents, f_added, f_deleted, f_segments, f_total, f_words, nI (16 * q), f_kept, a_number, a_length, a_price, a_places, a_having, a_end, a_level, a_text, a_query, a_size, a_wanted, a_news, a_waiting, a_sets, a_scores, a_rarity, a_spans, a_best, a_worth, a_keptNumber, a_keptScore, a_shares) := by
  have key : ∀ n k sc ra, k ≤ e.length → e.length - k < n → (∀ x, x < k → sc x = 0 ∧ ra x = 0) → wX_plan_7 post (nI e.length) f_documents f_added f_deleted f_segments f_total f_words (nI (16 * q)) f_kept n (nI k) a_number a_length a_price a_places a_having a_end a_level a_text a_query a_size a_wanted a_news a_waiting a_sets sc ra a_spans a_best a_worth a_keptNumber a_keptScore a_shares := by
    intro n
    induction n with
    | zero => intro k sc ra _ h; omega
    | succ n ih =>
      intro k sc ra hk hn h0
      refine pk_le e.length k (fun z => ?_) (fun z => ⟨pk_in k 16 (by omega), nm_r (sg_wr k rfl (by omega) (w := 0) (by decide)) ⟨pk_in k 16 (by omega), nm_r (sg_wr k rfl (by omega) (w := 0) (by decide)) (nm_r (nI_1 k) (ih (k + 1) _ _ (by omega) (by omega) (fun x hx => ?_)))⟩⟩)
      · obtain ⟨G, c, i1, i2, i3⟩ := sg_xpl (post := post) (f_added := f_added) (f_total := f_total) (f_words := f_words) (f_kept := f_kept) (a_text := a_text) (a_size := a_size) (a_wanted := a_wanted) (a_news := a_news) (a_waiting := a_waiting) (a_sets := a_sets) (a_spans := a_spans) (a_best := a_best) (a_worth := a_worth) (a_keptNumber := a_keptNumber) (a_keptScore := a_keptScore) (a_shares := a_shares) (a_query := a_query) (B := 16 * q) (tk := e.length) hD hX hst hl (by omega) hE false
        refine Exists.intro (1 + c) (i3 1 0 0 sc ra (by omega) hat (fun m _ _ => b_0 m) (fun x _ hx => h0 x (by omega)) (fun wo' sc' ra' _ _ hSa => ?_))
        refine br_t (nI_le (by omega) (by omega)) (H sc' ra' G i1 (fun T p sf => ?_) hSa)
        rw [i2 T p sf]; rfl
      · by_cases y : x = k
        · rw [y, pk_us, pk_us]; exact ⟨rfl, rfl⟩
        · rw [pk_un y, pk_un y]; exact h0 x (by omega)
  unfold wpX_plan
  exact sg_xtokens hq hz (Exists.intro (e.length + 1) (key (e.length + 1) 0 a_scores a_rarity (Nat.zero_le _) (by omega) (fun x hx => by omega)))
theorem sg_xscore {post : Int32 → SX → Prop} {q d : Nat} {e : List Nat} {G : List (List Nat)} (hq : q < 6) (hG : sg_Gd L S ad) (hS : sg_Gs L.length S) (hD : sg_XD L f_documents f_deleted a_number a_length a_price a_places a_having) (hX : sg_XS S f_segments a_end a_level) (htt : f_total = nI (sg_al L (sg_st S))) (hd : d < sg_st S) (hl : e.length ≤ 15) (hz : a_size q = nI e.length) (hat : sg_At a_query (16 * q) e) (hI : sg_It e G) (hSa : sg_Sa (sg_dg L (sg_st S)) a_scores a_rarity 0 G)
    (H : ∀ g, post (nI (sg_gs (sg_T L d) (sg_dg L (sg_st S)) (sg_sf L (sg_st S) d) G)) (f_documents, f_added, f_deleted, f_segments, f_total, f_words, nI (16 * q), f_kept, a_number, a_length, a_price, a_places, a_having, a_end, a_level, a_text, a_query, a_size, a_wanted, a_news, a_waiting, a_sets, a_scores, a_rarity, g, a_best, a_worth, a_keptNumber, a_keptScore, a_shares)) : wpX_score post (f_documents, f_added, f_deleted, f_segments, f_total, f_words, nI (16 * q), f_kept, a_number, a_length, a_price, a_places, a_having, a_end, a_level, a_text, a_query, a_size, a_wanted, a_news, a_waiting, a_sets, a_scores, a_rarity, a_spans, a_best, a_worth, a_keptNumber, a_keptScore, a_shares) (nI d) := by
  have hL := hG.1
  have hst := hS.2.1
  have hlen := sg_It_len hI
  have key : ∀ k g, k ≤ e.length → wX_score_9 post (nI d) (k + 1) (nI (sg_gs (sg_T L d) (sg_dg L (sg_st S)) (sg_sf L (sg_st S) d) (G.drop k))) (nI k + (-1)) f_documents f_added f_deleted f_segments f_total f_words (nI (16 * q)) f_kept a_number a_length a_price a_places a_having a_end a_level a_text a_query a_size a_wanted a_news a_waiting a_sets a_scores a_rarity g a_best a_worth a_keptNumber a_keptScore a_shares := by
    intro k
    induction k with
    | zero => intro g _; exact br_t (by decide) (H g)
    | succ k ih =>
      intro g hk
      rw [pk_m1]
      have hkG : k < G.length := by omega
      have hdr : G.drop k = G.getD k [] :: G.drop (k + 1) := by
        rw [List.drop_eq_getElem_cons hkG, List.getD_eq_getElem?_getD, List.getElem?_eq_getElem hkG]; rfl
      have hsum : sg_gs (sg_T L d) (sg_dg L (sg_st S)) (sg_sf L (sg_st S) d) (G.drop k) = sg_tm (sg_T L d) (sg_dg L (sg_st S)) (sg_sf L (sg_st S) d) (G.getD k []) + sg_gs (sg_T L d) (sg_dg L (sg_st S)) (sg_sf L (sg_st S) d) (G.drop (k + 1)) := by rw [hdr]; rfl
      obtain ⟨s1, s2⟩ := sg_Sa_get hSa hkG
      rw [Nat.zero_add] at s1 s2
      have nxt : ∀ g, sg_tm (sg_T L d) (sg_dg L (sg_st S)) (sg_sf L (sg_st S) d) (G.getD k []) = 0 → wX_score_9 post (nI d) (k + 1) (nI (sg_gs (sg_T L d) (sg_dg L (sg_st S)) (sg_sf L (sg_st S) d) (G.drop (k + 1)))) (nI k + (-1)) f_documents f_added f_deleted f_segments f_total f_words (nI (16 * q)) f_kept a_number a_length a_price a_places a_having a_end a_level a_text a_query a_size a_wanted a_news a_waiting a_sets a_scores a_rarity g a_best a_worth a_keptNumber a_keptScore a_shares := by
        intro g h0
        have := ih g (by omega)
        rw [hsum, h0, Nat.zero_add] at this
        exact this
      refine br_f (nI_pos (by omega)) ⟨pk_in k 16 (by omega), ?_⟩
      rw [nI_clamp (show k < 2 ^ 31 by omega), s1]
      by_cases hg : G.getD k [] = []
      · rw [if_pos hg]
        exact br_t rfl (nm_e (nxt g (by unfold sg_tm; rw [if_pos hg])))
      · rw [if_neg hg]
        obtain ⟨hSp, z, hz2⟩ := sg_It_get hI hg
        have hzl := congrArg List.length hz2
        rw [List.length_drop, List.length_append] at hzl
        have hat2 : sg_At a_query (16 * q + k) (G.getD k []) := (sg_At_a (by rw [← hz2]; exact sg_At_d hat)).1
        have htm : sg_tm (sg_T L d) (sg_dg L (sg_st S)) (sg_sf L (sg_st S) d) (G.getD k []) = sg_sf L (sg_st S) d (sg_w (sg_dg L (sg_st S)) (G.getD k [])) (sg_nsp (sg_S (sg_T L d) (G.getD k []))) := by unfold sg_tm; rw [if_neg hg]
        have hwb := sg_Sp_odd hSp (dg := sg_dg L (sg_st S)) (fun t _ => sg_dg_le (by omega))
        have hnb := sg_nsp_le (sg_S (sg_T L d) (G.getD k []))
        refine br_f (by decide) (sg_xspansOf (T := sg_T L d) hSp (by omega) (by omega) hat2 (by omega) (sg_Gd_T hG d) (fun w i hw hi => hD.2.2.1 d w i (by omega) hw hi) (fun g' => ?_))
        generalize hw : sg_w (sg_dg L (sg_st S)) (G.getD k []) = w at *
        generalize hn : sg_nsp (sg_S (sg_T L d) (G.getD k [])) = n at *
        refine pk_le n 0 (fun y => nm_e (nxt g' ?_)) (fun y => ⟨pk_in k 16 (by omega), pk_in d 32 (by omega), sg_xstored hX ?_⟩)
        · rw [htm]; unfold sg_sf; rw [if_pos (by omega)]
        · have hT := sg_Gd_T hG d
          have hal : 0 < sg_al L (sg_st S) := by
            have h1 : 0 < (sg_T L d).length := by
              have h2 : 0 < sg_nsp (sg_S (sg_T L d) (G.getD k [])) := by omega
              rcases Nat.eq_zero_or_pos (sg_T L d).length with e0 | e0
              · exfalso
                have hnil : sg_T L d = [] := List.eq_nil_of_length_eq_zero e0
                have hno : ∀ e, sg_Sp e → ∀ i m, sg_S ([] : List Nat) e i m = false := by
                  intro e he
                  refine sg_Sp_ind (R := fun e => ∀ i m, sg_S ([] : List Nat) e i m = false) ?_ ?_ he
                  · intro t ht i m
                    rw [sg_S_w ht]
                    refine decide_eq_false (fun z => ?_)
                    have : 8 = t := z.2
                    omega
                  · intro t a b ht ha hb ia ib i m
                    rw [sg_S_o ht ha hb]
                    refine sg_bf.mpr (fun ⟨j, k, _, _, _, _, z, _⟩ => ?_)
                    rw [ia] at z; cases z
                obtain ⟨i, m, _, _, hh⟩ := sg_nsp_pos.mp h2
                rw [hnil, hno _ hSp] at hh
                cases hh
              · exact e0
            have := sg_al_ge (L := L) hd
            omega
          have hale := sg_al_le (sg_Gd_T hG) (sg_st S)
          have hown : sg_own L (sg_st S) d = 90 * (sg_T L d).length * sg_st S / sg_al L (sg_st S) := by unfold sg_own; rw [if_neg (by omega)]
          have ho1 : 90 * (sg_T L d).length * sg_st S ≤ 90 * 12 * 32 := Nat.mul_le_mul (Nat.mul_le_mul (Nat.le_refl 90) hT) (by omega)
          have ho2 : sg_own L (sg_st S) d ≤ 34560 := by rw [hown]; exact Nat.le_trans (Nat.div_le_self _ _) ho1
          have ho3 : w * 220 * n ≤ 72 * 220 * 144 := Nat.mul_le_mul (Nat.mul_le_mul (by omega) (Nat.le_refl 220)) hnb
          have e1 : ((90 : Int32) * a_length (nI d).toNatClampNeg) * nI (sg_st S) / f_total = nI (sg_own L (sg_st S) d) := by
            rw [sg_rd (f := a_length) d rfl (by omega) (hD.2.1 d (by omega)).2.1, htt, show (90 : Int32) = nI 90 from rfl, pk_mul, pk_mul, pk_div (by omega) hal (by omega), hown]
          have e2 : ((100 : Int32) * nI n + 30) + nI (sg_own L (sg_st S) d) = nI (100 * n + 30 + sg_own L (sg_st S) d) := by
            rw [show (100 : Int32) = nI 100 from rfl, pk_mul, show (30 : Int32) = nI 30 from rfl, nI_add, nI_add]
          have e3 : (a_rarity k * 220) * nI n = nI (w * 220 * n) := by
            rw [s2, show (220 : Int32) = nI 220 from rfl, pk_mul, pk_mul]
          have e4 : nI (w * 220 * n) / nI (100 * n + 30 + sg_own L (sg_st S) d) = nI (sg_sf L (sg_st S) d w n) := by
            rw [pk_div (by omega) (by omega) (by omega)]
            unfold sg_sf; rw [if_neg (by omega)]
          rw [e1, e2, e3, e4]
          refine ⟨?_, ?_, nm_r (e' := nI (sg_gs (sg_T L d) (sg_dg L (sg_st S)) (sg_sf L (sg_st S) d) (G.drop k))) ?_ (nm_e (ih g' (by omega)))⟩
          · rw [htt]; exact nI_ne0 hal (by omega)
          · exact nI_ne0 (by omega) (by omega)
          · rw [nI_add, hsum, htm, Nat.add_comm]
  unfold wpX_score
  refine sg_xtokens hq hz (nm_r (sg_dm _) (Exists.intro (e.length + 1) ?_))
  have := key e.length a_spans (Nat.le_refl _)
  rw [show G.drop e.length = [] from List.drop_eq_nil_of_le (by omega)] at this
  exact this
theorem sg_xg151 {post : Int32 → SX → Prop} {J66 : Int32 → Int32 → Int32 → Int32 → Int32 → Int32 → Int32 → Int32 → Int32 → Int32 → Int32 → (Nat → Int32) → (Nat → Int32) → (Nat → Int32) → (Nat → Int32) → (Nat → Int32) → (Nat → Int32) → (Nat → Int32) → (Nat → Int32) → (Nat → Int32) → (Nat → Int32) → (Nat → Int32) → (Nat → Int32) → (Nat → Int32) → (Nat → Int32) → (Nat → Int32) → (Nat → Int32) → (Nat → Int32) → (Nat → Int32) → (Nat → Int32) → (Nat → Int32) → (Nat → Int32) → (Nat → Int32) → Prop} {x1 x2 x3 x4 x6 x8 : Int32} {ky : Nat → Int} {b : Nat → Nat} {n d : Nat} (hn : n ≤ 10) (hd : d < 32) (hb : ∀ r, r < n → b r < 32 ∧ (a_worth (b r)).toInt = ky (b r)) (hwd : (a_worth d).toInt = ky d)
    (H : ∀ p be, p ≤ n → (∀ r, p ≤ r → r < n → ky (b r) < ky d) → (0 < p → ky d ≤ ky (b (p - 1))) → (∀ r, r ≤ n → r ≠ p → be r = nI (if r < p then b r else b (r - 1))) → wX_gather_202 post J66 x1 x2 x3 x4 x6 (nI n) x8 (nI d) (nI p) f_documents f_added f_deleted f_segments f_total f_words f_base f_kept a_number a_length a_price a_places a_having a_end a_level a_text a_query a_size a_wanted a_news a_waiting a_sets a_scores a_rarity a_spans be a_worth a_keptNumber a_keptScore a_shares) :
    ∀ p be, p ≤ n → (∀ r, r < p → be r = nI (b r)) → (∀ r, p < r → r ≤ n → be r = nI (b (r - 1))) → (∀ r, p ≤ r → r < n → ky (b r) < ky d) → wX_gather_151 post J66 x1 x2 x3 x4 x6 (nI n) x8 (nI d) f_documents f_added f_deleted f_segments f_total f_words f_base f_kept (p + 1) (nI p) a_number a_length a_price a_places a_having a_end a_level a_text a_query a_size a_wanted a_news a_waiting a_sets a_scores a_rarity a_spans be a_worth a_keptNumber a_keptScore a_shares := by
  intro p
  induction p with
  | zero =>
    intro be hp h1 h2 h3
    refine br_t (by decide) (H 0 be hp h3 (fun z => by omega) (fun r hr hr2 => ?_))
    rw [if_neg (by omega)]; exact h2 r (by omega) hr
  | succ p ih =>
    intro be hp h1 h2 h3
    obtain ⟨y1, y2⟩ := hb p (by omega)
    have e1 : nI (p + 1) - 1 = nI p := nI_pred p
    have e2 : be (nI (p + 1) - 1).toNatClampNeg = nI (b p) := sg_rd p e1 (by omega) (h1 p (by omega))
    refine br_f (nI_nle (by omega) (by omega)) ⟨pk_in p 11 (by omega) e1, ?_⟩
    rw [e2]
    refine ⟨pk_in (b p) 32 y1, pk_in d 32 hd, ?_⟩
    rw [nI_clamp (show b p < 2 ^ 31 by omega), nI_clamp (show d < 2 ^ 31 by omega)]
    refine br_c (fun z => H (p + 1) be hp h3 (fun _ => ?_) (fun r hr hr2 => ?_)) (fun z => ⟨pk_in p 11 (by omega) e1, pk_in (p + 1) 11 (by omega), nm_r (sg_wr (p + 1) rfl (by omega) (w := nI (b p)) (sg_nb (by omega))) (nm_r (pk_m1 p) (ih _ (by omega) (fun r hr => ?_) (fun r hr hr2 => ?_) (fun r hr hr2 => ?_)))⟩)
    · rw [Int32.le_iff_toInt_le, y2, hwd] at z
      rw [Nat.add_sub_cancel]; exact z
    · by_cases y : r < p + 1
      · rw [if_pos y]; exact h1 r y
      · rw [if_neg y]; exact h2 r (by omega) hr
    · rw [pk_un (by omega)]; exact h1 r (by omega)
    · by_cases y : r = p + 1
      · rw [y, pk_us, Nat.add_sub_cancel]
      · rw [pk_un y]; exact h2 r (by omega) hr2
    · by_cases y : r = p
      · rw [Int32.le_iff_toInt_le, y2, hwd] at z
        rw [y]; omega
      · exact h3 r (by omega) hr2
end
noncomputable def sg_hit (L : List sg_D) (S : List (Nat × Nat)) (e : List Nat) (ex d : Nat) : Bool := decide (d < sg_st S) && !(sg_dl L d) && sg_M (sg_T L d) (sg_pr L d) e && decide (d ≠ ex)
noncomputable def sg_scr (L : List sg_D) (S : List (Nat × Nat)) (e : List Nat) (d : Nat) : Nat := sg_Sc (sg_T L d) (sg_pr L d) (sg_dg L (sg_st S)) (sg_sf L (sg_st S) d) e
noncomputable def sg_key (L : List sg_D) (S : List (Nat × Nat)) (e : List Nat) (bp : Int32) (d : Nat) : Int := if bp = 0 then (sg_scr L S e d : Int) else -(sg_pr L d : Int)
noncomputable def sg_shr (L : List sg_D) (hit : Nat → Bool) (n : Nat) : Nat → Nat := fun j => sg_c (fun d => hit d && decide (sg_pr L d / 10 = j)) n
end
section
/-! X: gather -/
theorem sg_shr_s {L : List sg_D} {hit : Nat → Bool} {d j : Nat} : sg_shr L hit (d + 1) j = sg_shr L hit d j + (hit d && decide (sg_pr L d / 10 = j)).toNat := rfl
theorem sg_shr_le {L : List sg_D} {hit : Nat → Bool} {d j : Nat} : sg_shr L hit d j ≤ d := sg_c_le _ _
section
variable {f_documents f_added f_deleted f_segments f_total f_words f_base f_kept : Int32} {a_number a_length a_price a_places a_having a_end a_level a_text a_query a_size a_wanted a_news a_waiting a_sets a_scores a_rarity a_spans a_best a_worth a_keptNumber a_keptScore a_shares : Nat → Int32}
variable {L : List sg_D} {S : List (Nat × Nat)} {ad : Nat}
theorem sg_xg236 {post : Int32 → SX → Prop} {x8 : Int32} {q n : Nat} {b : Nat → Nat} {e : List Nat} {G : List (List Nat)} (hq : q < 6) (hG : sg_Gd L S ad) (hS : sg_Gs L.length S) (hD : sg_XD L f_documents f_deleted a_number a_length a_price a_places a_having) (hX : sg_XS S f_segments a_end a_level) (htt : f_total = nI (sg_al L (sg_st S))) (hl : e.length ≤ 15) (hz : a_size q = nI e.length) (hat : sg_At a_query (16 * q) e) (hI : sg_It e G) (hSa : sg_Sa (sg_dg L (sg_st S)) a_scores a_rarity 0 G) (hn : n ≤ 10) (hb : ∀ r, r < n → a_best r = nI (b r) ∧ b r < sg_st S)
    (H : ∀ kn ks g, (∀ r, r < n → kn r = nI (sg_nu L (b r)) ∧ ks r = nI (sg_gs (sg_T L (b r)) (sg_dg L (sg_st S)) (sg_sf L (sg_st S) (b r)) G)) → post x8 (f_documents, f_added, f_deleted, f_segments, f_total, f_words, nI (16 * q), f_kept, a_number, a_length, a_price, a_places, a_having, a_end, a_level, a_text, a_query, a_size, a_wanted, a_news, a_waiting, a_sets, a_scores, a_rarity, g, a_best, a_worth, kn, ks, a_shares)) :
    ∀ f r kn ks g, r ≤ n → n - r < f → (∀ i, i < r → kn i = nI (sg_nu L (b i)) ∧ ks i = nI (sg_gs (sg_T L (b i)) (sg_dg L (sg_st S)) (sg_sf L (sg_st S) (b i)) G)) → wX_gather_236 post (nI n) x8 f (nI r) f_documents f_added f_deleted f_segments f_total f_words (nI (16 * q)) f_kept a_number a_length a_price a_places a_having a_end a_level a_text a_query a_size a_wanted a_news a_waiting a_sets a_scores a_rarity g a_best a_worth kn ks a_shares := by
  have hL := hG.1
  have hst := hS.2.1
  intro f
  induction f with
  | zero => intro r kn ks g _ h; omega
  | succ f ih =>
    intro r kn ks g hr hf h1
    refine pk_le n r (fun z => H kn ks g (fun i hi => h1 i (by omega))) (fun z => ⟨pk_in r 11 (by omega), ?_⟩)
    obtain ⟨y1, y2⟩ := hb r z
    rw [sg_rd (f := a_best) r rfl (by omega) y1]
    refine ⟨pk_in (b r) 32 (by omega), pk_in r 10 (by omega), nm_r (sg_wr r rfl (by omega) (sg_rd (b r) rfl (by omega) (hD.2.1 (b r) (by omega)).1)) ⟨pk_in r 11 (by omega), ?_⟩⟩
    refine sg_xscore (e := e) hq hG hS hD hX htt y2 hl hz hat hI hSa (fun g' => ⟨pk_in r 10 (by omega), nm_r (sg_wr r rfl (by omega) rfl) (nm_r (nI_1 r) (ih (r + 1) _ _ g' (by omega) (by omega) (fun i hi => ?_)))⟩)
    by_cases y : i = r
    · rw [y, pk_us, pk_us]; exact ⟨rfl, rfl⟩
    · rw [pk_un y, pk_un y]; exact h1 i (by omega)
theorem sg_xg66 {post : Int32 → SX → Prop} {q lim ex : Nat} {bp exv found : Int32} {e : List Nat} {G : List (List Nat)} (hq : q < 6) (hG : sg_Gd L S ad) (hS : sg_Gs L.length S) (hD : sg_XD L f_documents f_deleted a_number a_length a_price a_places a_having) (hX : sg_XS S f_segments a_end a_level) (htt : f_total = nI (sg_al L (sg_st S))) (hl : e.length ≤ 15) (hz : a_size q = nI e.length) (hat : sg_At a_query (16 * q) e) (hI : sg_It e G) (hgs : ∀ T p sf, sg_gs T (sg_dg L (sg_st S)) sf G = sg_Sc T p (sg_dg L (sg_st S)) sf e) (hSa : sg_Sa (sg_dg L (sg_st S)) a_scores a_rarity 0 G) (hlim : lim ≤ 10) (hex : ∀ d, d < 32 → (nI d = exv ↔ d = ex))
    (hf : ∀ d, d < sg_st S → bt found d = (!(sg_dl L d) && sg_M (sg_T L d) (sg_pr L d) e))
    (H : ∀ n b g wo be kn ks sh, sg_IV (sg_hit L S e ex) (sg_key L S e bp) lim (sg_st S) n b → sg_XK ((List.range n).map (fun r => (sg_nu L (b r), sg_scr L S e (b r)))) (nI n) kn ks → sg_XH (sg_shr L (sg_hit L S e ex) (sg_st S)) sh → post (nI (sg_c (sg_hit L S e ex) (sg_st S))) (f_documents, f_added, f_deleted, f_segments, f_total, f_words, nI (16 * q), nI n, a_number, a_length, a_price, a_places, a_having, a_end, a_level, a_text, a_query, a_size, a_wanted, a_news, a_waiting, a_sets, a_scores, a_rarity, g, be, wo, kn, ks, sh)) :
    ∀ k d n b g wo be sh, d + k = sg_st S → sg_IV (sg_hit L S e ex) (sg_key L S e bp) lim d n b → (∀ r, r < n → be r = nI (b r)) → (∀ x, x < d → sg_hit L S e ex x = true → (wo x).toInt = sg_key L S e bp x) → (∀ j, j < 10 → sh j = nI (sg_shr L (sg_hit L S e ex) d j)) →
      wX_gather_66 post (nI lim) bp exv (nI (sg_st S)) found (k + 1) (nI n) (nI (sg_c (sg_hit L S e ex) d)) (nI d) f_documents f_added f_deleted f_segments f_total f_words (nI (16 * q)) f_kept a_number a_length a_price a_places a_having a_end a_level a_text a_query a_size a_wanted a_news a_waiting a_sets a_scores a_rarity g be wo a_keptNumber a_keptScore sh := by
  have hL := hG.1
  have hst := hS.2.1
  have hsc : ∀ d, sg_gs (sg_T L d) (sg_dg L (sg_st S)) (sg_sf L (sg_st S) d) G = sg_scr L S e d := fun d => hgs _ _ _
  have hscb : ∀ d, sg_scr L S e d ≤ 15 * 2280960 := fun d => by
    rw [← hsc]
    exact Nat.le_trans (sg_gs_le (M := 2280960) (fun w n h1 h2 => sg_sf_le h1 h2) (fun t _ => sg_dg_le (by omega)) hl hI) (Nat.mul_le_mul hl (Nat.le_refl _))
  intro k
  induction k with
  | zero =>
    intro d n b g wo be sh hk hIV hbe hwo hsh
    obtain rfl : d = sg_st S := by omega
    have hnl : n ≤ 10 := by have := hIV.1; omega
    refine br_t (nI_le (by omega) (by omega)) (Exists.intro (n + 1) ?_)
    refine sg_xg236 (b := b) (n := n) (e := e) hq hG hS hD hX htt hl hz hat hI hSa hnl (fun r hr => ⟨hbe r hr, (hIV.2.1 r hr).1⟩) (fun kn ks g' h => H n b g' wo be kn ks sh hIV ⟨by rw [List.length_map, List.length_range], fun r hr => ?_⟩ hsh) (n + 1) 0 a_keptNumber a_keptScore g (Nat.zero_le _) (by omega) (fun i hi => by omega)
    rw [List.length_map, List.length_range] at hr
    rw [List.getD_eq_getElem?_getD, List.getElem?_map, List.getElem?_range hr]
    obtain ⟨z1, z2⟩ := h r hr
    rw [hsc] at z2
    exact ⟨z1, z2⟩
  | succ k ih =>
    intro d n b g wo be sh hk hIV hbe hwo hsh
    have hds : d < sg_st S := by omega
    have hnl : n ≤ 10 := by have := hIV.1; omega
    have hh : sg_hit L S e ex d = (bt found d && decide (d ≠ ex)) := by
      unfold sg_hit; rw [decide_eq_true hds, Bool.true_and, hf d hds]
    have skip : sg_hit L S e ex d = false → wX_gather_66 post (nI lim) bp exv (nI (sg_st S)) found (k + 1) (nI n) (nI (sg_c (sg_hit L S e ex) d)) (nI (d + 1)) f_documents f_added f_deleted f_segments f_total f_words (nI (16 * q)) f_kept a_number a_length a_price a_places a_having a_end a_level a_text a_query a_size a_wanted a_news a_waiting a_sets a_scores a_rarity g be wo a_keptNumber a_keptScore sh := by
      intro h0
      have hc : sg_c (sg_hit L S e ex) (d + 1) = sg_c (sg_hit L S e ex) d := by
        show _ + (sg_hit L S e ex d).toNat = _; rw [h0]; rfl
      have := ih (d + 1) n b g wo be sh (by omega) (sg_IV_skip hIV h0) hbe (fun x hx hhx => ?_) (fun j hj => ?_)
      · rw [hc] at this; exact this
      · by_cases y : x = d
        · rw [y, h0] at hhx; cases hhx
        · exact hwo x (by omega) hhx
      · rw [hsh j hj, sg_shr_s, h0]; rfl
    refine pk_le (sg_st S) d (fun z => by omega) (fun z => ek_if (sg_tu found (d := d) (by omega)) (fun h0 => nm_r (nI_1 d) (skip (by rw [hh, h0]; rfl))) (fun h0 => ?_))
    have hfd : bt found d = true := by cases e2 : bt found d <;> simp_all
    refine br_c (fun hx => nm_r (nI_1 d) (skip (by rw [hh, decide_eq_false (fun w => w ((hex d (by omega)).mp hx)), Bool.and_false]))) (fun hx => ?_)
    have hne : d ≠ ex := fun w => hx ((hex d (by omega)).mpr w)
    have hhit : sg_hit L S e ex d = true := by rw [hh, hfd, decide_eq_true hne]; rfl
    have hcs : sg_c (sg_hit L S e ex) (d + 1) = sg_c (sg_hit L S e ex) d + 1 := by
      show _ + (sg_hit L S e ex d).toNat = _; rw [hhit]; rfl
    have hp9 := sg_Gd_p hG d
    have hpd : a_price (nI d).toNatClampNeg = nI (sg_pr L d) := sg_rd d rfl (by omega) (hD.2.1 d (by omega)).2.2
    have e10 : nI (sg_pr L d) / 10 = nI (sg_pr L d / 10) := by rw [show (10 : Int32) = nI 10 from rfl, pk_div (by omega) (by omega) (by omega)]
    have hshl := sg_shr_le (L := L) (hit := sg_hit L S e ex) (d := d) (j := sg_pr L d / 10)
    refine nm_r (e' := nI (sg_c (sg_hit L S e ex) (d + 1))) (by rw [hcs, nI_1]) ⟨pk_in d 32 (by omega), by decide, ?_⟩
    rw [hpd, e10]
    refine ⟨pk_in (sg_pr L d / 10) 10 (by omega), pk_in (sg_pr L d / 10) 10 (by omega), nm_r (sg_wr (sg_pr L d / 10) rfl (by omega) (w := nI (sg_shr L (sg_hit L S e ex) (d + 1) (sg_pr L d / 10))) ?_) ?_⟩
    · rw [sg_rd (f := sh) (sg_pr L d / 10) rfl (by omega) (hsh _ (by omega)), nI_1, sg_nbb (by omega), sg_shr_s, hhit, decide_eq_true rfl]; rfl
    · have hsh' : ∀ j, j < 10 → (upd sh (sg_pr L d / 10) (nI (sg_shr L (sg_hit L S e ex) (d + 1) (sg_pr L d / 10)))) j = nI (sg_shr L (sg_hit L S e ex) (d + 1) j) := by
        intro j hj
        by_cases y : j = sg_pr L d / 10
        · rw [y, pk_us]
        · rw [pk_un y, hsh j hj, sg_shr_s, hhit, decide_eq_false (fun w => y w.symm)]; rfl
      generalize hs' : upd sh (sg_pr L d / 10) (nI (sg_shr L (sg_hit L S e ex) (d + 1) (sg_pr L d / 10))) = sh' at *
      -- the insertion, whatever the worth is
      have ins : ∀ v g', v.toInt = sg_key L S e bp d → ∃ n151 : Nat, wX_gather_151 post (wX_gather_66 post (nI lim) bp exv (nI (sg_st S)) found (k + 1)) (nI lim) bp exv (nI (sg_st S)) found (nI n) (nI (sg_c (sg_hit L S e ex) (d + 1))) (nI d) f_documents f_added f_deleted f_segments f_total f_words (nI (16 * q)) f_kept n151 (nI n) a_number a_length a_price a_places a_having a_end a_level a_text a_query a_size a_wanted a_news a_waiting a_sets a_scores a_rarity g' be (upd wo d v) a_keptNumber a_keptScore sh' := by
        intro v g' hv
        have hw' : ∀ x, x < d + 1 → sg_hit L S e ex x = true → ((upd wo d v) x).toInt = sg_key L S e bp x := by
          intro x hx hhx
          by_cases y : x = d
          · rw [y, pk_us]; exact hv
          · rw [pk_un y]; exact hwo x (by omega) hhx
        refine Exists.intro (n + 1) (sg_xg151 (ky := sg_key L S e bp) (b := b) hnl (by omega) (fun r hr => ?_) (hw' d (by omega) hhit) (fun p be' hp h1 h2 h3 => ?_) n be (Nat.le_refl _) hbe (fun r h1 h2 => by omega) (fun r h1 h2 => by omega))
        · obtain ⟨y1, y2, y3⟩ := hIV.2.1 r hr
          exact ⟨by omega, hw' _ (by omega) y2⟩
        · have hIV' := sg_IV_step hIV hhit hp h1 h2
          have hbest : ∀ r, r ≤ n → (upd be' p (nI d)) r = nI (if r < p then b r else if r = p then d else b (r - 1)) := by
            intro r hr
            by_cases y : r = p
            · rw [y, pk_us, if_neg (Nat.lt_irrefl p), if_pos rfl]
            · rw [pk_un y, if_neg y]; exact h3 r hr y
          refine And.intro (pk_in p 11 (by omega)) (nm_r (sg_wr p rfl (by omega) (w := nI d) (sg_nbb (by omega))) (pk_le lim n (fun y => nm_r (nI_1 d) ?_) (fun y => nm_r (nI_1 n) (nm_r (nI_1 d) ?_))))
          · rw [if_pos y] at hIV'
            exact ih (d + 1) n _ g' _ _ sh' (by omega) hIV' (fun r hr => hbest r (by omega)) hw' hsh'
          · rw [if_neg (by omega)] at hIV'
            exact ih (d + 1) (n + 1) _ g' _ _ sh' (by omega) hIV' (fun r hr => hbest r (by omega)) hw' hsh'
      refine sg_xscore (e := e) hq hG hS hD hX htt hds hl hz hat hI hSa (fun g' => ?_)
      rw [hsc]
      have hsb := hscb d
      refine br_c (fun h0 => ⟨pk_in d 32 (by omega), nm_r (sg_wr d rfl (by omega) rfl) (ins _ g' ?_)⟩) (fun h0 => ⟨pk_in d 32 (by omega), pk_in d 32 (by omega), nm_r (sg_wr d rfl (by omega) (w := -nI (sg_pr L d)) ?_) (ins _ g' ?_)⟩)
      · unfold sg_key; rw [if_pos h0, nI_toInt (by omega)]
      · rw [hpd]
      · unfold sg_key; rw [if_neg h0, sb_negT (by omega)]
theorem sg_xgather {post : Int32 → SX → Prop} {q lim ex : Nat} {bp exv : Int32} {e : List Nat} (hq : q < 6) (hG : sg_Gd L S ad) (hS : sg_Gs L.length S) (hD : sg_XD L f_documents f_deleted a_number a_length a_price a_places a_having) (hX : sg_XS S f_segments a_end a_level) (htt : f_total = nI (sg_al L (sg_st S))) (hE : sg_Ex e) (hl : e.length ≤ 15) (hz : a_size q = nI e.length) (hat : sg_At a_query (16 * q) e) (hlim : lim ≤ 10) (hex : ∀ d, d < 32 → (nI d = exv ↔ d = ex))
    (H : ∀ K s sc ra g be wo fk kn ks sh, sg_KK (sg_hit L S e ex) (sg_key L S e bp) (sg_nu L) (sg_scr L S e) lim L.length K → K.length ≤ 10 → sg_XK K fk kn ks → sg_XH (sg_shr L (sg_hit L S e ex) L.length) sh → post (nI (sg_c (sg_hit L S e ex) L.length)) (f_documents, f_added, f_deleted, f_segments, f_total, f_words, nI (16 * q), fk, a_number, a_length, a_price, a_places, a_having, a_end, a_level, a_text, a_query, a_size, a_wanted, a_news, a_waiting, s, sc, ra, g, be, wo, kn, ks, sh)) : wpX_gather post (f_documents, f_added, f_deleted, f_segments, f_total, f_words, nI (16 * q), f_kept, a_number, a_length, a_price, a_places, a_having, a_end, a_level, a_text, a_query, a_size, a_wanted, a_news, a_waiting, a_sets, a_scores, a_rarity, a_spans, a_best, a_worth, a_keptNumber, a_keptScore, a_shares) (nI lim) bp exv := by
  have hL := hG.1
  have hst := hS.2.1
  have hnh : ∀ d, sg_st S ≤ d → sg_hit L S e ex d = false := fun d hd => by
    unfold sg_hit; rw [decide_eq_false (by omega)]; rfl
  unfold wpX_gather
  refine sg_xstored hX ?_
  refine sg_row (a := 0) (b := sg_st S) (by omega) (by omega) (fun r hr => nm_e ?_)
  refine sg_xmatch (L := L) (e := e) hq (sg_Gd_T hG) (sg_Gd_p hG) hL hD (fun d hd hb => ?_) hE hl hz hat (fun found s g hfo => ?_)
  · rw [b_and, hr d hd, Bool.and_eq_true] at hb
    have := (of_decide_eq_true hb.1).2
    omega
  · refine sg_xplan (e := e) hq hD hX (by omega) hE hl hz hat (fun sc ra G hI hgs hSa => ?_)
    have key : ∀ n k sh, k ≤ 10 → 10 - k < n → (∀ j, j < k → sh j = 0) → wX_gather_36 post (nI lim) bp exv (nI (sg_st S)) found f_documents f_added f_deleted f_segments f_total f_words (nI (16 * q)) f_kept n (nI k) a_number a_length a_price a_places a_having a_end a_level a_text a_query a_size a_wanted a_news a_waiting s sc ra g a_best a_worth a_keptNumber a_keptScore sh := by
      intro n
      induction n with
      | zero => intro k sh _ h; omega
      | succ n ih =>
        intro k sh hk hn h0
        refine pk_le 10 k (fun z => Exists.intro (sg_st S + 1) ?_) (fun z => ⟨pk_in k 10 z, nm_r (sg_wr k rfl (by omega) (w := 0) (by decide)) (nm_r (nI_1 k) (ih (k + 1) _ (by omega) (by omega) (fun j hj => ?_)))⟩)
        · refine sg_xg66 (L := L) (S := S) (e := e) (G := G) (ex := ex) hq hG hS hD hX htt hl hz hat hI hgs hSa hlim hex (fun d hd => ?_) (fun n b g' wo be kn ks sh' hIV hK hSh => ?_) (sg_st S) 0 0 (fun _ => 0) g a_worth a_best sh (by omega) sg_IV_0 (fun r hr => by omega) (fun x hx => by omega) (fun j hj => h0 j (by omega))
          · rw [hfo d (by omega), b_and, hr d (by omega), decide_eq_true (show 0 ≤ d ∧ d < sg_st S by omega), Bool.true_and, sg_not _ (by omega), hD.2.2.2.2 d (by omega)]
          · have hIV2 := sg_IV_ext hIV (L.length - sg_st S) (fun d h1 _ => hnh d h1)
            rw [show sg_st S + (L.length - sg_st S) = L.length by omega] at hIV2
            have hce : sg_c (sg_hit L S e ex) L.length = sg_c (sg_hit L S e ex) (sg_st S) := sg_c_ext hst (fun i h1 _ => hnh i h1)
            rw [← hce]
            refine H _ s sc ra g' be wo (nI n) kn ks sh' (sg_KK_of hIV2) ?_ hK (fun j hj => ?_)
            · rw [List.length_map, List.length_range]; have := hIV.1; omega
            · rw [hSh j hj]
              refine congrArg nI (Eq.symm ?_)
              exact sg_c_ext hst (fun i h1 _ => by show (sg_hit L S e ex i && _) = false; rw [hnh i h1]; rfl)
        · by_cases y : j = k
          · rw [y, pk_us]
          · rw [pk_un y]; exact h0 j (by omega)
    exact Exists.intro 11 (key 11 0 a_shares (by omega) (by omega) (fun j hj => by omega))
end
end
section
/-! the query made of a document's words: pure; X: search, like -/
def sg_ws (T : List Nat) (m : Nat) : List Nat := (List.range m).filter (fun w => decide (w ∈ T))
def sg_lkX (ws : List Nat) : List Nat := List.replicate (ws.length - 1) 9 ++ ws
def sg_lkY : List Nat → List Nat
  | [] => []
  | [w] => [w]
  | w :: v :: r => 9 :: w :: sg_lkY (v :: r)
theorem sg_ws_s (T : List Nat) (m : Nat) : sg_ws T (m + 1) = sg_ws T m ++ (if m ∈ T then [m] else []) := by
  unfold sg_ws
  rw [List.range_succ, List.filter_append]
  congr 1
  by_cases h : m ∈ T
  · rw [if_pos h, List.filter_cons_of_pos (by simp [h])]; rfl
  · rw [if_neg h, List.filter_cons_of_neg (by simp [h])]; rfl
theorem sg_ws_lt {T : List Nat} {m w : Nat} (h : w ∈ sg_ws T m) : w < m ∧ w ∈ T := by
  unfold sg_ws at h
  rw [List.mem_filter] at h
  exact ⟨List.mem_range.mp h.1, of_decide_eq_true h.2⟩
theorem sg_ws_len (T : List Nat) : ∀ m, (sg_ws T m).length ≤ m
  | 0 => Nat.le_refl _
  | m + 1 => by
    have := sg_ws_len T m
    rw [sg_ws_s, List.length_append]
    by_cases h : m ∈ T
    · rw [if_pos h]; simp; omega
    · rw [if_neg h]; simp; omega
theorem sg_ws_mono (T : List Nat) : ∀ {m n : Nat}, m ≤ n → (sg_ws T m).length ≤ (sg_ws T n).length := by
  intro m n h
  induction n with
  | zero =>
    obtain rfl : m = 0 := by omega
    exact Nat.le_refl _
  | succ n ih =>
    by_cases e : m = n + 1
    · rw [e]; exact Nat.le_refl _
    · have := ih (by omega)
      rw [sg_ws_s, List.length_append]; omega
theorem sg_ws_pos {T : List Nat} (h : T ≠ []) (hw : ∀ w, w ∈ T → w < 8) : 0 < (sg_ws T 8).length := by
  cases T with
  | nil => exact absurd rfl h
  | cons w r =>
    have hm : w ∈ sg_ws (w :: r) 8 := by
      unfold sg_ws
      rw [List.mem_filter]
      exact ⟨List.mem_range.mpr (hw w (List.mem_cons_self ..)), decide_eq_true (List.mem_cons_self ..)⟩
    exact List.length_pos_of_mem hm
theorem sg_lkX_s {ws : List Nat} (h : ws ≠ []) (w : Nat) : sg_lkX (ws ++ [w]) = 9 :: (sg_lkX ws ++ [w]) := by
  have hp : 0 < ws.length := List.length_pos_iff.mpr h
  unfold sg_lkX
  rw [List.length_append, List.length_singleton, Nat.add_sub_cancel]
  obtain ⟨n, hn⟩ : ∃ n, ws.length = n + 1 := ⟨ws.length - 1, by omega⟩
  rw [hn, List.replicate_succ, Nat.add_sub_cancel]; simp
section
variable {T : List Nat} {p : Nat} {dg : Nat → Nat} {sf : Nat → Nat → Nat}
theorem sg_lkX_v : ∀ (n : Nat) (ws : List Nat), ws.length = n + 1 → (∀ w, w ∈ ws → w < 8) → sg_Ex (sg_lkX ws) ∧ sg_M T p (sg_lkX ws) = ws.any (fun w => sg_M T p [w]) ∧ sg_Sc T p dg sf (sg_lkX ws) = (ws.map (fun w => sg_Sc T p dg sf [w])).sum := by
  intro n
  induction n with
  | zero =>
    intro ws hl hw
    obtain ⟨w, rfl⟩ : ∃ w, ws = [w] := List.length_eq_one_iff.mp hl
    have e : sg_lkX [w] = [w] := rfl
    rw [e]
    exact ⟨sg_Ex_s (sg_Sp_w (hw w (by simp))), by simp, by simp⟩
  | succ n ih =>
    intro ws hl hw
    have hne : ws ≠ [] := fun z => by rw [z] at hl; cases hl
    obtain ⟨vs, w, rfl⟩ : ∃ vs w, ws = vs ++ [w] := ⟨ws.dropLast, ws.getLast hne, (List.dropLast_concat_getLast hne).symm⟩
    rw [List.length_append, List.length_singleton] at hl
    have hvl : vs.length = n + 1 := by omega
    have hvne : vs ≠ [] := fun z => by rw [z] at hvl; cases hvl
    obtain ⟨i1, i2, i3⟩ := ih vs hvl (fun v hv => hw v (List.mem_append_left _ hv))
    have hw8 : w < 8 := hw w (by simp)
    have hx := sg_Ex_s (sg_Sp_w hw8)
    rw [sg_lkX_s hvne]
    refine ⟨sg_Ex_o (by omega) i1 hx, ?_, ?_⟩
    · rw [sg_M_o (by omega) (sg_Ex_Tr i1) (sg_Ex_Tr hx), i2]; simp
    · rw [sg_Sc_o (by omega) (sg_Ex_Tr i1) (sg_Ex_Tr hx), i3]; simp
theorem sg_lkY_v : ∀ (ws : List Nat), ws ≠ [] → (∀ w, w ∈ ws → w < 8) → sg_Ex (sg_lkY ws) ∧ sg_M T p (sg_lkY ws) = ws.any (fun w => sg_M T p [w]) ∧ sg_Sc T p dg sf (sg_lkY ws) = (ws.map (fun w => sg_Sc T p dg sf [w])).sum
  | [], h, _ => absurd rfl h
  | [w], _, hw => ⟨sg_Ex_s (sg_Sp_w (hw w (by simp))), by simp [sg_lkY], by simp [sg_lkY]⟩
  | w :: v :: r, _, hw => by
    obtain ⟨i1, i2, i3⟩ := sg_lkY_v (v :: r) (by simp) (fun u hu => hw u (List.mem_cons_of_mem _ hu))
    have hx := sg_Ex_s (sg_Sp_w (hw w (by simp)))
    have e : sg_lkY (w :: v :: r) = 9 :: ([w] ++ sg_lkY (v :: r)) := rfl
    rw [e]
    refine ⟨sg_Ex_o (by omega) hx i1, ?_, ?_⟩
    · rw [sg_M_o (by omega) (sg_Ex_Tr hx) (sg_Ex_Tr i1), i2]; simp
    · rw [sg_Sc_o (by omega) (sg_Ex_Tr hx) (sg_Ex_Tr i1), i3]; simp
end
theorem sg_lkX_len {ws : List Nat} (h : 0 < ws.length) : (sg_lkX ws).length = 2 * ws.length - 1 := by
  unfold sg_lkX; rw [List.length_append, List.length_replicate]; omega
section
variable {f_documents f_added f_deleted f_segments f_total f_words f_base f_kept : Int32} {a_number a_length a_price a_places a_having a_end a_level a_text a_query a_size a_wanted a_news a_waiting a_sets a_scores a_rarity a_spans a_best a_worth a_keptNumber a_keptScore a_shares : Nat → Int32}
variable {L : List sg_D} {S : List (Nat × Nat)} {ad : Nat} {PT Q : List Nat} {W N : Nat → List Nat} {K : List (Nat × Nat)} {Sh : Nat → Nat}
theorem sg_xsearch {post : Int32 → SX → Prop} {u : SX} {v1 bp : Int32} (hG : sg_Gd L S ad) (hS : sg_Gs L.length S) (hq : sg_Gq Q W) (hu : sg_XR L S ad PT Q W N K Sh u)
    (H0 : ¬ (0 ≤ v1 ∧ v1 ≤ 10) → post (-1) u)
    (H1 : ∀ u', 0 ≤ v1 → v1 ≤ 10 → sg_chk Q [false] = false → sg_XR L S ad PT [] W N K Sh u' → post (-3) u')
    (H2 : ∀ lim K' u', v1 = nI lim → lim ≤ 10 → sg_chk Q [false] = true → sg_KK (sg_hit L S Q 100) (sg_key L S Q bp) (sg_nu L) (sg_scr L S Q) lim L.length K' → K'.length ≤ 10 → sg_XR L S ad PT [] W N K' (sg_shr L (sg_hit L S Q 100) L.length) u' → post (nI (sg_c (sg_hit L S Q 100) L.length)) u') : wpX_search post u v1 bp := by
  obtain ⟨f_documents, f_added, f_deleted, f_segments, f_total, f_words, f_base, f_kept, a_number, a_length, a_price, a_places, a_having, a_end, a_level, a_text, a_query, a_size, a_wanted, a_news, a_waiting, a_sets, a_scores, a_rarity, a_spans, a_best, a_worth, a_keptNumber, a_keptScore, a_shares⟩ := u
  obtain ⟨⟨hD, hX, htt⟩, hA, hP, hQ, hN, hK, hH⟩ := hu
  have hz0 : vp_nar .byte 0 = 0 := by decide
  have hQ' : sg_XQ [] W a_query (upd a_size 4 0) := ⟨(fun k hk => by cases hk), by rw [pk_us]; rfl, fun w hw => by rw [pk_un (by omega)]; exact hQ.2.2 w hw⟩
  unfold wpX_search
  refine sg_outside (fun h1 h2 => br_t rfl ?_) (fun h => br_f (by decide) (H0 h))
  refine nm_r (e' := nI 64) (by decide) ?_
  refine sg_xisWhole hQ hq (fun g => ?_)
  cases hc : sg_chk Q [false]
  · refine br_t rfl ?_
    unfold wX_search_38
    exact nm_r (congrArg (upd a_size 4) hz0) (H1 _ h1 h2 hc (sg_XR_mk ⟨hD, hX, htt⟩ hA hP hQ' hN hK hH))
  · obtain ⟨lim, hlim, rfl⟩ := nI_of2 (M := 10) (n := 10) (by decide) (Int32.not_lt.mpr h1) h2
    refine br_f (by decide) ?_
    refine sg_xgather (L := L) (S := S) (q := 4) (e := Q) (ex := 100) (by omega) hG hS hD hX htt (sg_chk_Ex hq.2.1 hc) (by have := hq.1; omega) hQ.2.1 hQ.1 hlim (fun d hd => ⟨fun z => ?_, fun z => by omega⟩) (fun K' s sc ra g be wo fk kn ks sh hKK hKl hXK hXH => ?_)
    · have := congrArg Int32.toInt z
      rw [nI_toInt (by omega)] at this
      have e : (-1 : Int32).toInt = -1 := by decide
      omega
    · unfold wX_search_38
      exact nm_r (congrArg (upd a_size 4) hz0) (H2 lim K' _ rfl hlim hc hKK hKl (sg_XR_mk ⟨hD, hX, htt⟩ hA hP hQ' hN hXK hXH))
theorem sg_xlike {post : Int32 → SX → Prop} {u : SX} {v1 v2 : Int32} (hG : sg_Gd L S ad) (hS : sg_Gs L.length S) (hq : sg_Gq Q W) (hu : sg_XR L S ad PT Q W N K Sh u)
    (H0 : (∀ i, i < L.length → ¬ nI (sg_nu L i) = v1) → post (-1) u) (H1 : ∀ i, i < L.length → nI (sg_nu L i) = v1 → sg_T L i = [] → post (-1) u)
    (H2 : ∀ i, i < L.length → nI (sg_nu L i) = v1 → sg_T L i ≠ [] → ¬ (0 ≤ v2 ∧ v2 ≤ 10) → post (-1) u)
    (H3 : ∀ i lim K' u', i < L.length → nI (sg_nu L i) = v1 → sg_T L i ≠ [] → v2 = nI lim → lim ≤ 10 → sg_KK (sg_hit L S (sg_lkX (sg_ws (sg_T L i) 8)) i) (sg_key L S (sg_lkX (sg_ws (sg_T L i) 8)) 0) (sg_nu L) (sg_scr L S (sg_lkX (sg_ws (sg_T L i) 8))) lim L.length K' → K'.length ≤ 10 → sg_XR L S ad PT Q W N K' (sg_shr L (sg_hit L S (sg_lkX (sg_ws (sg_T L i) 8)) i) L.length) u' → post (nI (sg_c (sg_hit L S (sg_lkX (sg_ws (sg_T L i) 8)) i) L.length)) u') : wpX_like post u v1 v2 := by
  obtain ⟨f_documents, f_added, f_deleted, f_segments, f_total, f_words, f_base, f_kept, a_number, a_length, a_price, a_places, a_having, a_end, a_level, a_text, a_query, a_size, a_wanted, a_news, a_waiting, a_sets, a_scores, a_rarity, a_spans, a_best, a_worth, a_keptNumber, a_keptScore, a_shares⟩ := u
  obtain ⟨⟨hD, hX, htt⟩, hA, hP, hQ, hN, hK, hH⟩ := hu
  have hL := hG.1
  unfold wpX_like
  refine sg_xfind hG hD v1 (fun i hi e => br_f (nI_pos (by omega)) ⟨pk_in i 32 (by omega), ?_⟩) (fun h => br_t (by decide) (H0 h))
  obtain ⟨y1, y2, y3⟩ := hD.2.1 i hi
  have hT := sg_Gd_T hG i
  refine pk_eq (sg_T L i).length 0 (fun z => H1 i hi e (List.eq_nil_of_length_eq_zero z)) (fun z => ?_) (sg_rd i rfl (by omega) y2)
  have hne : sg_T L i ≠ [] := fun w => z (by rw [w]; rfl)
  refine sg_outside (fun h1 h2 => br_t rfl ?_) (fun h => br_f (by decide) (H2 i hi e hne h))
  obtain ⟨lim, hlim, rfl⟩ := nI_of2 (M := 10) (n := 10) (by decide) (Int32.not_lt.mpr h1) h2
  have hpl : ∀ w, w < 8 → (a_places (8 * i + w) = 0 ↔ ¬ w ∈ sg_T L i) := by
    intro w hw
    rw [sg_mem_T hw]
    constructor
    · intro h ⟨m, hm, hm2⟩
      have := hD.2.2.1 i w m hi hw (by omega)
      rw [h, b_0, decide_eq_true hm2] at this
      cases this
    · intro h
      refine sg_z (fun m hm => ?_)
      rw [hD.2.2.1 i w m hi hw hm]
      exact decide_eq_false (fun q => h ⟨m, sg_getD_lt hw q, q⟩)
  have hwp := sg_ws_pos hne (sg_Gd_w hG i)
  have hw8 := sg_ws_len (sg_T L i) 8
  have e8 : ∀ w, (8 : Int32) * nI i + nI w = nI (8 * i + w) := fun w => by rw [show (8 : Int32) * nI i = nI (8 * i) from pk_mul 8 i, nI_add]
  have e80 : ∀ w, (80 : Int32) + nI w = nI (80 + w) := fun w => nI_add 80 w
  generalize hws : (sg_ws (sg_T L i) 8).length = nw at *
  -- the second loop of words
  have k107 : ∀ k w qu, w + k = 8 → (∀ x, x < 80 → qu x = a_query x) → (∀ x, x < nw - 1 → qu (80 + x) = 9) → (∀ x, x < (sg_ws (sg_T L i) w).length → qu (80 + (nw - 1) + x) = nI ((sg_ws (sg_T L i) w).getD x 0)) → wX_like_107 post (nI lim) (nI i) f_documents f_added f_deleted f_segments f_total f_words f_base f_kept (k + 1) (nI (nw - 1 + (sg_ws (sg_T L i) w).length)) (nI w) a_number a_length a_price a_places a_having a_end a_level a_text qu a_size a_wanted a_news a_waiting a_sets a_scores a_rarity a_spans a_best a_worth a_keptNumber a_keptScore a_shares := by
    intro k
    induction k with
    | zero =>
      intro w qu hk q1 q2 q3
      obtain rfl : w = 8 := by omega
      rw [hws] at q3 ⊢
      refine br_t (by decide) (nm_r (e' := upd a_size 5 (nI (nw - 1 + nw))) ?_ ?_)
      · rw [sg_nbb (by omega)]
      · refine nm_r (e' := nI 80) (by decide) ?_
        have hlen := sg_lkX_len (ws := sg_ws (sg_T L i) 8) (by omega)
        obtain ⟨x1, -, -⟩ := sg_lkX_v (T := []) (p := 0) (dg := fun _ => 0) (sf := fun _ _ => 0) (nw - 1) (sg_ws (sg_T L i) 8) (by omega) (fun w hw => (sg_ws_lt hw).1)
        rw [hws] at hlen
        refine sg_xgather (L := L) (S := S) (q := 5) (e := sg_lkX (sg_ws (sg_T L i) 8)) (ex := i) (by omega) hG hS hD hX htt x1 (by omega) ?_ ?_ hlim (fun d hd => nI_eq (by omega) (by omega)) (fun K' s sc ra g be wo fk kn ks sh hKK hKl hXK hXH => ?_)
        · rw [pk_us, hlen]; exact congrArg nI (by omega)
        · intro x hx
          rw [hlen] at hx
          unfold sg_lkX
          rw [List.getD_eq_getElem?_getD]
          by_cases z2 : x < nw - 1
          · rw [List.getElem?_append_left (by rw [List.length_replicate, hws]; exact z2), List.getElem?_replicate, hws, if_pos z2]
            exact q2 x z2
          · rw [List.getElem?_append_right (by rw [List.length_replicate, hws]; omega), List.length_replicate, hws]
            have := q3 (x - (nw - 1)) (by omega)
            rw [show 80 + (nw - 1) + (x - (nw - 1)) = 16 * 5 + x by omega, List.getD_eq_getElem?_getD] at this
            exact this
        · refine H3 i lim K' _ hi e hne rfl hlim hKK hKl (sg_XR_mk ⟨hD, hX, htt⟩ hA hP ⟨fun k hk => ?_, ?_, fun w hw => ?_⟩ hN hXK hXH)
          · have := hq.1
            rw [q1 _ (by omega)]; exact hQ.1 k hk
          · rw [pk_un (by omega)]; exact hQ.2.1
          · rw [pk_un (by omega)]
            refine ⟨fun k hk => ?_, (hQ.2.2 w hw).2⟩
            have := (hq.2.2 w hw).1
            rw [q1 _ (by omega)]; exact (hQ.2.2 w hw).1 k hk
    | succ k ih =>
      intro w qu hk q1 q2 q3
      have hwl := sg_ws_len (sg_T L i) w
      have hwm := sg_ws_mono (sg_T L i) (show w + 1 ≤ 8 by omega)
      rw [hws] at hwm
      have hs := sg_ws_s (sg_T L i) w
      refine pk_le 8 w (fun z => by omega) (fun z => ⟨pk_in (8 * i + w) 256 (by omega) (e8 w), ?_⟩)
      rw [sg_rd (f := a_places) (8 * i + w) (e8 w) (by omega) rfl]
      refine ek_if (hpl w z) (fun h0 => nm_r (nI_1 w) ?_) (fun h0 => ?_)
      · rw [if_neg h0, List.append_nil] at hs
        have := ih (w + 1) qu (by omega) q1 q2 (by rw [hs]; exact q3)
        rw [hs] at this; exact this
      · have h0' : w ∈ sg_T L i := Classical.not_not.mp h0
        rw [if_pos h0'] at hs
        have hsl : (sg_ws (sg_T L i) (w + 1)).length = (sg_ws (sg_T L i) w).length + 1 := by rw [hs, List.length_append]; rfl
        rw [hsl] at hwm
        refine nm_r (nI_1 _) ⟨pk_in (80 + (nw - 1 + (sg_ws (sg_T L i) w).length)) 96 (by omega) (e80 _), nm_r (sg_wr (80 + (nw - 1 + (sg_ws (sg_T L i) w).length)) (e80 _) (by omega) rfl) (nm_r (nI_1 w) ?_)⟩
        have := ih (w + 1) (upd qu (80 + (nw - 1 + (sg_ws (sg_T L i) w).length)) (nI w)) (by omega) (fun x hx => by rw [pk_un (by omega)]; exact q1 x hx) (fun x hx => by rw [pk_un (by omega)]; exact q2 x hx) (fun x hx => ?_)
        · rw [hsl, ← Nat.add_assoc] at this; exact this
        · rw [hsl] at hx
          rw [hs, List.getD_eq_getElem?_getD]
          by_cases y : x = (sg_ws (sg_T L i) w).length
          · rw [y, show 80 + (nw - 1) + (sg_ws (sg_T L i) w).length = 80 + (nw - 1 + (sg_ws (sg_T L i) w).length) by omega, pk_us, List.getElem?_append_right (Nat.le_refl _), Nat.sub_self]; rfl
          · rw [pk_un (by omega), List.getElem?_append_left (by omega), q3 x (by omega), List.getD_eq_getElem?_getD]
  have k71 : ∀ k c qu, c + k = nw - 1 → (∀ x, x < 80 → qu x = a_query x) → (∀ x, x < c → qu (80 + x) = 9) → wX_like_71 post (nI lim) (nI i) (nI nw) f_documents f_added f_deleted f_segments f_total f_words f_base f_kept (k + 1) (nI c) a_number a_length a_price a_places a_having a_end a_level a_text qu a_size a_wanted a_news a_waiting a_sets a_scores a_rarity a_spans a_best a_worth a_keptNumber a_keptScore a_shares := by
    have em : nI nw - 1 = nI (nw - 1) := by rw [show nw = (nw - 1) + 1 by omega, nI_pred, Nat.add_sub_cancel]
    intro k
    induction k with
    | zero =>
      intro c qu hk q1 q2
      obtain rfl : c = nw - 1 := by omega
      refine pk_le (nw - 1) (nw - 1) (fun _ => nm_r em (Exists.intro 9 ?_)) (fun y => by omega) em
      have := k107 8 0 qu rfl q1 q2 (fun x hx => by cases hx)
      exact this
    | succ k ih =>
      intro c qu hk q1 q2
      refine pk_le (nw - 1) c (fun y => by omega) (fun y => ⟨pk_in (80 + c) 96 (by omega) (e80 c), nm_r (sg_wr (80 + c) (e80 c) (by omega) rfl) (nm_r (nI_1 c) (ih (c + 1) _ (by omega) (fun x hx => ?_) (fun x hx => ?_)))⟩) em
      · rw [pk_un (by omega)]; exact q1 x hx
      · by_cases w : x = c
        · rw [w, pk_us]
        · rw [pk_un (by omega)]; exact q2 x (by omega)
  have k37 : ∀ k w, w + k = 8 → wX_like_37 post (nI lim) (nI i) f_documents f_added f_deleted f_segments f_total f_words f_base f_kept a_number a_length a_price a_places a_having a_end a_level a_text a_query a_size a_wanted a_news a_waiting a_sets a_scores a_rarity a_spans a_best a_worth a_keptNumber a_keptScore a_shares (k + 1) (nI (sg_ws (sg_T L i) w).length) (nI w) := by
    intro k
    induction k with
    | zero =>
      intro w hk
      obtain rfl : w = 8 := by omega
      rw [hws]
      exact br_t (by decide) (Exists.intro (nw - 1 + 1) (k71 (nw - 1) 0 a_query (by omega) (fun x _ => rfl) (fun x hx => by omega)))
    | succ k ih =>
      intro w hk
      have hs := sg_ws_s (sg_T L i) w
      have := ih (w + 1) (by omega)
      rw [hs, List.length_append] at this
      refine pk_le 8 w (fun z => by omega) (fun z => ⟨pk_in (8 * i + w) 256 (by omega) (e8 w), ?_⟩)
      rw [sg_rd (f := a_places) (8 * i + w) (e8 w) (by omega) rfl]
      refine ek_if (hpl w z) (fun h0 => nm_r (nI_1 w) ?_) (fun h0 => nm_r (nI_1 _) (nm_r (nI_1 w) ?_))
      · rw [if_neg h0] at this; exact this
      · rw [if_pos (Classical.not_not.mp h0)] at this; exact this
  exact Exists.intro 9 (k37 8 0 rfl)
end
end
section
/-! Y: reads of documents; many, begin, has, with, rarity, onShelves -/
def sg_yr (num pri siz txt del : Nat → Int32) (k : Nat) (x : sg_D) : Prop := num k = nI x.1 ∧ pri k = nI x.2.1 ∧ siz k = nI x.2.2.1.length ∧ (∀ i, i < x.2.2.1.length → txt (12 * k + i) = nI (x.2.2.1.getD i 8)) ∧ del k = sg_bi1 x.2.2.2
def sg_YD (L : List sg_D) (nD : Int32) (num pri siz txt del : Nat → Int32) : Prop := nD = nI L.length ∧ ∀ k, k < L.length → sg_yr num pri siz txt del k (sg_g L k)
def sg_Ysh (n st : Nat) (shelf : Nat → Int32) : Prop := st ≤ n ∧ ∀ k, k < n → (k < st → ¬ shelf k < 0) ∧ (st ≤ k → shelf k = -1)
theorem sg_nbool (b : Bool) : vp_nar .boolean (sg_bi1 b) = sg_bi1 b := by cases b <;> rfl
theorem sg_nbool0 : vp_nar .boolean 0 = 0 := rfl
theorem sg_nbool1 : vp_nar .boolean 1 = 1 := rfl
theorem sg_Ysh_c {n st : Nat} {shelf : Nat → Int32} (h : sg_Ysh n st shelf) : sg_c (fun d => decide (shelf d = -1)) n = n - st := by
  obtain ⟨h1, h2⟩ := h
  have e : n = st + (n - st) := by omega
  have a1 : sg_c (fun d => decide (shelf d = -1)) st = 0 := sg_c_0 (fun k hk => decide_eq_false (fun z => (h2 k (by omega)).1 hk (by rw [z]; decide)))
  have a2 : sg_c (fun j => decide (shelf (st + j) = -1)) (n - st) = n - st := sg_c_n (fun k hk => decide_eq_true ((h2 (st + k) (by omega)).2 (by omega)))
  have a3 := sg_c_add (fun d => decide (shelf d = -1)) st (n - st)
  rw [← e, a1, a2] at a3
  omega
section
variable {f_documents f_segments f_numbers f_words f_kept : Int32} {a_number a_price a_size a_text a_shelf a_deleted a_levels a_pendingText a_tokens a_length a_kinds a_spans a_weights a_isSpan a_matches a_news a_newsCount a_keptNumber a_shares a_isHit : Nat → Int32} {a_scores a_keptScore a_hitScore : Nat → Int64}
variable {L : List sg_D} {n st : Nat}
theorem sg_ymany {post : Int32 → Prop} {v : Int32} (hn : f_documents = nI n) (hn2 : n ≤ 32) (H : post (nI (sg_c (fun d => decide (a_shelf d = v)) n))) : wpY_many post (f_documents, f_segments, f_numbers, f_words, f_kept, a_number, a_price, a_size, a_text, a_shelf, a_deleted, a_levels, a_pendingText, a_tokens, a_length, a_kinds, a_spans, a_weights, a_isSpan, a_matches, a_scores, a_news, a_newsCount, a_keptNumber, a_keptScore, a_shares, a_isHit, a_hitScore) v := by
  have key : ∀ k d, d + k = n → wY_many_4 post v f_documents f_segments f_numbers f_words f_kept a_number a_price a_size a_text a_shelf a_deleted a_levels a_pendingText a_tokens a_length a_kinds a_spans a_weights a_isSpan a_matches a_scores a_news a_newsCount a_keptNumber a_keptScore a_shares a_isHit a_hitScore (k + 1) (nI (sg_c (fun d => decide (a_shelf d = v)) d)) (nI d) := by
    intro k
    induction k with
    | zero =>
      intro d hd
      obtain rfl : d = n := by omega
      exact pk_le d d (fun _ => H) (fun z => by omega) hn
    | succ k ih =>
      intro d hd
      have := ih (d + 1) (by omega)
      refine pk_le n d (fun z => by omega) (fun z => ⟨pk_in d 32 (by omega), ?_⟩) hn
      rw [nI_clamp (show d < 2 ^ 31 by omega)]
      refine br_c (fun e => nm_r (e' := nI (sg_c (fun d => decide (a_shelf d = v)) (d + 1))) ?_ (nm_r (nI_1 d) this)) (fun e => nm_r (nI_1 d) ?_)
      · show _ = nI (_ + (decide (a_shelf d = v)).toNat)
        rw [decide_eq_true e, nI_1]; rfl
      · have e2 : sg_c (fun d => decide (a_shelf d = v)) (d + 1) = sg_c (fun d => decide (a_shelf d = v)) d := by
          show _ + (decide (a_shelf d = v)).toNat = _
          rw [decide_eq_false e]; rfl
        rw [e2] at this; exact this
  exact Exists.intro (n + 1) (key n 0 (by omega))
theorem sg_yonShelves {post : Int32 → Prop} (hn : f_documents = nI n) (hn2 : n ≤ 32) (hs : sg_Ysh n st a_shelf) (H : post (nI st)) : wpY_onShelves post (f_documents, f_segments, f_numbers, f_words, f_kept, a_number, a_price, a_size, a_text, a_shelf, a_deleted, a_levels, a_pendingText, a_tokens, a_length, a_kinds, a_spans, a_weights, a_isSpan, a_matches, a_scores, a_news, a_newsCount, a_keptNumber, a_keptScore, a_shares, a_isHit, a_hitScore) := by
  unfold wpY_onShelves
  refine sg_ymany hn hn2 ?_
  have h1 := hs.1
  rw [sg_Ysh_c hs, hn, pk_sub (by omega), show n - (n - st) = st by omega]; exact H
theorem sg_ybegin {post : SY → Prop} {j : Nat} {b : Int32} (hj : j < 20) (hb : vp_nar .boolean b = b) (H : ∀ g, (∀ i, i < 12 → g (12 * j + i) = 0) → (∀ x, x < 12 * j → g x = a_spans x) → post (f_documents, f_segments, f_numbers, f_words, f_kept, a_number, a_price, a_size, a_text, a_shelf, a_deleted, a_levels, a_pendingText, a_tokens, a_length, a_kinds, g, a_weights, upd a_isSpan j b, a_matches, a_scores, a_news, a_newsCount, a_keptNumber, a_keptScore, a_shares, a_isHit, a_hitScore)) : wpY_begin post (f_documents, f_segments, f_numbers, f_words, f_kept, a_number, a_price, a_size, a_text, a_shelf, a_deleted, a_levels, a_pendingText, a_tokens, a_length, a_kinds, a_spans, a_weights, a_isSpan, a_matches, a_scores, a_news, a_newsCount, a_keptNumber, a_keptScore, a_shares, a_isHit, a_hitScore) (nI j) b := by
  have key : ∀ n i g, i ≤ 12 → 12 - i < n → (∀ i', i' < i → g (12 * j + i') = 0) → (∀ x, x < 12 * j → g x = a_spans x) → wY_begin_9 post (nI j) f_documents f_segments f_numbers f_words f_kept n (nI i) a_number a_price a_size a_text a_shelf a_deleted a_levels a_pendingText a_tokens a_length a_kinds g a_weights (upd a_isSpan j b) a_matches a_scores a_news a_newsCount a_keptNumber a_keptScore a_shares a_isHit a_hitScore := by
    intro n
    induction n with
    | zero => intro i g _ h; omega
    | succ n ih =>
      intro i g hi hn h1 h2
      have e1 : (12 : Int32) * nI j + nI i = nI (12 * j + i) := by rw [show (12 : Int32) * nI j = nI (12 * j) from pk_mul 12 j, nI_add]
      refine pk_le 12 i (fun z => H g (fun i' hi' => h1 i' (by omega)) h2) (fun z => ⟨pk_in (12 * j + i) 240 (by omega) e1, nm_r (sg_wr (12 * j + i) e1 (by omega) rfl) (nm_r (nI_1 i) (ih (i + 1) _ (by omega) (by omega) (fun i' hi' => ?_) (fun x hx => ?_)))⟩)
      · by_cases y : i' = i
        · rw [y, pk_us]
        · rw [pk_un (by omega)]; exact h1 i' (by omega)
      · rw [pk_un (by omega)]; exact h2 x hx
  exact And.intro (pk_in j 20 hj) (nm_r (sg_wr j rfl (by omega) hb) (Exists.intro 13 (key 13 0 a_spans (by omega) (by omega) (fun i hi => by omega) (fun x _ => rfl))))
theorem sg_yhas {post : Int32 → Prop} {d w : Nat} {x : sg_D} (hd : d < 32) (hw : w < 8) (hx : sg_yr a_number a_price a_size a_text a_deleted d x) (h12 : x.2.2.1.length ≤ 12) (h8 : ∀ v, v ∈ x.2.2.1 → v < 8) (H : post (sg_bi1 (decide (w ∈ x.2.2.1)))) : wpY_has post (f_documents, f_segments, f_numbers, f_words, f_kept, a_number, a_price, a_size, a_text, a_shelf, a_deleted, a_levels, a_pendingText, a_tokens, a_length, a_kinds, a_spans, a_weights, a_isSpan, a_matches, a_scores, a_news, a_newsCount, a_keptNumber, a_keptScore, a_shares, a_isHit, a_hitScore) (nI d) (nI w) := by
  obtain ⟨x1, x2, x3, x4, x5⟩ := hx
  have ez : (12 : Int32) * nI d + a_size (nI d).toNatClampNeg = nI (12 * d + x.2.2.1.length) := by
    rw [sg_rd (f := a_size) d rfl (by omega) x3, show (12 : Int32) * nI d = nI (12 * d) from pk_mul 12 d, nI_add]
  have key : ∀ k i, i + k = x.2.2.1.length → (∀ m, m < i → x.2.2.1.getD m 8 ≠ w) → wY_has_5 post (nI d) (nI w) f_documents f_segments f_numbers f_words f_kept a_number a_price a_size a_text a_shelf a_deleted a_levels a_pendingText a_tokens a_length a_kinds a_spans a_weights a_isSpan a_matches a_scores a_news a_newsCount a_keptNumber a_keptScore a_shares a_isHit a_hitScore (k + 1) (nI (12 * d + i)) := by
    intro k
    induction k with
    | zero =>
      intro i hi hm
      obtain rfl : i = x.2.2.1.length := by omega
      refine And.intro (pk_in d 32 hd) (pk_le (12 * d + x.2.2.1.length) (12 * d + x.2.2.1.length) (fun _ => ?_) (fun z => by omega) ez)
      rw [decide_eq_false] at H
      · exact H
      · rw [sg_mem_T hw]
        intro ⟨m, h1, h2⟩
        exact hm m h1 h2
    | succ k ih =>
      intro i hi hm
      have hil : i < x.2.2.1.length := by omega
      have hv : x.2.2.1.getD i 8 < 8 := by
        rw [List.getD_eq_getElem?_getD, List.getElem?_eq_getElem hil]; exact h8 _ (List.getElem_mem hil)
      refine And.intro (pk_in d 32 hd) (pk_le (12 * d + x.2.2.1.length) (12 * d + i) (fun z => by omega) (fun z => ⟨pk_in (12 * d + i) 384 (by omega), pk_eq (x.2.2.1.getD i 8) w (fun e => ?_) (fun e => nm_r (e' := nI (12 * d + (i + 1))) (nI_1 _) (ih (i + 1) (by omega) (fun m hm2 => ?_))) (sg_rd (12 * d + i) rfl (by omega) (x4 i hil))⟩) ez)
      · rw [decide_eq_true] at H
        · exact H
        · exact (sg_mem_T hw).mpr ⟨i, hil, e⟩
      · by_cases y : m = i
        · rw [y]; exact e
        · exact hm m (by omega)
  unfold wpY_has
  exact nm_r (e' := nI (12 * d)) (pk_mul 12 d) (Exists.intro _ (key x.2.2.1.length 0 (by omega) (fun m hm => by omega)))
theorem sg_ywith {post : Int32 → Prop} {w : Nat} (hw : w < 8) (hL : L.length ≤ 32) (hD : sg_YD L f_documents a_number a_price a_size a_text a_deleted) (hT : ∀ i, (sg_T L i).length ≤ 12) (h8 : ∀ i v, v ∈ sg_T L i → v < 8) (hs : sg_Ysh L.length st a_shelf) (H : post (nI (sg_cw L st w))) : wpY_with post (f_documents, f_segments, f_numbers, f_words, f_kept, a_number, a_price, a_size, a_text, a_shelf, a_deleted, a_levels, a_pendingText, a_tokens, a_length, a_kinds, a_spans, a_weights, a_isSpan, a_matches, a_scores, a_news, a_newsCount, a_keptNumber, a_keptScore, a_shares, a_isHit, a_hitScore) (nI w) := by
  have hs1 := hs.1
  have key : ∀ k d, d + k = L.length → wY_with_4 post (nI w) f_documents f_segments f_numbers f_words f_kept a_number a_price a_size a_text a_shelf a_deleted a_levels a_pendingText a_tokens a_length a_kinds a_spans a_weights a_isSpan a_matches a_scores a_news a_newsCount a_keptNumber a_keptScore a_shares a_isHit a_hitScore (k + 1) (nI (sg_c (fun k => decide (k < st) && decide (w ∈ sg_T L k)) d)) (nI d) := by
    intro k
    induction k with
    | zero =>
      intro d hd
      obtain rfl : d = L.length := by omega
      refine pk_le L.length L.length (fun _ => ?_) (fun z => by omega) hD.1
      have e : sg_c (fun k => decide (k < st) && decide (w ∈ sg_T L k)) L.length = sg_cw L st w := by
        rw [sg_c_ext hs1 (fun i h1 _ => by rw [decide_eq_false (show ¬ i < st by omega)]; rfl)]
        exact sg_c_eq (fun k hk => by rw [decide_eq_true hk, Bool.true_and])
      rw [e]; exact H
    | succ k ih =>
      intro d hd
      have hdl : d < L.length := by omega
      have hn := ih (d + 1) (by omega)
      have same : (decide (d < st) && decide (w ∈ sg_T L d)) = false → wY_with_4 post (nI w) f_documents f_segments f_numbers f_words f_kept a_number a_price a_size a_text a_shelf a_deleted a_levels a_pendingText a_tokens a_length a_kinds a_spans a_weights a_isSpan a_matches a_scores a_news a_newsCount a_keptNumber a_keptScore a_shares a_isHit a_hitScore (k + 1) (nI (sg_c (fun k => decide (k < st) && decide (w ∈ sg_T L k)) d)) (nI (d + 1)) := by
        intro h0
        have e2 : sg_c (fun k => decide (k < st) && decide (w ∈ sg_T L k)) (d + 1) = sg_c (fun k => decide (k < st) && decide (w ∈ sg_T L k)) d := by
          show _ + (decide (d < st) && decide (w ∈ sg_T L d)).toNat = _
          rw [h0]; rfl
        rw [e2] at hn; exact hn
      refine pk_le L.length d (fun z => by omega) (fun z => ⟨pk_in d 32 (by omega), ?_⟩) hD.1
      rw [nI_clamp (show d < 2 ^ 31 by omega)]
      refine br_c (fun e => nm_r (nI_1 d) (same ?_)) (fun e => ?_)
      · have : ¬ d < st := fun q => (hs.2 d hdl).1 q e
        rw [decide_eq_false this]; rfl
      · have hst : d < st := by
          rcases Nat.lt_or_ge d st with q | q
          · exact q
          · rw [(hs.2 d hdl).2 q] at e; exact absurd (by decide) e
        refine sg_yhas (by omega) hw (hD.2 d hdl) (hT d) (h8 d) ?_
        show ((sg_bi1 (decide (w ∈ sg_T L d)) = 0 → _) ∧ (¬ sg_bi1 (decide (w ∈ sg_T L d)) = 0 → _))
        cases hc : decide (w ∈ sg_T L d)
        · exact br_t rfl (nm_r (nI_1 d) (same (by rw [hc, Bool.and_false])))
        · refine br_f (by decide) (nm_r (e' := nI (sg_c (fun k => decide (k < st) && decide (w ∈ sg_T L k)) (d + 1))) ?_ (nm_r (nI_1 d) hn))
          show _ = nI (_ + (decide (d < st) && decide (w ∈ sg_T L d)).toNat)
          rw [hc, decide_eq_true hst, nI_1]; rfl
  exact Exists.intro _ (key L.length 0 (by omega))
theorem sg_yrar_l {post : Int32 → Prop} : ∀ f v c n, v < 2 ^ f → v < 1000 → f < n → post (nI (c + sg_dgf f v)) → wY_rarity_20 post f_documents f_segments f_numbers f_words f_kept a_number a_price a_size a_text a_shelf a_deleted a_levels a_pendingText a_tokens a_length a_kinds a_spans a_weights a_isSpan a_matches a_scores a_news a_newsCount a_keptNumber a_keptScore a_shares a_isHit a_hitScore n (nI v) (nI c) := by
  intro f
  induction f with
  | zero =>
    intro v c n hv hv2 hn H
    obtain ⟨n, rfl⟩ : ∃ k, n = k + 1 := ⟨n - 1, by omega⟩
    rw [Nat.pow_zero] at hv
    exact pk_le v 0 (fun _ => H) (fun h => by omega)
  | succ f ih =>
    intro v c n hv hv2 hn H
    obtain ⟨n, rfl⟩ : ∃ k, n = k + 1 := ⟨n - 1, by omega⟩
    refine pk_le v 0 (fun h => ?_) (fun h => ⟨by decide, nm_r (e' := nI (v / 2)) ?_ (nm_r (nI_1 c) (ih (v / 2) (c + 1) n (by rw [Nat.pow_succ] at hv; omega) (by omega) (by omega) ?_))⟩)
    · have e : sg_dgf (f + 1) v = 0 := by show (if v = 0 then 0 else _) = 0; rw [if_pos (by omega)]
      rw [e] at H; exact H
    · rw [show (2 : Int32) = nI 2 from rfl, pk_div (by omega) (by omega) (by omega)]
    · have e : sg_dgf (f + 1) v = sg_dgf f (v / 2) + 1 := by show (if v = 0 then 0 else _) = _; rw [if_neg (by omega)]
      rw [e, show c + (sg_dgf f (v / 2) + 1) = c + 1 + sg_dgf f (v / 2) by omega] at H; exact H
theorem sg_yrarity {post : Int32 → Prop} {w : Nat} (hw : w < 8) (hL : L.length ≤ 32) (hD : sg_YD L f_documents a_number a_price a_size a_text a_deleted) (hT : ∀ i, (sg_T L i).length ≤ 12) (h8 : ∀ i v, v ∈ sg_T L i → v < 8) (hs : sg_Ysh L.length st a_shelf) (H : post (nI (sg_dg L st w))) : wpY_rarity post (f_documents, f_segments, f_numbers, f_words, f_kept, a_number, a_price, a_size, a_text, a_shelf, a_deleted, a_levels, a_pendingText, a_tokens, a_length, a_kinds, a_spans, a_weights, a_isSpan, a_matches, a_scores, a_news, a_newsCount, a_keptNumber, a_keptScore, a_shares, a_isHit, a_hitScore) (nI w) := by
  have hs1 := hs.1
  have hc : sg_cw L st w ≤ st := sg_c_le _ _
  have hdv := Nat.div_le_self (8 * (st + 1)) (sg_cw L st w + 1)
  unfold wpY_rarity
  refine sg_yonShelves hD.1 hL hs ?_
  refine sg_ywith hw hL hD hT h8 hs ⟨?_, nm_r (e' := nI (8 * (st + 1) / (sg_cw L st w + 1))) ?_ (Exists.intro 33 ?_)⟩
  · rw [nI_1]; exact nI_ne0 (by omega) (by omega)
  · rw [nI_1, nI_1, show (8 : Int32) * nI (st + 1) = nI (8 * (st + 1)) from pk_mul 8 _, pk_div (by omega) (by omega) (by omega)]
  · refine sg_yrar_l 32 _ 0 33 (by omega) (by omega) (by omega) ?_
    rw [Nat.zero_add]; exact H
end
end
section
/-! Y: chain, settled, connect -/
section
variable {f_documents f_segments f_numbers f_words f_kept : Int32} {a_number a_price a_size a_text a_shelf a_deleted a_levels a_pendingText a_tokens a_length a_kinds a_spans a_weights a_isSpan a_matches a_news a_newsCount a_keptNumber a_shares a_isHit : Nat → Int32} {a_scores a_keptScore a_hitScore : Nat → Int64}
theorem sg_yc67 {post : SY → Prop} {J23 J32 : Int32 → (Nat → Int32) → (Nat → Int32) → (Nat → Int32) → (Nat → Int32) → (Nat → Int32) → (Nat → Int32) → (Nat → Int32) → (Nat → Int32) → (Nat → Int32) → (Nat → Int32) → (Nat → Int32) → (Nat → Int32) → (Nat → Int32) → (Nat → Int32) → (Nat → Int32) → (Nat → Int64) → (Nat → Int32) → (Nat → Int32) → (Nat → Int32) → (Nat → Int64) → (Nat → Int32) → (Nat → Int32) → (Nat → Int64) → Prop} {j far i jj : Nat} {kd0 : Nat → Int32} (hj : j + 1 < 20) (hf : far ≤ 3) (hi : i < 12) (hjj : jj < 12) {B : Nat → Nat → Bool} (hB : sg_Row a_spans j B) {P0 : Nat → Prop} :
    ∀ n k kd (P : Nat → Prop), (∀ m, m < 32 → (bt (kd i) m = true ↔ P m)) → (∀ x, x ≠ i → kd x = kd0 x) → k ≤ 12 → 12 - k < n →
      (∀ kd', (∀ m, m < 32 → (bt (kd' i) m = true ↔ P m ∨ ∃ k', k ≤ k' ∧ k' ≤ jj + far ∧ k' < 12 ∧ B k' m = true)) → (∀ x, x ≠ i → kd' x = kd0 x) → J32 (nI (jj + 1)) a_number a_price a_size a_text a_shelf a_deleted a_levels a_pendingText a_tokens a_length kd' a_spans a_weights a_isSpan a_matches a_scores a_news a_newsCount a_keptNumber a_keptScore a_shares a_isHit a_hitScore) →
      wY_chain_67 post J23 J32 (nI (j + 1)) (nI far) (nI i) (nI jj) f_documents f_segments f_numbers f_words f_kept n (nI k) a_number a_price a_size a_text a_shelf a_deleted a_levels a_pendingText a_tokens a_length kd a_spans a_weights a_isSpan a_matches a_scores a_news a_newsCount a_keptNumber a_keptScore a_shares a_isHit a_hitScore := by
  have e1 : nI (j + 1) - 1 = nI j := nI_pred j
  intro n
  induction n with
  | zero => intro k kd P _ _ _ h; omega
  | succ n ih =>
    intro k kd P hP h0 hk hn H
    have hfin : (jj + far < k ∨ 12 ≤ k) → J32 (nI (jj + 1)) a_number a_price a_size a_text a_shelf a_deleted a_levels a_pendingText a_tokens a_length kd a_spans a_weights a_isSpan a_matches a_scores a_news a_newsCount a_keptNumber a_keptScore a_shares a_isHit a_hitScore := fun hz => H kd (fun m hm => by
      rw [hP m hm]
      exact ⟨Or.inl, fun z => z.elim id (fun ⟨k', h1, h2, h3, _⟩ => by omega)⟩) h0
    have e2 : (12 : Int32) * (nI (j + 1) - 1) + nI k = nI (12 * j + k) := by rw [e1, show (12 : Int32) * nI j = nI (12 * j) from pk_mul 12 j, nI_add]
    refine pk_lt (jj + far) k (fun h => nm_r (nI_1 jj) (hfin (Or.inl h))) (fun h => pk_le 12 k (fun h2 => nm_r (nI_1 jj) (hfin (Or.inr h2))) (fun h2 => ⟨pk_in i 30 (by omega), pk_in (12 * j + k) 240 (by omega) e2, pk_in i 30 (by omega), nm_r (sg_wr i rfl (by omega) (w := kd i ||| a_spans (12 * j + k)) ?_) (nm_r (nI_1 k) (ih (k + 1) _ (fun m => P m ∨ B k m = true) (fun m hm => ?_) (fun x hx => ?_) (by omega) (by omega) (fun kd' h3 h4 => H kd' (fun m hm => ?_) h4)))⟩)) (nI_add _ _)
    · rw [sg_rd (f := kd) i rfl (by omega) rfl, sg_rd (f := a_spans) (12 * j + k) e2 (by omega) rfl]
    · rw [pk_us, b_or, hB k m h2 hm, Bool.or_eq_true, hP m hm]
    · rw [pk_un hx]; exact h0 x hx
    · rw [h3 m hm]
      constructor
      · intro z
        rcases z with (z | z) | ⟨k', h3, h4, h5, h6⟩
        · exact Or.inl z
        · exact Or.inr ⟨k, Nat.le_refl _, h, h2, z⟩
        · exact Or.inr ⟨k', by omega, h4, h5, h6⟩
      · intro z
        rcases z with z | ⟨k', h3, h4, h5, h6⟩
        · exact Or.inl (Or.inl z)
        · rcases Nat.eq_or_lt_of_le h3 with e | e
          · exact Or.inl (Or.inr (by rw [e]; exact h6))
          · exact Or.inr ⟨k', by omega, h4, h5, h6⟩
theorem sg_yc32 {post : SY → Prop} {J23 : Int32 → (Nat → Int32) → (Nat → Int32) → (Nat → Int32) → (Nat → Int32) → (Nat → Int32) → (Nat → Int32) → (Nat → Int32) → (Nat → Int32) → (Nat → Int32) → (Nat → Int32) → (Nat → Int32) → (Nat → Int32) → (Nat → Int32) → (Nat → Int32) → (Nat → Int32) → (Nat → Int64) → (Nat → Int32) → (Nat → Int32) → (Nat → Int32) → (Nat → Int64) → (Nat → Int32) → (Nat → Int32) → (Nat → Int64) → Prop} {j far i : Nat} {kd0 : Nat → Int32} (hj : j + 1 < 20) (hf : far ≤ 3) (hi : i < 12) {A B : Nat → Nat → Bool} (hA : sg_Row a_spans (j + 1) A) (hB : sg_Row a_spans j B) :
    ∀ n jj kd (P : Nat → Prop), (∀ m, m < 32 → (bt (kd i) m = true ↔ P m)) → (∀ x, x ≠ i → kd x = kd0 x) → jj ≤ 12 → 12 - jj < n →
      (∀ kd', (∀ m, m < 32 → (bt (kd' i) m = true ↔ P m ∨ ∃ j' k, jj ≤ j' ∧ j' < 12 ∧ k < 12 ∧ j' < k ∧ k ≤ j' + far ∧ A i j' = true ∧ B k m = true)) → (∀ x, x ≠ i → kd' x = kd0 x) → J23 (nI (i + 1)) a_number a_price a_size a_text a_shelf a_deleted a_levels a_pendingText a_tokens a_length kd' a_spans a_weights a_isSpan a_matches a_scores a_news a_newsCount a_keptNumber a_keptScore a_shares a_isHit a_hitScore) →
      wY_chain_32 post J23 (nI (j + 1)) (nI far) (nI i) f_documents f_segments f_numbers f_words f_kept n (nI jj) a_number a_price a_size a_text a_shelf a_deleted a_levels a_pendingText a_tokens a_length kd a_spans a_weights a_isSpan a_matches a_scores a_news a_newsCount a_keptNumber a_keptScore a_shares a_isHit a_hitScore := by
  intro n
  induction n with
  | zero => intro jj kd P _ _ _ h; omega
  | succ n ih =>
    intro jj kd P hP h0 hjj hn H
    have e2 : (12 : Int32) * nI (j + 1) + nI i = nI (12 * (j + 1) + i) := by rw [show (12 : Int32) * nI (j + 1) = nI (12 * (j + 1)) from pk_mul 12 _, nI_add]
    refine pk_le 12 jj (fun z => nm_r (nI_1 i) (H kd (fun m hm => ?_) h0)) (fun z => ⟨pk_in (12 * (j + 1) + i) 240 (by omega) e2, ?_⟩)
    · rw [hP m hm]
      exact ⟨Or.inl, fun y => y.elim id (fun ⟨j', k, h1, h2, _⟩ => by omega)⟩
    · rw [sg_rd (f := a_spans) (12 * (j + 1) + i) e2 (by omega) rfl]
      refine ek_if (sg_ts (a_spans (12 * (j + 1) + i)) (d := jj) (by omega)) (fun hb => nm_r (nI_1 jj) (ih (jj + 1) kd P hP h0 (by omega) (by omega) (fun kd' h1 h2 => H kd' (fun m hm => ?_) h2))) (fun hb => nm_r (nI_1 jj) (Exists.intro 13 (sg_yc67 (j := j) (kd0 := kd0) (P0 := P) hj hf hi z hB 13 (jj + 1) kd P hP h0 (by omega) (by omega) (fun kd' h1 h2 => ih (jj + 1) kd' _ h1 h2 (by omega) (by omega) (fun kd2 h3 h4 => H kd2 (fun m hm => ?_) h4)))))
      · rw [hA i jj hi (by omega)] at hb
        rw [h1 m hm]
        constructor
        · intro y
          rcases y with y | ⟨j', k, y1, y2⟩
          · exact Or.inl y
          · exact Or.inr ⟨j', k, by omega, y2⟩
        · intro y
          rcases y with y | ⟨j', k, y1, y2, y3, y4, y5, y6, y7⟩
          · exact Or.inl y
          · refine Or.inr ⟨j', k, ?_, y2, y3, y4, y5, y6, y7⟩
            by_cases q : j' = jj
            · rw [q, hb] at y6; cases y6
            · omega
      · rw [hA i jj hi (by omega)] at hb
        have hb2 : A i jj = true := by cases e : A i jj <;> simp_all
        rw [h3 m hm]
        constructor
        · intro y
          rcases y with (y | ⟨k', y1, y2, y3, y4⟩) | ⟨j', k, y1, y2⟩
          · exact Or.inl y
          · exact Or.inr ⟨jj, k', Nat.le_refl _, z, y3, by omega, y2, hb2, y4⟩
          · exact Or.inr ⟨j', k, by omega, y2⟩
        · intro y
          rcases y with y | ⟨j', k, y1, y2, y3, y4, y5, y6, y7⟩
          · exact Or.inl (Or.inl y)
          · by_cases q : j' = jj
            · subst q
              exact Or.inl (Or.inr ⟨k, by omega, y5, y3, y7⟩)
            · exact Or.inr ⟨j', k, by omega, y2, y3, y4, y5, y6, y7⟩
theorem sg_ychain {post : SY → Prop} {j far : Nat} (hj : j + 1 < 20) (hf : far ≤ 3) {A B : Nat → Nat → Bool} (hA : sg_Row a_spans (j + 1) A) (hB : sg_Row a_spans j B)
    (H : ∀ kd g, sg_Row g j (sg_chn A B far) → (∀ x, x < 12 * j → g x = a_spans x) → post (f_documents, f_segments, f_numbers, f_words, f_kept, a_number, a_price, a_size, a_text, a_shelf, a_deleted, a_levels, a_pendingText, a_tokens, a_length, kd, g, upd a_weights j (a_weights j + a_weights (j + 1)), a_isSpan, a_matches, a_scores, a_news, a_newsCount, a_keptNumber, a_keptScore, a_shares, a_isHit, a_hitScore)) : wpY_chain post (f_documents, f_segments, f_numbers, f_words, f_kept, a_number, a_price, a_size, a_text, a_shelf, a_deleted, a_levels, a_pendingText, a_tokens, a_length, a_kinds, a_spans, a_weights, a_isSpan, a_matches, a_scores, a_news, a_newsCount, a_keptNumber, a_keptScore, a_shares, a_isHit, a_hitScore) (nI (j + 1)) (nI far) := by
  have e1 : nI (j + 1) - 1 = nI j := nI_pred j
  have k126 : ∀ n i kd g, i ≤ 12 → 12 - i < n → (∀ i' m, i' < 12 → m < 32 → bt (kd i') m = sg_chn A B far i' m) → (∀ i', i' < i → g (12 * j + i') = kd i') → (∀ x, x < 12 * j → g x = a_spans x) → wY_chain_126 post (nI (j + 1)) f_documents f_segments f_numbers f_words f_kept n (nI i) a_number a_price a_size a_text a_shelf a_deleted a_levels a_pendingText a_tokens a_length kd g a_weights a_isSpan a_matches a_scores a_news a_newsCount a_keptNumber a_keptScore a_shares a_isHit a_hitScore := by
    intro n
    induction n with
    | zero => intro i kd g _ h; omega
    | succ n ih =>
      intro i kd g hi hn h1 h2 h3
      have e2 : (12 : Int32) * (nI (j + 1) - 1) + nI i = nI (12 * j + i) := by rw [e1, show (12 : Int32) * nI j = nI (12 * j) from pk_mul 12 j, nI_add]
      refine pk_le 12 i (fun z => ⟨pk_in j 20 (by omega) e1, pk_in (j + 1) 20 (by omega), pk_in j 20 (by omega) e1, nm_r (sg_wr j e1 (by omega) (w := a_weights j + a_weights (j + 1)) ?_) (H kd g (fun i' m hi' hm => ?_) h3)⟩) (fun z => ⟨pk_in i 30 (by omega), pk_in (12 * j + i) 240 (by omega) e2, nm_r (sg_wr (12 * j + i) e2 (by omega) (sg_rd i rfl (by omega) rfl)) (nm_r (nI_1 i) (ih (i + 1) kd _ (by omega) (by omega) h1 (fun i' hi' => ?_) (fun x hx => ?_)))⟩)
      · rw [sg_rd (f := a_weights) j e1 (by omega) rfl, sg_rd (f := a_weights) (j + 1) rfl (by omega) rfl]
      · rw [h2 i' (by omega)]; exact h1 i' m hi' hm
      · by_cases y : i' = i
        · rw [y, pk_us]
        · rw [pk_un (by omega)]; exact h2 i' (by omega)
      · rw [pk_un (by omega)]; exact h3 x hx
  have k23 : ∀ n i kd, i ≤ 12 → 12 - i < n → (∀ i' m, i' < i → m < 32 → bt (kd i') m = sg_chn A B far i' m) → (∀ i', i ≤ i' → i' < 12 → kd i' = 0) → wY_chain_23 post (nI (j + 1)) (nI far) f_documents f_segments f_numbers f_words f_kept n (nI i) a_number a_price a_size a_text a_shelf a_deleted a_levels a_pendingText a_tokens a_length kd a_spans a_weights a_isSpan a_matches a_scores a_news a_newsCount a_keptNumber a_keptScore a_shares a_isHit a_hitScore := by
    intro n
    induction n with
    | zero => intro i kd _ h; omega
    | succ n ih =>
      intro i kd hi hn h1 h2
      refine pk_le 12 i (fun z => Exists.intro 13 (k126 13 0 kd a_spans (by omega) (by omega) (fun i' m hi' hm => h1 i' m (by omega) hm) (fun i' hi' => by omega) (fun x _ => rfl))) (fun z => Exists.intro 13 (sg_yc32 (kd0 := kd) hj hf z hA hB 13 0 kd (fun _ => False) (fun m hm => ?_) (fun x _ => rfl) (by omega) (by omega) (fun kd' h3 h4 => ih (i + 1) kd' (by omega) (by omega) (fun i' m hi' hm => ?_) (fun i' h5 h6 => ?_))))
      · rw [h2 i (Nat.le_refl _) z, b_0]; simp
      · by_cases y : i' = i
        · rw [y]
          refine sg_be ?_
          rw [h3 m hm]
          constructor
          · intro q
            rcases q with q | ⟨j', k, _, q2, q3, q4, q5, q6, q7⟩
            · exact q.elim
            · exact ⟨j', k, q2, q3, q4, q5, q6, q7⟩
          · intro ⟨j', k, q2, q3, q4, q5, q6, q7⟩
            exact Or.inr ⟨j', k, Nat.zero_le _, q2, q3, q4, q5, q6, q7⟩
        · rw [h4 i' y]; exact h1 i' m (by omega) hm
      · rw [h4 i' (by omega)]; exact h2 i' (by omega) h6
  have k2 : ∀ n i kd, i ≤ 12 → 12 - i < n → (∀ i', i' < i → kd i' = 0) → wY_chain_2 post (nI (j + 1)) (nI far) f_documents f_segments f_numbers f_words f_kept n (nI i) a_number a_price a_size a_text a_shelf a_deleted a_levels a_pendingText a_tokens a_length kd a_spans a_weights a_isSpan a_matches a_scores a_news a_newsCount a_keptNumber a_keptScore a_shares a_isHit a_hitScore := by
    intro n
    induction n with
    | zero => intro i kd _ h; omega
    | succ n ih =>
      intro i kd hi hn h1
      refine pk_le 12 i (fun z => Exists.intro 13 (k23 13 0 kd (by omega) (by omega) (fun i' m hi' => by omega) (fun i' _ h => h1 i' (by omega)))) (fun z => ⟨pk_in i 30 (by omega), nm_r (sg_wr i rfl (by omega) rfl) (nm_r (nI_1 i) (ih (i + 1) _ (by omega) (by omega) (fun i' hi' => ?_)))⟩)
      by_cases y : i' = i
      · rw [y, pk_us]
      · rw [pk_un y]; exact h1 i' (by omega)
  exact Exists.intro 13 (k2 13 0 a_kinds (by omega) (by omega) (fun i' hi' => by omega))
variable {L : List sg_D} {st : Nat}
theorem sg_ys146 {post : SY → Prop} {j n w own : Nat} (hj : j < 20) (hn : n ≤ 144) (hw : w ≤ 72) (ho : own ≤ 40000) (hwt : a_weights j = nI w)
    (H : post (f_documents, f_segments, f_numbers, f_words, f_kept, a_number, a_price, a_size, a_text, a_shelf, a_deleted, a_levels, a_pendingText, a_tokens, a_length, a_kinds, a_spans, a_weights, a_isSpan, a_matches, vp_updL a_scores j (lN (if n = 0 then 0 else w * 220 * n / (100 * n + 30 + own))), a_news, a_newsCount, a_keptNumber, a_keptScore, a_shares, a_isHit, a_hitScore)) : wY_settled_146 post (nI j) (nI n) (nI own) f_documents f_segments f_numbers f_words f_kept a_number a_price a_size a_text a_shelf a_deleted a_levels a_pendingText a_tokens a_length a_kinds a_spans a_weights a_isSpan a_matches a_scores a_news a_newsCount a_keptNumber a_keptScore a_shares a_isHit a_hitScore := by
  have hl : ∀ v : Int64, vp_updL a_scores (nI j).toNatClampNeg v = vp_updL a_scores j v := fun v => by rw [nI_clamp (show j < 2 ^ 31 by omega)]
  have hb : w * 220 * n ≤ 72 * 220 * 144 := Nat.mul_le_mul (Nat.mul_le_mul hw (Nat.le_refl 220)) hn
  refine pk_eq n 0 (fun z => ⟨pk_in j 20 hj, nm_r (e' := vp_updL a_scores j (lN 0)) ?_ ?_⟩) (fun z => ⟨pk_in j 20 hj, ?_, pk_in j 20 hj, nm_r (e' := vp_updL a_scores j (lN (w * 220 * n / (100 * n + 30 + own)))) ?_ ?_⟩)
  · rw [hl]; rfl
  · rw [if_pos z] at H; exact H
  · rw [nI_l (by omega), nI_l (by omega), show (100 : Int64) = lN 100 from rfl, lN_mul, show (30 : Int64) = lN 30 from rfl, lN_add, lN_add]
    show ¬ _ = lN 0
    rw [lN_eq (by omega) (by omega)]; omega
  · rw [hl, sg_rd (f := a_weights) j rfl (by omega) hwt, nI_l (by omega), nI_l (by omega), nI_l (by omega), show (100 : Int64) = lN 100 from rfl, lN_mul, show (30 : Int64) = lN 30 from rfl, lN_add, lN_add, show (220 : Int64) = lN 220 from rfl, lN_mul, lN_mul, pk_lDiv (by omega) (by omega) (by omega)]
  · rw [if_neg z] at H; exact H
theorem sg_ysettle1 {post : SY → Prop} {j d w : Nat} {s : Nat → Nat → Bool} (hj : j < 20) (hd : d < L.length) (hL : L.length ≤ 32) (hT : ∀ i, (sg_T L i).length ≤ 12) (hD : sg_YD L f_documents a_number a_price a_size a_text a_deleted) (hs : sg_Ysh L.length st a_shelf) (hw : w ≤ 72) (hi : a_isSpan j = 1) (hR : sg_Row a_spans j s) (hwt : a_weights j = nI w)
    (H : post (f_documents, f_segments, f_numbers, f_words, f_kept, a_number, a_price, a_size, a_text, a_shelf, a_deleted, a_levels, a_pendingText, a_tokens, a_length, a_kinds, a_spans, a_weights, upd a_isSpan j 0, upd a_matches j (sg_bi1 (decide (0 < sg_nsp s))), vp_updL a_scores j (lN (sg_sf L st d w (sg_nsp s))), a_news, a_newsCount, a_keptNumber, a_keptScore, a_shares, a_isHit, a_hitScore)) : wpY_settled post (f_documents, f_segments, f_numbers, f_words, f_kept, a_number, a_price, a_size, a_text, a_shelf, a_deleted, a_levels, a_pendingText, a_tokens, a_length, a_kinds, a_spans, a_weights, a_isSpan, a_matches, a_scores, a_news, a_newsCount, a_keptNumber, a_keptScore, a_shares, a_isHit, a_hitScore) (nI j) (nI d) := by
  have hs1 := hs.1
  have hnb := sg_nsp_le s
  have hale := sg_al_le hT st
  have k83 : ∀ ma, (post (f_documents, f_segments, f_numbers, f_words, f_kept, a_number, a_price, a_size, a_text, a_shelf, a_deleted, a_levels, a_pendingText, a_tokens, a_length, a_kinds, a_spans, a_weights, upd a_isSpan j 0, ma, vp_updL a_scores j (lN (sg_sf L st d w (sg_nsp s))), a_news, a_newsCount, a_keptNumber, a_keptScore, a_shares, a_isHit, a_hitScore)) → ∀ k x, x + k = L.length → wY_settled_83 post (nI j) (nI d) (nI (sg_nsp s)) f_documents f_segments f_numbers f_words f_kept a_number a_price a_size a_text a_shelf a_deleted a_levels a_pendingText a_tokens a_length a_kinds a_spans a_weights (upd a_isSpan j 0) ma a_scores a_news a_newsCount a_keptNumber a_keptScore a_shares a_isHit a_hitScore (k + 1) (nI (sg_al L (min x st))) (nI x) := by
    intro ma Hm k
    induction k with
    | zero =>
      intro x hx
      obtain rfl : x = L.length := by omega
      rw [Nat.min_eq_right hs1]
      refine pk_le L.length L.length (fun _ => pk_eq (sg_al L st) 0 (fun z => ?_) (fun z => ⟨pk_in d 32 (by omega), ?_⟩)) (fun z => by omega) hD.1
      · refine sg_ys146 (own := 0) hj hnb hw (by omega) hwt ?_
        have e : sg_sf L st d w (sg_nsp s) = (if sg_nsp s = 0 then 0 else w * 220 * sg_nsp s / (100 * sg_nsp s + 30 + 0)) := by
          unfold sg_sf sg_own; rw [if_pos z]
        rw [← e]; exact Hm
      · refine sg_yonShelves hD.1 hL hs ⟨nI_ne0 (by omega) (by omega), ?_⟩
        have hT2 := hT d
        have ho1 : 90 * (sg_T L d).length * st ≤ 90 * 12 * 32 := Nat.mul_le_mul (Nat.mul_le_mul (Nat.le_refl 90) hT2) (by omega)
        have ho2 := Nat.div_le_self (90 * (sg_T L d).length * st) (sg_al L st)
        have e1 : ((90 : Int32) * a_size (nI d).toNatClampNeg) * nI st / nI (sg_al L st) = nI (90 * (sg_T L d).length * st / sg_al L st) := by
          rw [sg_rd (f := a_size) d rfl (by omega) (hD.2 d hd).2.2.1, show (90 : Int32) = nI 90 from rfl, pk_mul, pk_mul]
          exact pk_div (by show 90 * (sg_T L d).length * st < _; omega) (by omega) (by omega)
        rw [e1]
        refine sg_ys146 hj hnb hw (by omega) hwt ?_
        have e : sg_sf L st d w (sg_nsp s) = (if sg_nsp s = 0 then 0 else w * 220 * sg_nsp s / (100 * sg_nsp s + 30 + 90 * (sg_T L d).length * st / sg_al L st)) := by
          unfold sg_sf sg_own; rw [if_neg z]
        rw [← e]; exact Hm
    | succ k ih =>
      intro x hx
      have hn := ih (x + 1) (by omega)
      refine pk_le L.length x (fun z => by omega) (fun z => ⟨pk_in x 32 (by omega), ?_⟩) hD.1
      rw [nI_clamp (show x < 2 ^ 31 by omega)]
      refine br_c (fun e => nm_r (nI_1 x) ?_) (fun e => ⟨pk_in x 32 (by omega), nm_r (e' := nI (sg_al L (min (x + 1) st))) ?_ (nm_r (nI_1 x) hn)⟩)
      · have : ¬ x < st := fun q => (hs.2 x z).1 q e
        rw [show min (x + 1) st = min x st by omega] at hn; exact hn
      · have hst : x < st := by
          rcases Nat.lt_or_ge x st with q | q
          · exact q
          · rw [(hs.2 x z).2 q] at e; exact absurd (by decide) e
        rw [(hD.2 x z).2.2.1, nI_add, show min (x + 1) st = x + 1 by omega, show min x st = x by omega]; rfl
  have k15 : ∀ k x, x + k = 144 → wY_settled_15 post (nI j) (nI d) f_documents f_segments f_numbers f_words f_kept a_number a_price a_size a_text a_shelf a_deleted a_levels a_pendingText a_tokens a_length a_kinds a_spans a_weights a_isSpan a_matches a_scores a_news a_newsCount a_keptNumber a_keptScore a_shares a_isHit a_hitScore (k + 1) (nI (sg_c (fun x => s (x / 12) (x % 12)) x)) (nI x) := by
    intro k
    induction k with
    | zero =>
      intro x hx
      obtain rfl : x = 144 := by omega
      refine br_t (by decide) ⟨pk_in j 20 hj, nm_r (sg_wr j rfl (by omega) sg_nbool0) (pk_le (sg_nsp s) 0 (fun z => ⟨pk_in j 20 hj, nm_r (sg_wr j rfl (by omega) sg_nbool0) (Exists.intro (L.length + 1) ?_)⟩) (fun z => ⟨pk_in j 20 hj, nm_r (sg_wr j rfl (by omega) sg_nbool1) (Exists.intro (L.length + 1) ?_)⟩))⟩
      · have := k83 (upd a_matches j 0) (by rw [decide_eq_false (show ¬ 0 < sg_nsp s by omega)] at H; exact H) L.length 0 (by omega)
        rw [show min 0 st = 0 by omega] at this; exact this
      · have := k83 (upd a_matches j 1) (by rw [decide_eq_true (show 0 < sg_nsp s by omega)] at H; exact H) L.length 0 (by omega)
        rw [show min 0 st = 0 by omega] at this; exact this
    | succ k ih =>
      intro x hx
      have hn := ih (x + 1) (by omega)
      have d1 : nI x / 12 = nI (x / 12) := by rw [show (12 : Int32) = nI 12 from rfl, pk_div (by omega) (by omega) (by omega)]
      have d2 : nI x - nI x / 12 * 12 = nI (x % 12) := by rw [show (12 : Int32) = nI 12 from rfl, pk_rem (by omega) (by omega) (by omega)]
      have e1 : (12 : Int32) * nI j + nI (x / 12) = nI (12 * j + x / 12) := by rw [show (12 : Int32) * nI j = nI (12 * j) from pk_mul 12 j, nI_add]
      refine pk_le 144 x (fun z => by omega) (fun z => ?_)
      rw [d2, d1]
      refine ⟨by decide, pk_in (12 * j + x / 12) 240 (by omega) e1, by decide, nm_r (e' := nI (sg_c (fun x => s (x / 12) (x % 12)) (x + 1))) ?_ (nm_r (nI_1 x) hn)⟩
      rw [sg_rd (f := a_spans) (12 * j + x / 12) e1 (by omega) rfl, sg_and1v, b_sshr (x % 12) (by omega) _ (by omega), if_pos (by omega), Nat.add_zero, hR (x / 12) (x % 12) (by omega) (by omega), nI_add]; rfl
  refine And.intro (pk_in j 20 hj) ?_
  rw [sg_rd (f := a_isSpan) j rfl (by omega) hi]
  exact br_f (by decide) (Exists.intro 145 (k15 144 0 rfl))
theorem sg_ysettle0 {post : SY → Prop} {j : Nat} {x : Int32} (hj : j < 20) (hi : a_isSpan j = 0) (H : post (f_documents, f_segments, f_numbers, f_words, f_kept, a_number, a_price, a_size, a_text, a_shelf, a_deleted, a_levels, a_pendingText, a_tokens, a_length, a_kinds, a_spans, a_weights, a_isSpan, a_matches, a_scores, a_news, a_newsCount, a_keptNumber, a_keptScore, a_shares, a_isHit, a_hitScore)) : wpY_settled post (f_documents, f_segments, f_numbers, f_words, f_kept, a_number, a_price, a_size, a_text, a_shelf, a_deleted, a_levels, a_pendingText, a_tokens, a_length, a_kinds, a_spans, a_weights, a_isSpan, a_matches, a_scores, a_news, a_newsCount, a_keptNumber, a_keptScore, a_shares, a_isHit, a_hitScore) (nI j) x := by
  refine And.intro (pk_in j 20 hj) ?_
  rw [sg_rd (f := a_isSpan) j rfl (by omega) hi]
  exact br_t rfl H
theorem sg_yconnect {post : SY → Prop} {t j : Nat} {x y : Bool} (ht : t = 8 ∨ t = 9 ∨ t = 10) (hj : j + 1 < 20) (hx : a_matches (j + 1) = sg_bi1 x) (hy : a_matches j = sg_bi1 y)
    (H : post (f_documents, f_segments, f_numbers, f_words, f_kept, a_number, a_price, a_size, a_text, a_shelf, a_deleted, a_levels, a_pendingText, a_tokens, a_length, a_kinds, a_spans, a_weights, a_isSpan, upd a_matches j (sg_bi1 (if t = 8 then x && y else if t = 9 then x || y else x && !y)), vp_updL a_scores j (if t = 10 then a_scores (j + 1) else a_scores (j + 1) + a_scores j), a_news, a_newsCount, a_keptNumber, a_keptScore, a_shares, a_isHit, a_hitScore)) : wpY_connect post (f_documents, f_segments, f_numbers, f_words, f_kept, a_number, a_price, a_size, a_text, a_shelf, a_deleted, a_levels, a_pendingText, a_tokens, a_length, a_kinds, a_spans, a_weights, a_isSpan, a_matches, a_scores, a_news, a_newsCount, a_keptNumber, a_keptScore, a_shares, a_isHit, a_hitScore) (nI t) (nI (j + 1)) := by
  have e1 : nI (j + 1) - 1 = nI j := nI_pred j
  have k84 : ∀ b : Bool, b = (if t = 8 then x && y else if t = 9 then x || y else x && !y) → ∀ z0, z0 = sg_bi1 b → wY_connect_84 post (nI t) (nI (j + 1)) z0 (nI (j + 1) - 1) f_documents f_segments f_numbers f_words f_kept a_number a_price a_size a_text a_shelf a_deleted a_levels a_pendingText a_tokens a_length a_kinds a_spans a_weights a_isSpan a_matches a_scores a_news a_newsCount a_keptNumber a_keptScore a_shares a_isHit a_hitScore := by
    intro b hb z0 hz0
    subst hz0
    rw [← hb] at H
    have c1 : (nI j).toNatClampNeg = j := nI_clamp (by omega)
    have c2 : (nI (j + 1)).toNatClampNeg = j + 1 := nI_clamp (by omega)
    unfold wY_connect_84
    rw [e1]
    refine ⟨pk_in j 20 (by omega), nm_r (sg_wr j rfl (by omega) (sg_nbool b)) (pk_eq t 10 (fun z => ⟨pk_in (j + 1) 20 hj, pk_in j 20 (by omega), nm_r (e' := vp_updL a_scores j (a_scores (j + 1))) ?_ ?_⟩) (fun z => ⟨pk_in (j + 1) 20 hj, pk_in j 20 (by omega), pk_in j 20 (by omega), nm_r (e' := vp_updL a_scores j (a_scores (j + 1) + a_scores j)) ?_ ?_⟩))⟩
    · rw [c1, c2]
    · rw [if_pos z] at H; exact H
    · rw [c1, c2]
    · rw [if_neg z] at H; exact H
  refine And.intro (pk_in (j + 1) 20 hj) (nm_r (sg_rd (j + 1) rfl (by omega) hx) (And.intro (pk_in j 20 (by omega) e1) (nm_r (sg_rd j e1 (by omega) hy) ?_)))
  unfold wY_connect_43 wY_connect_62 wY_connect_83
  refine pk_eq t 8 (fun z => ?_) (fun z => pk_eq t 9 (fun z2 => ?_) (fun z2 => ?_))
  · rw [if_pos z] at k84
    cases x <;> cases y
    · exact br_t rfl (k84 false rfl 0 rfl)
    · exact br_t rfl (k84 false rfl 0 rfl)
    · exact br_f (by decide) (br_t rfl (k84 false rfl 0 rfl))
    · exact br_f (by decide) (br_f (by decide) (k84 true rfl 1 rfl))
  · rw [if_neg z, if_pos z2] at k84
    cases x <;> cases y
    · exact br_t rfl (br_t rfl (k84 false rfl 0 rfl))
    · exact br_t rfl (br_f (by decide) (k84 true rfl 1 rfl))
    · exact br_f (by decide) (k84 true rfl 1 rfl)
    · exact br_f (by decide) (k84 true rfl 1 rfl)
  · rw [if_neg z, if_neg z2] at k84
    cases x <;> cases y
    · exact br_t rfl (k84 false rfl 0 rfl)
    · exact br_t rfl (k84 false rfl 0 rfl)
    · exact br_f (by decide) (br_t rfl (k84 true rfl 1 rfl))
    · exact br_f (by decide) (br_f (by decide) (k84 false rfl 0 rfl))
end
end
section
/-! Y: work -/
def sg_Fr (j : Nat) (sp wt is ma : Nat → Int32) (sc : Nat → Int64) (sp' wt' is' ma' : Nat → Int32) (sc' : Nat → Int64) : Prop := (∀ x, x < 12 * j → sp' x = sp x) ∧ ∀ x, x < j → wt' x = wt x ∧ is' x = is x ∧ ma' x = ma x ∧ sc' x = sc x
noncomputable def sg_YE (T : List Nat) (p : Nat) (dg : Nat → Nat) (sf : Nat → Nat → Nat) (e : List Nat) (j : Nat) (sp wt is ma : Nat → Int32) (sc : Nat → Int64) : Prop :=
  (sg_Sp e ∧ is j = 1 ∧ sg_Row sp j (sg_S T e) ∧ wt j = nI (sg_w dg e)) ∨ (is j = 0 ∧ ma j = sg_bi1 (sg_M T p e) ∧ sc j = lN (sg_Sc T p dg sf e))
section
variable {f_documents f_segments f_numbers f_words f_kept : Int32} {a_number a_price a_size a_text a_shelf a_deleted a_levels a_pendingText a_tokens a_length a_kinds a_spans a_weights a_isSpan a_matches a_news a_newsCount a_keptNumber a_shares a_isHit : Nat → Int32} {a_scores a_keptScore a_hitScore : Nat → Int64}
variable {L : List sg_D} {st : Nat}
theorem sg_yw63 {post : SY → Prop} {J17 : Int32 → Int32 → Int32 → Int32 → Int32 → Int32 → Int32 → (Nat → Int32) → (Nat → Int32) → (Nat → Int32) → (Nat → Int32) → (Nat → Int32) → (Nat → Int32) → (Nat → Int32) → (Nat → Int32) → (Nat → Int32) → (Nat → Int32) → (Nat → Int32) → (Nat → Int32) → (Nat → Int32) → (Nat → Int32) → (Nat → Int32) → (Nat → Int64) → (Nat → Int32) → (Nat → Int32) → (Nat → Int32) → (Nat → Int64) → (Nat → Int32) → (Nat → Int32) → (Nat → Int64) → Prop} {x1 x4 : Int32} {d j t : Nat} (hd : d < 32) (hj : j < 20) (ht : t < 8) {x : sg_D} (hx : sg_yr a_number a_price a_size a_text a_deleted d x) (h12 : x.2.2.1.length ≤ 12) (h8 : ∀ v, v ∈ x.2.2.1 → v < 8)
    (H : ∀ g, sg_Row g j (sg_wsp x.2.2.1 t) → (∀ z, z < 12 * j → g z = a_spans z) → J17 (nI (j + 1)) (x4 + (-1)) f_documents f_segments f_numbers f_words f_kept a_number a_price a_size a_text a_shelf a_deleted a_levels a_pendingText a_tokens a_length a_kinds g a_weights a_isSpan a_matches a_scores a_news a_newsCount a_keptNumber a_keptScore a_shares a_isHit a_hitScore) :
    ∀ k i g, i + k = x.2.2.1.length → (∀ i' m, i' < i → m < 32 → bt (g (12 * j + i')) m = sg_wsp x.2.2.1 t i' m) → (∀ i', i ≤ i' → i' < 12 → g (12 * j + i') = 0) → (∀ z, z < 12 * j → g z = a_spans z) → wY_work_63 post J17 x1 (nI d) (nI j) x4 (nI t) f_documents f_segments f_numbers f_words f_kept (k + 1) (nI i) a_number a_price a_size a_text a_shelf a_deleted a_levels a_pendingText a_tokens a_length a_kinds g a_weights a_isSpan a_matches a_scores a_news a_newsCount a_keptNumber a_keptScore a_shares a_isHit a_hitScore := by
  obtain ⟨x1', x2', x3', x4', x5'⟩ := hx
  intro k
  induction k with
  | zero =>
    intro i g hi h1 h2 h3
    obtain rfl : i = x.2.2.1.length := by omega
    refine And.intro (pk_in d 32 hd) (pk_le x.2.2.1.length x.2.2.1.length (fun _ => nm_r (nI_1 j) (nm_e (H g (fun i' m hi' hm => ?_) h3))) (fun z => by omega) (sg_rd d rfl (by omega) x3'))
    by_cases y : i' < x.2.2.1.length
    · exact h1 i' m y hm
    · rw [h2 i' (by omega) hi', b_0]
      refine (decide_eq_false (fun q => ?_)).symm
      have := sg_getD_lt ht q.2
      omega
  | succ k ih =>
    intro i g hi h1 h2 h3
    have hil : i < x.2.2.1.length := by omega
    have hv : x.2.2.1.getD i 8 < 8 := by
      rw [List.getD_eq_getElem?_getD, List.getElem?_eq_getElem hil]; exact h8 _ (List.getElem_mem hil)
    have e1 : (12 : Int32) * nI d + nI i = nI (12 * d + i) := by rw [show (12 : Int32) * nI d = nI (12 * d) from pk_mul 12 d, nI_add]
    have e2 : (12 : Int32) * nI j + nI i = nI (12 * j + i) := by rw [show (12 : Int32) * nI j = nI (12 * j) from pk_mul 12 j, nI_add]
    refine And.intro (pk_in d 32 hd) (pk_le x.2.2.1.length i (fun z => by omega) (fun z => ⟨pk_in (12 * d + i) 384 (by omega) e1, pk_eq (x.2.2.1.getD i 8) t (fun e => ⟨pk_in (12 * j + i) 240 (by omega) e2, nm_r (sg_wr (12 * j + i) e2 (by omega) rfl) (nm_r (nI_1 i) (ih (i + 1) _ (by omega) (fun i' m hi' hm => ?_) (fun i' h4 h5 => ?_) (fun z hz => ?_)))⟩) (fun e => nm_r (nI_1 i) (ih (i + 1) g (by omega) (fun i' m hi' hm => ?_) (fun i' h4 h5 => h2 i' (by omega) h5) h3)) (sg_rd (12 * d + i) e1 (by omega) (x4' i hil))⟩) (sg_rd d rfl (by omega) x3'))
    · by_cases y : i' = i
      · rw [y, pk_us, sg_one i (by omega) m hm]
        unfold sg_wsp
        refine sg_beq ?_
        simp only [decide_eq_true_iff]
        exact ⟨fun q => ⟨q.symm, e⟩, fun q => q.1.symm⟩
      · rw [pk_un (by omega)]; exact h1 i' m (by omega) hm
    · rw [pk_un (by omega)]; exact h2 i' (by omega) h5
    · rw [pk_un (by omega)]; exact h3 z hz
    · by_cases y : i' = i
      · rw [y, h2 i (Nat.le_refl _) (by omega), b_0]
        exact (decide_eq_false (fun q => e q.2)).symm
      · exact h1 i' m (by omega) hm
theorem sg_yw_s {post : SY → Prop} {l d : Nat} (hl : l < 6) (hd : d < L.length) (hL : L.length ≤ 32) (hD : sg_YD L f_documents a_number a_price a_size a_text a_deleted) (hT : ∀ i, (sg_T L i).length ≤ 12) (h8 : ∀ i v, v ∈ sg_T L i → v < 8) (hs : sg_Ysh L.length st a_shelf) {e : List Nat} (h : sg_Sp e) :
    ∀ n p j kd sp wt is ma sc, 2 * j + e.length + 1 ≤ 24 → p + e.length ≤ 15 → sg_At a_tokens (16 * l + p) e →
      (∀ kd' sp' wt' is' ma' sc', is' j = 1 → sg_Row sp' j (sg_S (sg_T L d) e) → wt' j = nI (sg_w (sg_dg L st) e) → sg_Fr j sp wt is ma sc sp' wt' is' ma' sc' → wY_work_17 post (nI l) (nI d) n (nI (j + 1)) (nI (16 * l + p) + (-1)) f_documents f_segments f_numbers f_words f_kept a_number a_price a_size a_text a_shelf a_deleted a_levels a_pendingText a_tokens a_length kd' sp' wt' is' ma' sc' a_news a_newsCount a_keptNumber a_keptScore a_shares a_isHit a_hitScore) →
      wY_work_17 post (nI l) (nI d) (n + e.length) (nI j) (nI (16 * l + p + e.length) + (-1)) f_documents f_segments f_numbers f_words f_kept a_number a_price a_size a_text a_shelf a_deleted a_levels a_pendingText a_tokens a_length kd sp wt is ma sc a_news a_newsCount a_keptNumber a_keptScore a_shares a_isHit a_hitScore := by
  have e16 : (16 : Int32) * nI l = nI (16 * l) := pk_mul 16 l
  refine sg_Sp_ind (R := fun e => ∀ n p j kd sp wt is ma sc, 2 * j + e.length + 1 ≤ 24 → p + e.length ≤ 15 → sg_At a_tokens (16 * l + p) e →
      (∀ kd' sp' wt' is' ma' sc', is' j = 1 → sg_Row sp' j (sg_S (sg_T L d) e) → wt' j = nI (sg_w (sg_dg L st) e) → sg_Fr j sp wt is ma sc sp' wt' is' ma' sc' → wY_work_17 post (nI l) (nI d) n (nI (j + 1)) (nI (16 * l + p) + (-1)) f_documents f_segments f_numbers f_words f_kept a_number a_price a_size a_text a_shelf a_deleted a_levels a_pendingText a_tokens a_length kd' sp' wt' is' ma' sc' a_news a_newsCount a_keptNumber a_keptScore a_shares a_isHit a_hitScore) →
      wY_work_17 post (nI l) (nI d) (n + e.length) (nI j) (nI (16 * l + p + e.length) + (-1)) f_documents f_segments f_numbers f_words f_kept a_number a_price a_size a_text a_shelf a_deleted a_levels a_pendingText a_tokens a_length kd sp wt is ma sc a_news a_newsCount a_keptNumber a_keptScore a_shares a_isHit a_hitScore) ?_ ?_ h
  · intro t ht n p j kd sp wt is ma sc hj hp hat H
    have hlen : [t].length = 1 := rfl
    rw [hlen] at hj hp ⊢
    rw [pk_m1]
    have hq := (sg_At_c hat).1
    refine pk_lt (16 * l + p) (16 * l) (fun z => by omega) (fun z => ⟨pk_in (16 * l + p) 96 (by omega), nm_r (sg_rd (16 * l + p) rfl (by omega) hq) (pk_le 8 t (fun z => by omega) (fun z => ?_))⟩) rfl e16
    refine sg_ybegin (by omega) sg_nbool1 (fun g hg1 hg2 => ?_)
    refine sg_yrarity ht hL hD hT h8 hs ⟨pk_in j 20 (by omega), nm_r (sg_wr j rfl (by omega) rfl) (Exists.intro ((sg_T L d).length + 1) (sg_yw63 (x := sg_g L d) (by omega) (by omega) ht (hD.2 d hd) (hT d) (h8 d) (fun g' hg3 hg4 => H _ _ _ _ _ _ pk_us ?_ ?_ ⟨fun x hx => ?_, fun x hx => ⟨pk_un (by omega), pk_un (by omega), rfl, rfl⟩⟩) (sg_T L d).length 0 g (Nat.zero_add _) (fun i' m hi' => by omega) (fun i' _ h5 => hg1 i' h5) (fun z hz => rfl)))⟩
    · rw [sg_S_w ht]; exact hg3
    · rw [pk_us, sg_w_w ht]
    · rw [hg4 x hx, hg2 x hx]
  · intro t a b ht ha hb ia ib n p j kd sp wt is ma sc hj hp hat H
    have hla := sg_Tr_pos (sg_Sp_Tr ha)
    have hlb := sg_Tr_pos (sg_Sp_Tr hb)
    have hlen : (t :: (a ++ b)).length = (a.length + b.length) + 1 := by simp
    rw [hlen] at hj hp
    rw [hlen, show n + (a.length + b.length + 1) = (n + 1 + a.length) + b.length by omega, show 16 * l + p + (a.length + b.length + 1) = 16 * l + (p + 1 + a.length) + b.length by omega]
    obtain ⟨hq, hr⟩ := sg_At_c hat
    obtain ⟨hra, hrb⟩ := sg_At_a hr
    refine ib (n + 1 + a.length) (p + 1 + a.length) j kd sp wt is ma sc (by omega) (by omega) (by rw [show 16 * l + (p + 1 + a.length) = 16 * l + p + 1 + a.length by omega]; exact hrb) ?_
    intro kd1 sp1 wt1 is1 ma1 sc1 i1 r1 w1 f1
    rw [show 16 * l + (p + 1 + a.length) = 16 * l + (p + 1) + a.length by omega]
    refine ia (n + 1) (p + 1) (j + 1) kd1 sp1 wt1 is1 ma1 sc1 (by omega) (by omega) (by rw [show 16 * l + (p + 1) = 16 * l + p + 1 by omega]; exact hra) ?_
    intro kd2 sp2 wt2 is2 ma2 sc2 i2 r2 w2 f2
    rw [show 16 * l + (p + 1) = 16 * l + p + 1 by omega, pk_m1]
    have r1' : sg_Row sp2 j (sg_S (sg_T L d) b) := fun i m hi hm => by rw [f2.1 (12 * j + i) (by omega)]; exact r1 i m hi hm
    obtain ⟨g1, g2, g3, g4⟩ := f2.2 j (by omega)
    have key : ∀ far : Nat, far ≤ 3 → sg_S (sg_T L d) (t :: (a ++ b)) = sg_chn (sg_S (sg_T L d) a) (sg_S (sg_T L d) b) far → wY_work_203 post (wY_work_17 post (nI l) (nI d) n) (nI l) (nI d) (nI (j + 1)) (nI (16 * l + p)) (nI far) (nI (j + 1)) f_documents f_segments f_numbers f_words f_kept a_number a_price a_size a_text a_shelf a_deleted a_levels a_pendingText a_tokens a_length kd2 sp2 wt2 is2 ma2 sc2 a_news a_newsCount a_keptNumber a_keptScore a_shares a_isHit a_hitScore := by
      intro far hf he
      unfold wY_work_203
      refine sg_ychain (j := j) (far := far) (by omega) hf r2 r1' ?_
      intro kd3 g r3 k3
      refine nm_e (H _ _ _ _ _ _ ?_ (by rw [he]; exact r3) ?_ ⟨fun x hx => ?_, fun x hx => ?_⟩)
      · rw [g2]; exact i1
      · rw [pk_us, g1, w1, w2, nI_add, sg_w_o (by omega), Nat.add_comm]
      · rw [k3 x hx, f2.1 x (by omega), f1.1 x hx]
      · obtain ⟨q1, q2, q3, q4⟩ := f2.2 x (by omega)
        obtain ⟨p1, p2, p3, p4⟩ := f1.2 x hx
        rw [pk_un (by omega), q1, q2, q3, q4, p1, p2, p3, p4]; exact ⟨rfl, rfl, rfl, rfl⟩
    refine pk_lt (16 * l + p) (16 * l) (fun z => by omega) (fun z => ⟨pk_in (16 * l + p) 96 (by omega), nm_r (sg_rd (16 * l + p) rfl (by omega) hq) (pk_le 8 t (fun z2 => pk_lt t 1000 (fun z3 => nm_r (pk_m1 (j + 1)) (pk_lt t 11 (fun z4 => by omega) (fun z4 => pk_eq t 11 (fun z5 => ?_) (fun z5 => ?_)))) (fun z3 => by omega)) (fun z2 => by omega))⟩) rfl e16
    · exact key 1 (by omega) (by rw [sg_S_o ht ha hb, if_pos z5])
    · exact key 3 (by omega) (by rw [sg_S_o ht ha hb, if_neg z5])
theorem sg_ysettled {post : SY → Prop} {j d : Nat} {e : List Nat} (hj : j < 20) (hd : d < L.length) (hL : L.length ≤ 32) (hT : ∀ i, (sg_T L i).length ≤ 12) (hD : sg_YD L f_documents a_number a_price a_size a_text a_deleted) (hs : sg_Ysh L.length st a_shelf) (hl : e.length ≤ 15) (hE : sg_YE (sg_T L d) (sg_pr L d) (sg_dg L st) (sg_sf L st d) e j a_spans a_weights a_isSpan a_matches a_scores)
    (H : ∀ is ma sc, is j = 0 → ma j = sg_bi1 (sg_M (sg_T L d) (sg_pr L d) e) → sc j = lN (sg_Sc (sg_T L d) (sg_pr L d) (sg_dg L st) (sg_sf L st d) e) → (∀ x, x ≠ j → is x = a_isSpan x ∧ ma x = a_matches x ∧ sc x = a_scores x) → post (f_documents, f_segments, f_numbers, f_words, f_kept, a_number, a_price, a_size, a_text, a_shelf, a_deleted, a_levels, a_pendingText, a_tokens, a_length, a_kinds, a_spans, a_weights, is, ma, sc, a_news, a_newsCount, a_keptNumber, a_keptScore, a_shares, a_isHit, a_hitScore)) : wpY_settled post (f_documents, f_segments, f_numbers, f_words, f_kept, a_number, a_price, a_size, a_text, a_shelf, a_deleted, a_levels, a_pendingText, a_tokens, a_length, a_kinds, a_spans, a_weights, a_isSpan, a_matches, a_scores, a_news, a_newsCount, a_keptNumber, a_keptScore, a_shares, a_isHit, a_hitScore) (nI j) (nI d) := by
  have hs1 := hs.1
  rcases hE with ⟨h1, h2, h3, h4⟩ | ⟨h1, h2, h3⟩
  · have hw := sg_Sp_odd h1 (dg := sg_dg L st) (fun t _ => sg_dg_le (by omega))
    refine sg_ysettle1 hj hd hL hT hD hs (by omega) h2 h3 h4 (H _ _ _ pk_us ?_ ?_ (fun x hx => ⟨pk_un hx, pk_un hx, pk_uLn hx⟩))
    · rw [pk_us, sg_M_s h1]
    · rw [pk_uLs, sg_Sc_s h1]
  · exact sg_ysettle0 hj h1 (H _ _ _ h1 h2 h3 (fun x _ => ⟨rfl, rfl, rfl⟩))
theorem sg_yw_e {post : SY → Prop} {l d : Nat} (hl : l < 6) (hd : d < L.length) (hL : L.length ≤ 32) (hD : sg_YD L f_documents a_number a_price a_size a_text a_deleted) (hT : ∀ i, (sg_T L i).length ≤ 12) (h8 : ∀ i v, v ∈ sg_T L i → v < 8) (hp9 : ∀ i, sg_pr L i ≤ 99) (hs : sg_Ysh L.length st a_shelf) {e : List Nat} (h : sg_Ex e) :
    ∀ n p j kd sp wt is ma sc, 2 * j + e.length + 1 ≤ 24 → p + e.length ≤ 15 → sg_At a_tokens (16 * l + p) e →
      (∀ kd' sp' wt' is' ma' sc', sg_YE (sg_T L d) (sg_pr L d) (sg_dg L st) (sg_sf L st d) e j sp' wt' is' ma' sc' → sg_Fr j sp wt is ma sc sp' wt' is' ma' sc' → wY_work_17 post (nI l) (nI d) n (nI (j + 1)) (nI (16 * l + p) + (-1)) f_documents f_segments f_numbers f_words f_kept a_number a_price a_size a_text a_shelf a_deleted a_levels a_pendingText a_tokens a_length kd' sp' wt' is' ma' sc' a_news a_newsCount a_keptNumber a_keptScore a_shares a_isHit a_hitScore) →
      wY_work_17 post (nI l) (nI d) (n + e.length) (nI j) (nI (16 * l + p + e.length) + (-1)) f_documents f_segments f_numbers f_words f_kept a_number a_price a_size a_text a_shelf a_deleted a_levels a_pendingText a_tokens a_length kd sp wt is ma sc a_news a_newsCount a_keptNumber a_keptScore a_shares a_isHit a_hitScore := by
  have e16 : (16 : Int32) * nI l = nI (16 * l) := pk_mul 16 l
  refine sg_Ex_ind (R := fun e => ∀ n p j kd sp wt is ma sc, 2 * j + e.length + 1 ≤ 24 → p + e.length ≤ 15 → sg_At a_tokens (16 * l + p) e →
      (∀ kd' sp' wt' is' ma' sc', sg_YE (sg_T L d) (sg_pr L d) (sg_dg L st) (sg_sf L st d) e j sp' wt' is' ma' sc' → sg_Fr j sp wt is ma sc sp' wt' is' ma' sc' → wY_work_17 post (nI l) (nI d) n (nI (j + 1)) (nI (16 * l + p) + (-1)) f_documents f_segments f_numbers f_words f_kept a_number a_price a_size a_text a_shelf a_deleted a_levels a_pendingText a_tokens a_length kd' sp' wt' is' ma' sc' a_news a_newsCount a_keptNumber a_keptScore a_shares a_isHit a_hitScore) →
      wY_work_17 post (nI l) (nI d) (n + e.length) (nI j) (nI (16 * l + p + e.length) + (-1)) f_documents f_segments f_numbers f_words f_kept a_number a_price a_size a_text a_shelf a_deleted a_levels a_pendingText a_tokens a_length kd sp wt is ma sc a_news a_newsCount a_keptNumber a_keptScore a_shares a_isHit a_hitScore) ?_ ?_ ?_ h
  · intro e he n p j kd sp wt is ma sc hj hp hat H
    exact sg_yw_s hl hd hL hD hT h8 hs he n p j kd sp wt is ma sc hj hp hat (fun kd' sp' wt' is' ma' sc' h1 h2 h3 h4 => H kd' sp' wt' is' ma' sc' (Or.inl ⟨he, h1, h2, h3⟩) h4)
  · intro t ht hu n p j kd sp wt is ma sc hj hp hat H
    have hlen : [t].length = 1 := rfl
    rw [hlen] at hj hp ⊢
    rw [pk_m1]
    have hq := (sg_At_c hat).1
    have e1 : (nI t - 1000) / 100 = nI ((t - 1000) / 100) := by
      rw [show (1000 : Int32) = nI 1000 from rfl, pk_sub (by omega), show (100 : Int32) = nI 100 from rfl, pk_div (by omega) (by omega) (by omega)]
    have e2 : (nI t - 1000) - (nI t - 1000) / 100 * 100 = nI ((t - 1000) % 100) := by
      rw [show (1000 : Int32) = nI 1000 from rfl, pk_sub (by omega), show (100 : Int32) = nI 100 from rfl, pk_rem (by omega) (by omega) (by omega)]
    have hp := hp9 d
    refine pk_lt (16 * l + p) (16 * l) (fun z => by omega) (fun z => ⟨pk_in (16 * l + p) 96 (by omega), nm_r (sg_rd (16 * l + p) rfl (by omega) hq) (pk_le 8 t (fun z2 => pk_lt t 1000 (fun z3 => by omega) (fun z3 => ?_)) (fun z2 => by omega))⟩) rfl e16
    refine sg_ybegin (by omega) sg_nbool0 (fun g hg1 hg2 => ⟨pk_in d 32 (by omega), by decide, by decide, ?_⟩)
    rw [e2, e1, sg_rd (f := a_price) d rfl (by omega) (show a_price d = nI (sg_pr L d) from (hD.2 d hd).2.1)]
    have fin : ∀ b : Bool, b = sg_M (sg_T L d) (sg_pr L d) [t] → ∀ r, r = sg_bi1 b → (vp_in (nI j) 20 ∧ ∀ ma', ma' = upd ma (nI j).toNatClampNeg (vp_nar .boolean r) → (vp_in (nI j) 20 ∧ ∀ sc', sc' = vp_updL sc (nI j).toNatClampNeg 0 → (∀ x3 : Int32, x3 = nI j + 1 → (∀ x4 : Int32, x4 = nI (16 * l + p) + (-1) → wY_work_17 post (nI l) (nI d) n x3 x4 f_documents f_segments f_numbers f_words f_kept a_number a_price a_size a_text a_shelf a_deleted a_levels a_pendingText a_tokens a_length kd g wt (upd is j 0) ma' sc' a_news a_newsCount a_keptNumber a_keptScore a_shares a_isHit a_hitScore)))) := by
      intro b hb r hr
      subst hr
      refine ⟨pk_in j 20 (by omega), nm_r (sg_wr j rfl (by omega) (sg_nbool b)) ⟨pk_in j 20 (by omega), nm_r (e' := vp_updL sc j 0) (by rw [nI_clamp (show j < 2 ^ 31 by omega)]) (nm_r (nI_1 j) (nm_e (H _ _ _ _ _ _ (Or.inr ⟨pk_us, ?_, ?_⟩) ⟨hg2, fun x hx => ⟨rfl, pk_un (by omega), pk_un (by omega), pk_uLn (by omega)⟩⟩)))⟩⟩
      · rw [pk_us, hb]
      · rw [pk_uLs, sg_Sc_p ht hu]; rfl
    have hM : sg_M (sg_T L d) (sg_pr L d) [t] = decide ((t - 1000) / 100 ≤ sg_pr L d ∧ sg_pr L d ≤ (t - 1000) % 100) := sg_M_p ht hu
    refine sg_within (fun h1 h2 => fin true ?_ 1 rfl) (fun h1 => fin false ?_ 0 rfl)
    · rw [nI_leI (by omega) (by omega)] at h1 h2
      rw [hM, decide_eq_true ⟨h1, h2⟩]
    · rw [nI_leI (by omega) (by omega), nI_leI (by omega) (by omega)] at h1
      rw [hM, decide_eq_false h1]
  · intro t a b ht ha hb ia ib n p j kd sp wt is ma sc hj hp hat H
    have hla := sg_Tr_pos (sg_Ex_Tr ha)
    have hlb := sg_Tr_pos (sg_Ex_Tr hb)
    have hlen : (t :: (a ++ b)).length = (a.length + b.length) + 1 := by simp
    rw [hlen] at hj hp
    rw [hlen, show n + (a.length + b.length + 1) = (n + 1 + a.length) + b.length by omega, show 16 * l + p + (a.length + b.length + 1) = 16 * l + (p + 1 + a.length) + b.length by omega]
    obtain ⟨hq, hr⟩ := sg_At_c hat
    obtain ⟨hra, hrb⟩ := sg_At_a hr
    refine ib (n + 1 + a.length) (p + 1 + a.length) j kd sp wt is ma sc (by omega) (by omega) (by rw [show 16 * l + (p + 1 + a.length) = 16 * l + p + 1 + a.length by omega]; exact hrb) ?_
    intro kd1 sp1 wt1 is1 ma1 sc1 v1 f1
    rw [show 16 * l + (p + 1 + a.length) = 16 * l + (p + 1) + a.length by omega]
    refine ia (n + 1) (p + 1) (j + 1) kd1 sp1 wt1 is1 ma1 sc1 (by omega) (by omega) (by rw [show 16 * l + (p + 1) = 16 * l + p + 1 by omega]; exact hra) ?_
    intro kd2 sp2 wt2 is2 ma2 sc2 v2 f2
    rw [show 16 * l + (p + 1) = 16 * l + p + 1 by omega, pk_m1]
    have v1' : sg_YE (sg_T L d) (sg_pr L d) (sg_dg L st) (sg_sf L st d) b j sp2 wt2 is2 ma2 sc2 := by
      obtain ⟨g1, g2, g3, g4⟩ := f2.2 j (by omega)
      unfold sg_YE
      rw [g1, g2, g3, g4]
      rcases v1 with ⟨q1, q2, q3, q4⟩ | q
      · exact Or.inl ⟨q1, q2, fun i m hi hm => by rw [f2.1 (12 * j + i) (by omega)]; exact q3 i m hi hm, q4⟩
      · exact Or.inr q
    refine pk_lt (16 * l + p) (16 * l) (fun z => by omega) (fun z => ⟨pk_in (16 * l + p) 96 (by omega), nm_r (sg_rd (16 * l + p) rfl (by omega) hq) (pk_le 8 t (fun z2 => pk_lt t 1000 (fun z3 => nm_r (pk_m1 (j + 1)) (pk_lt t 11 (fun z4 => ?_) (fun z4 => by omega))) (fun z3 => by omega)) (fun z2 => by omega))⟩) rfl e16
    refine sg_ysettled (e := a) (by omega) hd hL hT hD hs (by omega) v2 (fun is3 ma3 sc3 a1 a2 a3 a4 => ?_)
    rw [nI_pred]
    have v1'' : sg_YE (sg_T L d) (sg_pr L d) (sg_dg L st) (sg_sf L st d) b j sp2 wt2 is3 ma3 sc3 := by
      obtain ⟨g1, g2, g3⟩ := a4 j (by omega)
      unfold sg_YE
      rw [g1, g2, g3]; exact v1'
    refine sg_ysettled (e := b) (by omega) hd hL hT hD hs (by omega) v1'' (fun is4 ma4 sc4 b1 b2 b3 b4 => ?_)
    obtain ⟨c1, c2, c3⟩ := b4 (j + 1) (by omega)
    refine sg_yconnect ht (by omega) (c2.trans a2) b2 (nm_e (H _ _ _ _ _ _ (Or.inr ⟨b1, ?_, ?_⟩) ⟨fun x hx => ?_, fun x hx => ?_⟩))
    · rw [pk_us, sg_M_o ht (sg_Ex_Tr ha) (sg_Ex_Tr hb)]
    · rw [pk_uLs, c3, a3, b3, sg_Sc_o ht (sg_Ex_Tr ha) (sg_Ex_Tr hb)]
      by_cases e10 : t = 10
      · rw [if_pos e10, if_pos e10]
      · rw [if_neg e10, if_neg e10, lN_add]
    · rw [f2.1 x (by omega), f1.1 x hx]
    · obtain ⟨q1, q2, q3, q4⟩ := f2.2 x (by omega)
      obtain ⟨p1, p2, p3, p4⟩ := f1.2 x hx
      obtain ⟨s1, s2, s3⟩ := a4 x (by omega)
      obtain ⟨t1, t2, t3⟩ := b4 x (by omega)
      rw [pk_un (by omega), pk_uLn (by omega), t1, t2, t3, s1, s2, s3, q1, q2, q3, q4, p1, p2, p3, p4]; exact ⟨rfl, rfl, rfl, rfl⟩
theorem sg_ywork {post : SY → Prop} {l d : Nat} (hl : l < 6) (hd : d < L.length) (hL : L.length ≤ 32) (hD : sg_YD L f_documents a_number a_price a_size a_text a_deleted) (hT : ∀ i, (sg_T L i).length ≤ 12) (h8 : ∀ i v, v ∈ sg_T L i → v < 8) (hp9 : ∀ i, sg_pr L i ≤ 99) (hs : sg_Ysh L.length st a_shelf) {e : List Nat} (h : sg_Ex e) (he : e.length ≤ 15) (hz : a_length l = nI e.length) (hat : sg_At a_tokens (16 * l) e)
    (H : ∀ kd sp wt is ma sc, ma 0 = sg_bi1 (sg_M (sg_T L d) (sg_pr L d) e) → sc 0 = lN (sg_Sc (sg_T L d) (sg_pr L d) (sg_dg L st) (sg_sf L st d) e) → post (f_documents, f_segments, f_numbers, f_words, f_kept, a_number, a_price, a_size, a_text, a_shelf, a_deleted, a_levels, a_pendingText, a_tokens, a_length, kd, sp, wt, is, ma, sc, a_news, a_newsCount, a_keptNumber, a_keptScore, a_shares, a_isHit, a_hitScore)) : wpY_work post (f_documents, f_segments, f_numbers, f_words, f_kept, a_number, a_price, a_size, a_text, a_shelf, a_deleted, a_levels, a_pendingText, a_tokens, a_length, a_kinds, a_spans, a_weights, a_isSpan, a_matches, a_scores, a_news, a_newsCount, a_keptNumber, a_keptScore, a_shares, a_isHit, a_hitScore) (nI l) (nI d) := by
  have e1 : (16 : Int32) * nI l + a_length (nI l).toNatClampNeg - 1 = nI (16 * l + e.length) + (-1) := by
    rw [sg_rd (f := a_length) l rfl (by omega) hz, show (16 : Int32) * nI l = nI (16 * l) from pk_mul 16 l, nI_add, sg_dm]
  refine And.intro (pk_in l 6 hl) (nm_r e1 (Exists.intro (1 + e.length) ?_))
  refine sg_yw_e hl hd hL hD hT h8 hp9 hs h 1 0 0 a_kinds a_spans a_weights a_isSpan a_matches a_scores (by omega) (by omega) hat (fun kd' sp' wt' is' ma' sc' hE _ => ?_)
  rw [Nat.add_zero]
  refine br_t ?_ ?_
  · rw [show (16 : Int32) * nI l = nI (16 * l) from pk_mul 16 l]
    cases l with
    | zero => decide
    | succ l =>
      rw [show 16 * (l + 1) = (16 * l + 15) + 1 by omega, pk_m1]
      exact nI_lt (by omega) (by omega)
  · exact sg_ysettled (e := e) (j := 0) (by omega) hd hL hT hD hs he hE (fun is ma sc _ h2 h3 _ => H _ _ _ _ _ _ h2 h3)
end
end
section
/-! Y: drop, tell, copy, join, flush -/
def sg_YQ (Q : List Nat) (W : Nat → List Nat) (tk ln : Nat → Int32) : Prop := sg_At tk 0 Q ∧ ln 0 = nI Q.length ∧ ∀ w, w < 4 → sg_At tk (16 * (1 + w)) (W w) ∧ ln (1 + w) = nI (W w).length
def sg_YS (S : List (Nat × Nat)) (n : Nat) (ns : Int32) (lev she : Nat → Int32) : Prop := ns = nI S.length ∧ S.length ≤ 32 ∧ (∀ k, k < S.length → lev k = nI (sg_lv S k)) ∧ ∀ d, d < n → sg_shl S d (she d)
def sg_YC (L : List sg_D) (S : List (Nat × Nat)) (nd ns : Int32) (num pri siz txt she del lev : Nat → Int32) : Prop := sg_YD L nd num pri siz txt del ∧ sg_YS S L.length ns lev she
theorem sg_YS_sh {S : List (Nat × Nat)} {n : Nat} {ns : Int32} {lev she : Nat → Int32} (hS : sg_Gs n S) (h : sg_YS S n ns lev she) : sg_Ysh n (sg_st S) she := by
  refine ⟨hS.2.1, fun k hk => ⟨fun hst => ?_, fun hst => (h.2.2.2 k hk).2 hst⟩⟩
  obtain ⟨j, h1, h2, h3⟩ := sg_seg hS hst
  rw [(h.2.2.2 k hk).1 j h1 h2 h3]
  exact nI_pos (by have := h.2.1; omega)
noncomputable def sg_twN (L : List sg_D) (d : Nat) (W N : Nat → List Nat) (m : Nat) : Nat → List Nat := fun v => if v < m then sg_nws L (W v) d 1 (N v) else N v
theorem sg_twN_s {L : List sg_D} {d w : Nat} {W N : Nat → List Nat} : sg_set (sg_twN L d W N w) w (sg_nws L (W w) d 1 (sg_twN L d W N w w)) = sg_twN L d W N (w + 1) := by
  funext v
  unfold sg_set sg_twN
  by_cases e : v = w
  · subst e
    rw [if_pos rfl, if_neg (Nat.lt_irrefl v), if_pos (Nat.lt_succ_self v)]
  · rw [if_neg e]
    by_cases z : v < w
    · rw [if_pos z, if_pos (by omega)]
    · rw [if_neg z, if_neg (by omega)]
section
variable {f_documents f_segments f_numbers f_words f_kept : Int32} {a_number a_price a_size a_text a_shelf a_deleted a_levels a_pendingText a_tokens a_length a_kinds a_spans a_weights a_isSpan a_matches a_news a_newsCount a_keptNumber a_shares a_isHit : Nat → Int32} {a_scores a_keptScore a_hitScore : Nat → Int64}
variable {L : List sg_D} {S : List (Nat × Nat)} {ad st : Nat} {PT Q : List Nat} {W N : Nat → List Nat}
theorem sg_ydrop {post : SY → Prop} {w : Nat} (hw : w < 4) (hN : sg_XN N a_news a_newsCount) (h1 : 0 < (N w).length)
    (H : ∀ nw nc, sg_XN (sg_set N w (N w).tail) nw nc → post (f_documents, f_segments, f_numbers, f_words, f_kept, a_number, a_price, a_size, a_text, a_shelf, a_deleted, a_levels, a_pendingText, a_tokens, a_length, a_kinds, a_spans, a_weights, a_isSpan, a_matches, a_scores, nw, nc, a_keptNumber, a_keptScore, a_shares, a_isHit, a_hitScore)) : wpY_drop post (f_documents, f_segments, f_numbers, f_words, f_kept, a_number, a_price, a_size, a_text, a_shelf, a_deleted, a_levels, a_pendingText, a_tokens, a_length, a_kinds, a_spans, a_weights, a_isSpan, a_matches, a_scores, a_news, a_newsCount, a_keptNumber, a_keptScore, a_shares, a_isHit, a_hitScore) (nI w) := by
  obtain ⟨a1, a2, a3⟩ := hN w hw
  have er : a_newsCount (nI w).toNatClampNeg = nI (N w).length := sg_rd w rfl (by omega) a1
  have e8 : (8 : Int32) * nI w = nI (8 * w) := pk_mul 8 w
  have hfin := H _ _ (sg_XN_t hw hN h1)
  have key : ∀ n k, 8 * w ≤ k → k ≤ 8 * w + ((N w).length - 1) → 8 * w + ((N w).length - 1) - k < n → wY_drop_15 post (nI w) f_documents f_segments f_numbers f_words f_kept n (nI k) a_number a_price a_size a_text a_shelf a_deleted a_levels a_pendingText a_tokens a_length a_kinds a_spans a_weights a_isSpan a_matches a_scores (sg_sft a_news (8 * w) k) (upd a_newsCount w (nI ((N w).length - 1))) a_keptNumber a_keptScore a_shares a_isHit a_hitScore := by
    intro n
    induction n with
    | zero => intro k _ _ h; omega
    | succ n ih =>
      intro k hk1 hk2 hn
      have e9 : (8 : Int32) * nI w + (upd a_newsCount w (nI ((N w).length - 1))) (nI w).toNatClampNeg = nI (8 * w + ((N w).length - 1)) := by
        rw [nI_clamp (by omega), pk_us, e8, nI_add]
      refine And.intro (pk_in w 4 hw) (pk_le (8 * w + ((N w).length - 1)) k (fun h => ?_) (fun h => ⟨pk_in (k + 1) 32 (by omega) (nI_1 k), pk_in k 32 (by omega), nm_r (e' := sg_sft a_news (8 * w) (k + 1)) ?_ (nm_r (nI_1 k) (ih (k + 1) (by omega) (by omega) (by omega)))⟩) e9)
      · obtain rfl : k = 8 * w + ((N w).length - 1) := by omega
        exact hfin
      · rw [sg_rd (f := sg_sft a_news (8 * w) k) (k + 1) (nI_1 k) (by omega) rfl, sg_sft_g (by omega), nI_clamp (show k < 2 ^ 31 by omega), sg_sft_s hk1]
  refine And.intro (pk_in w 4 hw) (And.intro (pk_in w 4 hw) (nm_r (e' := upd a_newsCount w (nI ((N w).length - 1))) ?_ (nm_r e8 (Exists.intro ((N w).length + 1) ?_))))
  · rw [er, show (N w).length = ((N w).length - 1) + 1 by omega, nI_pred, Nat.add_sub_cancel, nI_clamp (show w < 2 ^ 31 by omega)]
  · have := key ((N w).length + 1) (8 * w) (Nat.le_refl _) (by omega) (by omega)
    rw [sg_sft_0] at this
    exact this
theorem sg_yt57 {post : SY → Prop} {J2 : Int32 → Int32 → Int32 → Int32 → Int32 → Int32 → (Nat → Int32) → (Nat → Int32) → (Nat → Int32) → (Nat → Int32) → (Nat → Int32) → (Nat → Int32) → (Nat → Int32) → (Nat → Int32) → (Nat → Int32) → (Nat → Int32) → (Nat → Int32) → (Nat → Int32) → (Nat → Int32) → (Nat → Int32) → (Nat → Int32) → (Nat → Int64) → (Nat → Int32) → (Nat → Int32) → (Nat → Int32) → (Nat → Int64) → (Nat → Int32) → (Nat → Int32) → (Nat → Int64) → Prop} {w d x : Nat} (hw : w < 4) (hd : d < 32) (hx : a_number d = nI x) (hN : sg_XN N a_news a_newsCount) (h8 : (N w).length < 8)
    (H : ∀ nw nc, sg_XN (sg_set N w (N w ++ [x])) nw nc → J2 (nI (w + 1)) f_documents f_segments f_numbers f_words f_kept a_number a_price a_size a_text a_shelf a_deleted a_levels a_pendingText a_tokens a_length a_kinds a_spans a_weights a_isSpan a_matches a_scores nw nc a_keptNumber a_keptScore a_shares a_isHit a_hitScore) : wY_tell_57 post J2 (nI d) (nI w) f_documents f_segments f_numbers f_words f_kept a_number a_price a_size a_text a_shelf a_deleted a_levels a_pendingText a_tokens a_length a_kinds a_spans a_weights a_isSpan a_matches a_scores a_news a_newsCount a_keptNumber a_keptScore a_shares a_isHit a_hitScore := by
  obtain ⟨a1, a2, a3⟩ := hN w hw
  have er : a_newsCount (nI w).toNatClampNeg = nI (N w).length := sg_rd w rfl (by omega) a1
  have e8 : (8 : Int32) * nI w + a_newsCount (nI w).toNatClampNeg = nI (8 * w + (N w).length) := by
    rw [er, show (8 : Int32) * nI w = nI (8 * w) from pk_mul 8 w, nI_add]
  refine And.intro (pk_in w 4 hw) (And.intro (pk_in w 4 hw) (nm_r (sg_wr w rfl (by omega) (w := nI ((N w).length + 1)) (by rw [er, nI_1])) (And.intro (pk_in d 32 hd) (And.intro (pk_in (8 * w + (N w).length) 32 (by omega) e8) (nm_r (sg_wr (8 * w + (N w).length) e8 (by omega) (sg_rd d rfl (by omega) hx)) (nm_r (nI_1 w) (H _ _ (sg_XN_a hw hN h8))))))))
theorem sg_ytell {post : SY → Prop} {d : Nat} (hd : d < L.length) (hL : L.length ≤ 32) (hD : sg_YD L f_documents a_number a_price a_size a_text a_deleted) (hT : ∀ i, (sg_T L i).length ≤ 12) (h8 : ∀ i v, v ∈ sg_T L i → v < 8) (hp9 : ∀ i, sg_pr L i ≤ 99) (hs : sg_Ysh L.length st a_shelf) (hQ : sg_YQ Q W a_tokens a_length) (hq : sg_Gq Q W) (hN : sg_XN N a_news a_newsCount)
    (H : ∀ kd sp wt is ma sc nw nc, sg_XN (sg_twN L d W N 4) nw nc → post (f_documents, f_segments, f_numbers, f_words, f_kept, a_number, a_price, a_size, a_text, a_shelf, a_deleted, a_levels, a_pendingText, a_tokens, a_length, kd, sp, wt, is, ma, sc, nw, nc, a_keptNumber, a_keptScore, a_shares, a_isHit, a_hitScore)) : wpY_tell post (f_documents, f_segments, f_numbers, f_words, f_kept, a_number, a_price, a_size, a_text, a_shelf, a_deleted, a_levels, a_pendingText, a_tokens, a_length, a_kinds, a_spans, a_weights, a_isSpan, a_matches, a_scores, a_news, a_newsCount, a_keptNumber, a_keptScore, a_shares, a_isHit, a_hitScore) (nI d) := by
  have key : ∀ k w kd sp wt is ma sc nw nc, w + k = 4 → sg_XN (sg_twN L d W N w) nw nc → wY_tell_2 post (nI d) (k + 1) (nI w) f_documents f_segments f_numbers f_words f_kept a_number a_price a_size a_text a_shelf a_deleted a_levels a_pendingText a_tokens a_length kd sp wt is ma sc nw nc a_keptNumber a_keptScore a_shares a_isHit a_hitScore := by
    intro k
    induction k with
    | zero =>
      intro w kd sp wt is ma sc nw nc hw hNw
      obtain rfl : w = 4 := by omega
      exact br_t (by decide) (H _ _ _ _ _ _ nw nc hNw)
    | succ k ih =>
      intro w kd sp wt is ma sc nw nc hw hNw
      have hw4 : w < 4 := by omega
      have e1 : (1 : Int32) + nI w = nI (1 + w) := nI_add 1 w
      obtain ⟨q1, q2⟩ := hQ.2.2 w hw4
      obtain ⟨g1, g2⟩ := hq.2.2 w hw4
      have skip : ∀ kd' sp' wt' is' ma' sc', sg_nws L (W w) d 1 (sg_twN L d W N w w) = sg_twN L d W N w w → wY_tell_2 post (nI d) (k + 1) (nI (w + 1)) f_documents f_segments f_numbers f_words f_kept a_number a_price a_size a_text a_shelf a_deleted a_levels a_pendingText a_tokens a_length kd' sp' wt' is' ma' sc' nw nc a_keptNumber a_keptScore a_shares a_isHit a_hitScore := by
        intro kd' sp' wt' is' ma' sc' he
        refine ih (w + 1) kd' sp' wt' is' ma' sc' nw nc (by omega) ?_
        rw [← sg_twN_s, he, sg_set_i]; exact hNw
      refine pk_le 4 w (fun z => by omega) (fun z => ⟨pk_in (1 + w) 6 (by omega) e1, pk_eq (W w).length 0 (fun z2 => nm_r (nI_1 w) (skip _ _ _ _ _ _ ?_)) (fun z2 => ?_) (sg_rd (1 + w) e1 (by omega) q2)⟩)
      · unfold sg_nws; rw [if_pos (List.eq_nil_of_length_eq_zero z2)]
      · have hne : W w ≠ [] := fun e => z2 (by rw [e]; rfl)
        have hE : sg_Ex (W w) := g2.elim (fun e => absurd e hne) id
        rw [e1]
        refine sg_ywork (l := 1 + w) (by omega) hd hL hD hT h8 hp9 hs hE (by omega) q2 q1 (fun kd1 sp1 wt1 is1 ma1 sc1 hm _ => ?_)
        have hM : sg_nws L (W w) d 1 (sg_twN L d W N w w) = if sg_M (sg_T L d) (sg_pr L d) (W w) = true then sg_push (sg_twN L d W N w w) (sg_nu L d) else sg_twN L d W N w w := by
          unfold sg_nws; rw [if_neg hne]; rfl
        cases hc : sg_M (sg_T L d) (sg_pr L d) (W w)
        · rw [hc] at hm
          exact br_t hm (nm_r (nI_1 w) (skip _ _ _ _ _ _ (by rw [hM, hc]; rfl)))
        · rw [hc, if_pos rfl] at hM
          obtain ⟨a1, a2, a3⟩ := hNw w hw4
          have nxt : ∀ nw' nc', sg_XN (sg_set (sg_twN L d W N w) w (sg_push (sg_twN L d W N w w) (sg_nu L d))) nw' nc' → wY_tell_2 post (nI d) (k + 1) (nI (w + 1)) f_documents f_segments f_numbers f_words f_kept a_number a_price a_size a_text a_shelf a_deleted a_levels a_pendingText a_tokens a_length kd1 sp1 wt1 is1 ma1 sc1 nw' nc' a_keptNumber a_keptScore a_shares a_isHit a_hitScore := by
            intro nw' nc' h
            refine ih (w + 1) _ _ _ _ _ _ nw' nc' (by omega) ?_
            rw [← sg_twN_s, hM]; exact h
          rw [hc] at hm
          refine br_f (fun q => by rw [hm] at q; exact absurd q (by decide)) ⟨pk_in w 4 hw4, pk_eq (sg_twN L d W N w w).length 8 (fun y => ?_) (fun y => ?_) (sg_rd w rfl (by omega) a1)⟩
          · refine sg_ydrop (N := sg_twN L d W N w) hw4 hNw (by omega) (fun nw2 nc2 h2 => ?_)
            refine sg_yt57 (N := sg_set (sg_twN L d W N w) w (sg_twN L d W N w w).tail) hw4 (by omega) (hD.2 d hd).1 h2 (by rw [sg_set_s, List.length_tail]; omega) (fun nw3 nc3 h3 => nxt nw3 nc3 ?_)
            rw [sg_set_s, sg_set_2] at h3
            unfold sg_push; rw [if_pos y]; exact h3
          · refine sg_yt57 (N := sg_twN L d W N w) hw4 (by omega) (hD.2 d hd).1 hNw (by omega) (fun nw3 nc3 h3 => nxt nw3 nc3 ?_)
            unfold sg_push; rw [if_neg y]; exact h3
  refine Exists.intro 5 (key 4 0 a_kinds a_spans a_weights a_isSpan a_matches a_scores a_news a_newsCount rfl ?_)
  have e : sg_twN L d W N 0 = N := by funext v; unfold sg_twN; rw [if_neg (by omega)]
  rw [e]; exact hN
theorem sg_ycopy {post : SY → Prop} {d n : Nat} {b : Bool} (hd : d < 32) (hn : n < 32) (hb : a_deleted d = sg_bi1 b)
    (H : ∀ txt, (∀ i, i < 12 → txt (12 * n + i) = a_text (12 * d + i)) → (∀ x, x < 12 * n ∨ 12 * n + 12 ≤ x → txt x = a_text x) → post (f_documents, f_segments, f_numbers, f_words, f_kept, upd a_number n (a_number d), upd a_price n (a_price d), upd a_size n (a_size d), txt, upd a_shelf n (a_shelf d), upd a_deleted n (a_deleted d), a_levels, a_pendingText, a_tokens, a_length, a_kinds, a_spans, a_weights, a_isSpan, a_matches, a_scores, a_news, a_newsCount, a_keptNumber, a_keptScore, a_shares, a_isHit, a_hitScore)) : wpY_copy post (f_documents, f_segments, f_numbers, f_words, f_kept, a_number, a_price, a_size, a_text, a_shelf, a_deleted, a_levels, a_pendingText, a_tokens, a_length, a_kinds, a_spans, a_weights, a_isSpan, a_matches, a_scores, a_news, a_newsCount, a_keptNumber, a_keptScore, a_shares, a_isHit, a_hitScore) (nI d) (nI n) := by
  have cd : (nI d).toNatClampNeg = d := nI_clamp (by omega)
  have key : ∀ k i txt, i + k = 12 → (∀ i', i' < i → txt (12 * n + i') = a_text (12 * d + i')) → (∀ x, x < 12 * n ∨ 12 * n + i ≤ x → txt x = a_text x) → wY_copy_62 post (nI d) (nI n) f_documents f_segments f_numbers f_words f_kept (k + 1) (nI i) (upd a_number n (a_number d)) (upd a_price n (a_price d)) (upd a_size n (a_size d)) txt (upd a_shelf n (a_shelf d)) (upd a_deleted n (a_deleted d)) a_levels a_pendingText a_tokens a_length a_kinds a_spans a_weights a_isSpan a_matches a_scores a_news a_newsCount a_keptNumber a_keptScore a_shares a_isHit a_hitScore := by
    intro k
    induction k with
    | zero =>
      intro i txt hi h1 h2
      obtain rfl : i = 12 := by omega
      exact br_t (by decide) (H txt h1 h2)
    | succ k ih =>
      intro i txt hi h1 h2
      have e1 : (12 : Int32) * nI d + nI i = nI (12 * d + i) := by rw [show (12 : Int32) * nI d = nI (12 * d) from pk_mul 12 d, nI_add]
      have e2 : (12 : Int32) * nI n + nI i = nI (12 * n + i) := by rw [show (12 : Int32) * nI n = nI (12 * n) from pk_mul 12 n, nI_add]
      have er : txt (12 * d + i) = a_text (12 * d + i) := by
        by_cases e : d = n
        · exact h2 _ (by omega)
        · exact h2 _ (by omega)
      refine pk_le 12 i (fun z => by omega) (fun z => ⟨pk_in (12 * d + i) 384 (by omega) e1, pk_in (12 * n + i) 384 (by omega) e2, nm_r (sg_wr (12 * n + i) e2 (by omega) (sg_rd (12 * d + i) e1 (by omega) er)) (nm_r (nI_1 i) (ih (i + 1) _ (by omega) (fun i' hi' => ?_) (fun x hx => ?_)))⟩)
      · by_cases y : i' = i
        · rw [y, pk_us]
        · rw [pk_un (by omega)]; exact h1 i' (by omega)
      · rw [pk_un (by omega)]; exact h2 x (by omega)
  refine And.intro (pk_in d 32 hd) (And.intro (pk_in n 32 hn) (nm_r (sg_wr n rfl (by omega) (congrArg a_number cd)) (And.intro (pk_in d 32 hd) (And.intro (pk_in n 32 hn) (nm_r (sg_wr n rfl (by omega) (congrArg a_price cd)) (And.intro (pk_in d 32 hd) (And.intro (pk_in n 32 hn) (nm_r (sg_wr n rfl (by omega) (congrArg a_size cd)) (And.intro (pk_in d 32 hd) (And.intro (pk_in n 32 hn) (nm_r (sg_wr n rfl (by omega) (congrArg a_shelf cd)) (And.intro (pk_in d 32 hd) (And.intro (pk_in n 32 hn) (nm_r (sg_wr n rfl (by omega) (w := a_deleted d) ?_) (Exists.intro 13 (key 12 0 a_text rfl (fun i' hi' => by omega) (fun x _ => rfl)))))))))))))))))
  rw [cd, hb, sg_nbool]
end
/-- what a copy does to the rows -/
theorem sg_yr_cp {num pri siz txt del txt' : Nat → Int32} {d n : Nat} {x : sg_D} (h12 : x.2.2.1.length ≤ 12) (h1 : ∀ i, i < 12 → txt' (12 * n + i) = txt (12 * d + i)) (h : sg_yr num pri siz txt del d x) : sg_yr (upd num n (num d)) (upd pri n (pri d)) (upd siz n (siz d)) txt' (upd del n (del d)) n x := by
  obtain ⟨a1, a2, a3, a4, a5⟩ := h
  refine ⟨by rw [pk_us]; exact a1, by rw [pk_us]; exact a2, by rw [pk_us]; exact a3, fun i hi => ?_, by rw [pk_us]; exact a5⟩
  rw [h1 i (by omega)]; exact a4 i hi
theorem sg_yr_ot {num pri siz txt del txt' : Nat → Int32} {d n j : Nat} {x : sg_D} (h12 : x.2.2.1.length ≤ 12) (hj : j ≠ n) (h2 : ∀ x, x < 12 * n ∨ 12 * n + 12 ≤ x → txt' x = txt x) (h : sg_yr num pri siz txt del j x) : sg_yr (upd num n (num d)) (upd pri n (pri d)) (upd siz n (siz d)) txt' (upd del n (del d)) j x := by
  obtain ⟨a1, a2, a3, a4, a5⟩ := h
  refine ⟨by rw [pk_un hj]; exact a1, by rw [pk_un hj]; exact a2, by rw [pk_un hj]; exact a3, fun i hi => ?_, by rw [pk_un hj]; exact a5⟩
  rw [h2 _ (by omega)]; exact a4 i hi
/-- the row of documents while it is joined -/
def sg_pj (L : List sg_D) (fr d : Nat) : List sg_D := sg_mL (L.take d) fr
theorem sg_pj_s {L : List sg_D} {fr d : Nat} (hd : d < L.length) : sg_pj L fr (d + 1) = if d < fr ∨ sg_dl L d = false then sg_pj L fr d ++ [sg_g L d] else sg_pj L fr d := by
  have hl : (L.take d).length = d := by rw [List.length_take]; omega
  have e3 : sg_lvd (sg_g L d) = !sg_dl L d := rfl
  unfold sg_pj sg_mL
  rw [List.take_succ_eq_append_getElem hd, ← sg_g_lt hd]
  by_cases h : d < fr
  · have t1 : (L.take d ++ [sg_g L d]).take fr = L.take d ++ [sg_g L d] := List.take_of_length_le (by rw [List.length_append, hl]; simp; omega)
    have t2 : (L.take d ++ [sg_g L d]).drop fr = [] := List.drop_eq_nil_of_le (by rw [List.length_append, hl]; simp; omega)
    have t3 : (L.take d).take fr = L.take d := List.take_of_length_le (by omega)
    have t4 : (L.take d).drop fr = [] := List.drop_eq_nil_of_le (by omega)
    rw [if_pos (Or.inl h), t1, t2, t3, t4, List.filter_nil, List.append_nil, List.append_nil]
  · rw [List.take_append_of_le_length (by omega), List.drop_append_of_le_length (by omega), List.filter_append]
    cases hc : sg_dl L d
    · rw [if_pos (Or.inr rfl), List.filter_cons_of_pos (by rw [e3, hc]; rfl)]; simp
    · rw [if_neg (by simp [h]), List.filter_cons_of_neg (by rw [e3, hc]; decide)]; simp
theorem sg_pj_len (L : List sg_D) (fr d : Nat) : (sg_pj L fr d).length ≤ d := by
  have := (sg_mL_sub (L.take d) fr).length_le
  rw [List.length_take] at this
  unfold sg_pj; omega
theorem sg_pj_ge {L : List sg_D} {fr d : Nat} (hd : d ≤ L.length) : min d fr ≤ (sg_pj L fr d).length := by
  unfold sg_pj sg_mL
  rw [List.length_append, List.length_take, List.length_take]; omega
theorem sg_pj_lo {L : List sg_D} {fr d : Nat} (hd : d ≤ fr) : sg_pj L fr d = L.take d := by
  unfold sg_pj sg_mL
  rw [List.take_of_length_le (by rw [List.length_take]; omega), List.drop_eq_nil_of_le (by rw [List.length_take]; omega)]; simp
theorem sg_pj_full (L : List sg_D) (fr : Nat) : sg_pj L fr L.length = sg_mL L fr := by unfold sg_pj; rw [List.take_length]
end
section
/-! Y: join, flush -/
section
variable {f_documents f_segments f_numbers f_words f_kept : Int32} {a_number a_price a_size a_text a_shelf a_deleted a_levels a_pendingText a_tokens a_length a_kinds a_spans a_weights a_isSpan a_matches a_news a_newsCount a_keptNumber a_shares a_isHit : Nat → Int32} {a_scores a_keptScore a_hitScore : Nat → Int64}
variable {L : List sg_D} {S : List (Nat × Nat)} {ad : Nat} {PT Q : List Nat} {W N : Nat → List Nat}
theorem sg_yjoin {post : SY → Prop} {first to : Nat} (hG : sg_Gd L S ad) (hS : sg_Gs L.length S) (hst : sg_st S = L.length) (hf : first < S.length) (ht : to ≤ 3) (hC : sg_YC L S f_documents f_segments a_number a_price a_size a_text a_shelf a_deleted a_levels)
    (H : ∀ nd ns num pri siz txt she del lev, sg_YC (sg_mL L (sg_lo S first)) (sg_mS S first to (sg_mL L (sg_lo S first)).length) nd ns num pri siz txt she del lev → post (nd, ns, f_numbers, f_words, f_kept, num, pri, siz, txt, she, del, lev, a_pendingText, a_tokens, a_length, a_kinds, a_spans, a_weights, a_isSpan, a_matches, a_scores, a_news, a_newsCount, a_keptNumber, a_keptScore, a_shares, a_isHit, a_hitScore)) : wpY_join post (f_documents, f_segments, f_numbers, f_words, f_kept, a_number, a_price, a_size, a_text, a_shelf, a_deleted, a_levels, a_pendingText, a_tokens, a_length, a_kinds, a_spans, a_weights, a_isSpan, a_matches, a_scores, a_news, a_newsCount, a_keptNumber, a_keptScore, a_shares, a_isHit, a_hitScore) (nI first) (nI to) := by
  obtain ⟨hD, hY⟩ := hC
  have hL := hG.1
  have hS32 := hY.2.1
  have hlo : sg_lo S first ≤ L.length := by
    have := sg_lo_mono hS (j := first) (k := S.length) (by omega) (Nat.le_refl _)
    rw [← hst]; exact this
  have hlw : (S.take first).length = first := by rw [List.length_take]; omega
  have hge := sg_mL_ge hlo
  have hT12 : ∀ i, (sg_T L i).length ≤ 12 := sg_Gd_T hG
  have hPj : ∀ d i, (sg_g (sg_pj L (sg_lo S first) d) i).2.2.1.length ≤ 12 := fun d => sg_g_mem (P := fun x => x.2.2.1.length ≤ 12) (Nat.zero_le _) (fun x hx => (hG.2.2.2.1 x (List.mem_of_mem_take ((sg_mL_sub (L.take d) _).subset hx))).2.2.1)
  have hsh : ∀ d, d < L.length → (a_shelf d < nI first ↔ d < sg_lo S first) := by
    intro d hd
    obtain ⟨k, k1, k2, k3⟩ := sg_seg hS (d := d) (by omega)
    rw [(hY.2.2.2 d hd).1 k k1 k2 k3, nI_ltI (by omega) (by omega)]
    constructor
    · intro h
      have := sg_lo_mono hS (j := k + 1) (k := first) (by omega) (by omega)
      rw [sg_lo_s] at this; omega
    · intro h
      rcases Nat.lt_or_ge k first with z | z
      · exact z
      · have := sg_lo_mono hS (j := first) (k := k) z (by omega)
        omega
  -- the end
  have fin : ∀ num pri siz txt she del, (∀ j, j < (sg_mL L (sg_lo S first)).length → sg_yr num pri siz txt del j (sg_g (sg_mL L (sg_lo S first)) j)) → (∀ j, j < (sg_mL L (sg_lo S first)).length → she j = if j < sg_lo S first then a_shelf j else nI first) → ∀ n, wY_join_8 post (nI first) (nI to) (n + 1) (nI (sg_mL L (sg_lo S first)).length) (nI ((sg_mL L (sg_lo S first)).length - sg_lo S first)) (nI L.length) f_documents f_segments f_numbers f_words f_kept num pri siz txt she del a_levels a_pendingText a_tokens a_length a_kinds a_spans a_weights a_isSpan a_matches a_scores a_news a_newsCount a_keptNumber a_keptScore a_shares a_isHit a_hitScore := by
    intro num pri siz txt she del h1 h2 n
    have hlen := (sg_mL_sub L (sg_lo S first)).length_le
    refine pk_le L.length L.length (fun _ => pk_le ((sg_mL L (sg_lo S first)).length - sg_lo S first) 0 (fun z => ⟨pk_in first 34 (by omega), nm_r (sg_wr first rfl (by omega) rfl) (H _ _ _ _ _ _ _ _ _ ⟨⟨rfl, h1⟩, ?_⟩)⟩) (fun z => nm_r (nI_1 first) ⟨pk_in first 34 (by omega), nm_r (sg_wr first rfl (by omega) rfl) (H _ _ _ _ _ _ _ _ _ ⟨⟨rfl, h1⟩, ?_⟩)⟩)) (fun z => by omega) hD.1
    · unfold sg_mS
      rw [if_pos (by omega)]
      refine ⟨by rw [hlw], by omega, fun k hk => ?_, fun d hd => ⟨fun k hk q1 q2 => ?_, fun q => ?_⟩⟩
      · rw [hlw] at hk
        rw [pk_un (by omega)]
        unfold sg_lv
        rw [sg_sg_take hk]
        exact hY.2.2.1 k (by omega)
      · rw [hlw] at hk
        rw [sg_lo_take (by omega)] at q1
        rw [sg_e_take hk] at q2
        rw [h2 d hd, if_pos (by omega)]
        exact (hY.2.2.2 d (by omega)).1 k (by omega) q1 q2
      · rw [sg_st_take (by omega)] at q
        omega
    · unfold sg_mS
      rw [if_neg (by omega)]
      refine ⟨by rw [List.length_append, hlw]; rfl, by rw [List.length_append, hlw]; simp; omega, fun k hk => ?_, fun d hd => ⟨fun k hk q1 q2 => ?_, fun q => ?_⟩⟩
      · rw [List.length_append, hlw, List.length_singleton] at hk
        unfold sg_lv
        by_cases e : k = first
        · subst e
          have := sg_app_eq (S := S.take k) (x := ((sg_mL L (sg_lo S k)).length, to))
          rw [hlw] at this
          rw [this, pk_us]
        · rw [sg_app_lt (by omega), sg_sg_take (by omega), pk_un e]
          exact hY.2.2.1 k (by omega)
      · rw [List.length_append, hlw, List.length_singleton] at hk
        rw [sg_lo_app (by omega), sg_lo_take (by omega)] at q1
        rw [h2 d hd]
        by_cases e : k = first
        · subst e
          rw [if_neg (by omega)]
        · have q3 : d < sg_e S k := by
            unfold sg_e at q2
            rw [sg_app_lt (by omega), sg_sg_take (by omega)] at q2
            exact q2
          have := sg_lo_mono hS (j := k + 1) (k := first) (by omega) (by omega)
          rw [sg_lo_s] at this
          rw [if_pos (by omega)]
          exact (hY.2.2.2 d (by omega)).1 k (by omega) q1 q3
      · rw [sg_st_app] at q
        have : (sg_mL L (sg_lo S first)).length ≤ d := q
        omega
  generalize hfr : sg_lo S first = fr at *
  have loop : ∀ k d num pri siz txt she del, d + k = L.length → (∀ j, j < (sg_pj L fr d).length → sg_yr num pri siz txt del j (sg_g (sg_pj L fr d) j)) → (∀ j, d ≤ j → j < L.length → sg_yr num pri siz txt del j (sg_g L j) ∧ she j = a_shelf j) → (∀ j, j < (sg_pj L fr d).length → she j = if j < fr then a_shelf j else nI first) → wY_join_8 post (nI first) (nI to) (k + 1) (nI (sg_pj L fr d).length) (nI ((sg_pj L fr d).length - fr)) (nI d) f_documents f_segments f_numbers f_words f_kept num pri siz txt she del a_levels a_pendingText a_tokens a_length a_kinds a_spans a_weights a_isSpan a_matches a_scores a_news a_newsCount a_keptNumber a_keptScore a_shares a_isHit a_hitScore := by
    intro k
    induction k with
    | zero =>
      intro d num pri siz txt she del hd i1 i2 i3
      obtain rfl : d = L.length := by omega
      rw [sg_pj_full] at i1 i3 ⊢
      exact fin num pri siz txt she del i1 i3 0
    | succ k ih =>
      intro d num pri siz txt she del hd i1 i2 i3
      have hdl : d < L.length := by omega
      obtain ⟨r1, r2⟩ := i2 d (Nat.le_refl _) hdl
      have hpl := sg_pj_len L fr d
      have hpg := sg_pj_ge (L := L) (fr := fr) (d := d) (by omega)
      have hps := sg_pj_s (fr := fr) hdl
      have hTd := hT12 d
      -- a copy, then on
      have cp : (d < fr ∨ sg_dl L d = false) → ∀ z0 : Int32, (z0 = 0 ↔ d < fr) → wY_join_53 post (wY_join_8 post (nI first) (nI to) (k + 1)) (nI first) (nI to) (nI (sg_pj L fr d).length) (nI ((sg_pj L fr d).length - fr)) (nI d) z0 f_documents f_segments f_numbers f_words f_kept num pri siz txt she del a_levels a_pendingText a_tokens a_length a_kinds a_spans a_weights a_isSpan a_matches a_scores a_news a_newsCount a_keptNumber a_keptScore a_shares a_isHit a_hitScore := by
        intro hc z0 hz0
        rw [if_pos hc] at hps
        have hpl1 : (sg_pj L fr (d + 1)).length = (sg_pj L fr d).length + 1 := by rw [hps, List.length_append]; rfl
        unfold wY_join_53
        refine sg_ycopy (d := d) (n := (sg_pj L fr d).length) (b := sg_dl L d) (by omega) (by omega) r1.2.2.2.2 (fun txt' t1 t2 => ?_)
        have j1 : ∀ j, j < (sg_pj L fr (d + 1)).length → sg_yr (upd num (sg_pj L fr d).length (num d)) (upd pri (sg_pj L fr d).length (pri d)) (upd siz (sg_pj L fr d).length (siz d)) txt' (upd del (sg_pj L fr d).length (del d)) j (sg_g (sg_pj L fr (d + 1)) j) := by
          intro j hj
          rw [hps, sg_g_ap]
          by_cases e : j = (sg_pj L fr d).length
          · rw [if_pos e, e]
            exact sg_yr_cp hTd t1 r1
          · rw [if_neg e]
            exact sg_yr_ot (hPj d j) e t2 (i1 j (by omega))
        have j2 : ∀ j, d + 1 ≤ j → j < L.length → sg_yr (upd num (sg_pj L fr d).length (num d)) (upd pri (sg_pj L fr d).length (pri d)) (upd siz (sg_pj L fr d).length (siz d)) txt' (upd del (sg_pj L fr d).length (del d)) j (sg_g L j) := fun j h1 h2 => sg_yr_ot (hT12 j) (by omega) t2 (i2 j (by omega) h2).1
        refine br_c (fun h0 => nm_r (nI_1 _) (nm_r (nI_1 d) ?_)) (fun h0 => ⟨pk_in (sg_pj L fr d).length 32 (by omega), nm_r (sg_wr (sg_pj L fr d).length rfl (by omega) rfl) (nm_r (nI_1 _) (nm_r (nI_1 _) (nm_r (nI_1 d) ?_)))⟩)
        · have hdf := hz0.mp h0
          have hpd : (sg_pj L fr d).length = d := by rw [sg_pj_lo (by omega), List.length_take]; omega
          have := ih (d + 1) _ _ _ _ (upd she (sg_pj L fr d).length (she d)) _ (by omega) j1 (fun j h1 h2 => ⟨j2 j h1 h2, by rw [pk_un (by omega)]; exact (i2 j (by omega) h2).2⟩) (fun j hj => ?_)
          · rw [hpl1, show (sg_pj L fr d).length + 1 - fr = (sg_pj L fr d).length - fr by omega] at this
            exact this
          · by_cases e : j = (sg_pj L fr d).length
            · rw [e, pk_us, if_pos (by omega), r2, hpd]
            · rw [pk_un e]; exact i3 j (by omega)
        · have hdf : ¬ d < fr := fun q => h0 (hz0.mpr q)
          have := ih (d + 1) _ _ _ _ (upd (upd she (sg_pj L fr d).length (she d)) (sg_pj L fr d).length (nI first)) _ (by omega) j1 (fun j h1 h2 => ⟨j2 j h1 h2, by rw [pk_un (by omega), pk_un (by omega)]; exact (i2 j (by omega) h2).2⟩) (fun j hj => ?_)
          · rw [hpl1, show (sg_pj L fr d).length + 1 - fr = (sg_pj L fr d).length - fr + 1 by omega] at this
            exact this
          · by_cases e : j = (sg_pj L fr d).length
            · rw [e, pk_us, if_neg (by omega)]
            · rw [pk_un e, pk_un e]; exact i3 j (by omega)
      refine pk_le L.length d (fun z => by omega) (fun z => ⟨pk_in d 32 (by omega), ?_⟩) hD.1
      rw [nI_clamp (show d < 2 ^ 31 by omega), r2]
      refine ek_if (hsh d hdl) (fun q => br_t rfl (cp (Or.inl q) 0 ⟨fun _ => q, fun _ => rfl⟩)) (fun q => br_f (by decide) ⟨pk_in d 32 (by omega), ?_⟩)
      rw [nI_clamp (show d < 2 ^ 31 by omega), r1.2.2.2.2]
      show ((sg_bi1 (sg_dl L d) = 0 → _) ∧ (¬ sg_bi1 (sg_dl L d) = 0 → _))
      cases hc : sg_dl L d
      · exact br_t rfl (cp (Or.inr hc) 1 ⟨fun w => absurd w (by decide), fun w => absurd w q⟩)
      · refine br_f (by decide) (nm_r (nI_1 d) ?_)
        rw [if_neg (by simp [q, hc])] at hps
        have := ih (d + 1) num pri siz txt she del (by omega) (by rw [hps]; exact i1) (fun j h1 h2 => i2 j (by omega) h2) (by rw [hps]; exact i3)
        rw [hps] at this; exact this
  have e0 : (sg_pj L fr 0).length = 0 := by have := sg_pj_len L fr 0; omega
  refine Exists.intro (L.length + 1) ?_
  have := loop L.length 0 a_number a_price a_size a_text a_shelf a_deleted (by omega) (fun j hj => by omega) (fun j _ h2 => ⟨hD.2 j h2, rfl⟩) (fun j hj => by omega)
  rw [e0, Nat.zero_sub] at this
  exact this
theorem sg_yf71 {post : Int32 → SY → Prop} {ad : Nat} : ∀ f L S nd ns num pri siz txt she del lev, sg_Gd L S ad → sg_Gs L.length S → sg_st S = L.length → S.length ≤ f → sg_YC L S nd ns num pri siz txt she del lev →
    (∀ nd ns num pri siz txt she del lev, sg_YC (sg_mm f L S).1 (sg_mm f L S).2 nd ns num pri siz txt she del lev → post ns (nd, ns, f_numbers, f_words, f_kept, num, pri, siz, txt, she, del, lev, a_pendingText, a_tokens, a_length, a_kinds, a_spans, a_weights, a_isSpan, a_matches, a_scores, a_news, a_newsCount, a_keptNumber, a_keptScore, a_shares, a_isHit, a_hitScore)) → wY_flush_71 post (f + 1) nd ns f_numbers f_words f_kept num pri siz txt she del lev a_pendingText a_tokens a_length a_kinds a_spans a_weights a_isSpan a_matches a_scores a_news a_newsCount a_keptNumber a_keptScore a_shares a_isHit a_hitScore := by
  intro f
  induction f with
  | zero =>
    intro L S nd ns num pri siz txt she del lev hG hS hst hl hC H
    have hX := hC.2
    exact pk_le S.length 2 (fun _ => H _ _ _ _ _ _ _ _ _ hC) (fun z => by omega) hX.1
  | succ f ih =>
    intro L S nd ns num pri siz txt she del lev hG hS hst hl hC H
    have hX := hC.2
    have hX2 := hX.2.1
    have hv := hS.2.2
    have no : sg_cd S = false → post ns (nd, ns, f_numbers, f_words, f_kept, num, pri, siz, txt, she, del, lev, a_pendingText, a_tokens, a_length, a_kinds, a_spans, a_weights, a_isSpan, a_matches, a_scores, a_news, a_newsCount, a_keptNumber, a_keptScore, a_shares, a_isHit, a_hitScore) := fun h => by
      have e : sg_mm (f + 1) L S = (L, S) := by show (if sg_cd S = true then _ else _) = _; rw [h]; rfl
      rw [e] at H
      exact H _ _ _ _ _ _ _ _ _ hC
    have m1 : 2 < S.length → ns - 1 = nI (S.length - 1) := fun z => by rw [hX.1, show (1 : Int32) = nI 1 from rfl, pk_sub (by omega)]
    have m2 : 2 < S.length → ns - 2 = nI (S.length - 2) := fun z => by rw [hX.1, show (2 : Int32) = nI 2 from rfl, pk_sub (by omega)]
    have m3 : 2 < S.length → ns - 3 = nI (S.length - 3) := fun z => by rw [hX.1, show (3 : Int32) = nI 3 from rfl, pk_sub (by omega)]
    have l1 : 2 < S.length → lev (ns - 1).toNatClampNeg = nI (sg_lv S (S.length - 1)) := fun z => sg_rd _ (m1 z) (by omega) (hX.2.2.1 _ (by omega))
    have l2 : 2 < S.length → lev (ns - 2).toNatClampNeg = nI (sg_lv S (S.length - 2)) := fun z => sg_rd _ (m2 z) (by omega) (hX.2.2.1 _ (by omega))
    have l3 : 2 < S.length → lev (ns - 3).toNatClampNeg = nI (sg_lv S (S.length - 3)) := fun z => sg_rd _ (m3 z) (by omega) (hX.2.2.1 _ (by omega))
    have v1 := hv (S.length - 1)
    have v2 := hv (S.length - 2)
    have v3 := hv (S.length - 3)
    refine pk_le S.length 2 (fun z => no (decide_eq_false (by omega))) (fun z => ⟨pk_in _ 34 (by omega) (m1 z), pk_le 3 (sg_lv S (S.length - 1)) (fun z1 => no (decide_eq_false (by omega))) (fun z1 => ⟨pk_in _ 34 (by omega) (m2 z), pk_in _ 34 (by omega) (m1 z), ?_⟩) rfl (l1 z)⟩) hX.1
    refine pk_eq (sg_lv S (S.length - 2)) (sg_lv S (S.length - 1)) (fun z2 => ⟨pk_in _ 34 (by omega) (m3 z), pk_in _ 34 (by omega) (m1 z), ?_⟩) (fun z2 => no (decide_eq_false (by omega))) (l2 z) (l1 z)
    refine pk_eq (sg_lv S (S.length - 3)) (sg_lv S (S.length - 1)) (fun z3 => ⟨pk_in _ 34 (by omega) (m1 z), ?_⟩) (fun z3 => no (decide_eq_false (by omega))) (l3 z) (l1 z)
    have hcd : sg_cd S = true := decide_eq_true (by omega)
    have e : sg_mm (f + 1) L S = sg_mm f (sg_mL L (sg_lo S (S.length - 3))) (sg_mS S (S.length - 3) (sg_lv S (S.length - 1) + 1) (sg_mL L (sg_lo S (S.length - 3))).length) := by
      show (if sg_cd S = true then _ else _) = _; rw [if_pos hcd]
    rw [e] at H
    obtain ⟨k1, k2, k3⟩ := sg_melt_ok (first := S.length - 3) (to := sg_lv S (S.length - 1) + 1) hG hS hst (by omega) (by omega)
    have k4 := sg_mS_len (S := S) (first := S.length - 3) (to := sg_lv S (S.length - 1) + 1) (n := (sg_mL L (sg_lo S (S.length - 3))).length) (by omega)
    refine nm_r (e' := nI (sg_lv S (S.length - 1) + 1)) (by rw [l1 z, nI_1]) ?_
    rw [m3 z]
    exact sg_yjoin hG hS hst (by omega) (by omega) hC (fun nd ns num pri siz txt she del lev hC' => ih _ _ nd ns num pri siz txt she del lev k1 k2 k3 (by omega) hC' H)
noncomputable def sg_fwN (L : List sg_D) (fr : Nat) (W N : Nat → List Nat) (n : Nat) : Nat → List Nat := fun v => if v < 4 then sg_nws L (W v) fr n (N v) else N v
theorem sg_fwN_s {L : List sg_D} {fr n : Nat} {W N : Nat → List Nat} : sg_twN L (fr + n) W (sg_fwN L fr W N n) 4 = sg_fwN L fr W N (n + 1) := by
  funext v
  unfold sg_twN sg_fwN
  by_cases e : v < 4
  · rw [if_pos e, if_pos e, if_pos e]
    unfold sg_nws
    by_cases z : W v = []
    · rw [if_pos z, if_pos z, if_pos z]
    · rw [if_neg z, if_neg z, if_neg z, sg_rep_app]
  · rw [if_neg e, if_neg e, if_neg e]
theorem sg_yflush {post : Int32 → SY → Prop} (hG : sg_Gd L S ad) (hS : sg_Gs L.length S) (hQ : sg_YQ Q W a_tokens a_length) (hq : sg_Gq Q W) (hN : sg_XN N a_news a_newsCount) (hC : sg_YC L S f_documents f_segments a_number a_price a_size a_text a_shelf a_deleted a_levels)
    (H : ∀ nd ns num pri siz txt she del lev kd sp wt is ma sc nw nc, sg_YC (sg_fl L S).1 (sg_fl L S).2 nd ns num pri siz txt she del lev → sg_XN (sg_flN L S W N) nw nc → post ns (nd, ns, f_numbers, f_words, f_kept, num, pri, siz, txt, she, del, lev, a_pendingText, a_tokens, a_length, kd, sp, wt, is, ma, sc, nw, nc, a_keptNumber, a_keptScore, a_shares, a_isHit, a_hitScore)) : wpY_flush post (f_documents, f_segments, f_numbers, f_words, f_kept, a_number, a_price, a_size, a_text, a_shelf, a_deleted, a_levels, a_pendingText, a_tokens, a_length, a_kinds, a_spans, a_weights, a_isSpan, a_matches, a_scores, a_news, a_newsCount, a_keptNumber, a_keptScore, a_shares, a_isHit, a_hitScore) := by
  obtain ⟨hD, hY⟩ := hC
  have hL := hG.1
  have hst := hS.2.1
  have hlen := sg_S_len hS
  have hsh := sg_YS_sh hS hY
  unfold wpY_flush
  refine sg_ymany hD.1 hL ?_
  rw [sg_Ysh_c hsh]
  refine pk_eq (L.length - sg_st S) 0 (fun z => ?_) (fun z => ?_)
  · refine H _ _ _ _ _ _ _ _ _ _ _ _ _ _ _ a_news a_newsCount ?_ ?_
    · unfold sg_fl; rw [if_pos (by omega)]; exact ⟨hD, hY⟩
    · unfold sg_flN; rw [if_pos (by omega)]; exact hN
  · have hlt : sg_st S < L.length := by omega
    have loop : ∀ k d kd sp wt is ma sc she nw nc, d + k = L.length → (∀ j, j < L.length → she j = if sg_st S ≤ j ∧ j < d then nI S.length else a_shelf j) → sg_XN (sg_fwN L (sg_st S) W N (d - sg_st S)) nw nc → wY_flush_15 post (k + 1) (nI d) f_documents f_segments f_numbers f_words f_kept a_number a_price a_size a_text she a_deleted a_levels a_pendingText a_tokens a_length kd sp wt is ma sc nw nc a_keptNumber a_keptScore a_shares a_isHit a_hitScore := by
      intro k
      induction k with
      | zero =>
        intro d kd sp wt is ma sc she nw nc hd h1 hNd
        obtain rfl : d = L.length := by omega
        have hG1 : sg_Gd L (S ++ [(L.length, 0)]) ad := ⟨hG.1, hG.2.1, hG.2.2.1, hG.2.2.2.1, fun i hi => hG.2.2.2.2 i (by rw [sg_st_app] at hi; exact Nat.le_trans hst hi)⟩
        have hS1 : sg_Gs L.length (S ++ [(L.length, 0)]) := sg_Gs_app hS hlt (Nat.le_refl _) (Nat.zero_le 3)
        have hY1 : sg_YS (S ++ [(L.length, 0)]) L.length (nI (S.length + 1)) (upd a_levels S.length 0) she := by
          refine ⟨by rw [List.length_append]; rfl, by rw [List.length_append]; simp; omega, fun k hk => ?_, fun d hd => ⟨fun k hk q1 q2 => ?_, fun q => ?_⟩⟩
          · rw [List.length_append, List.length_singleton] at hk
            unfold sg_lv
            by_cases e : k = S.length
            · rw [e, sg_app_eq, pk_us]; rfl
            · rw [sg_app_lt (by omega), pk_un e]; exact hY.2.2.1 k (by omega)
          · rw [List.length_append, List.length_singleton] at hk
            rw [sg_lo_app (by omega)] at q1
            rw [h1 d hd]
            by_cases e : k = S.length
            · subst e
              have : sg_st S ≤ d := q1
              rw [if_pos (by omega)]
            · unfold sg_e at q2
              rw [sg_app_lt (by omega)] at q2
              have q3 := sg_e_le hS (k := k) (by omega)
              have q4 : d < sg_e S k := q2
              rw [if_neg (by omega)]
              exact (hY.2.2.2 d hd).1 k (by omega) q1 q2
          · rw [sg_st_app] at q
            have : L.length ≤ d := q
            omega
        refine pk_le L.length L.length (fun _ => nm_r (e' := nI (S.length + 1)) (by rw [hY.1, nI_1]) ⟨pk_in S.length 34 (by omega) hY.1, nm_r (sg_wr S.length hY.1 (by omega) rfl) (Exists.intro 41 ?_)⟩) (fun z => by omega) hD.1
        refine sg_yf71 40 L (S ++ [(L.length, 0)]) f_documents _ a_number a_price a_size a_text she a_deleted _ hG1 hS1 (by rw [sg_st_app]) (by rw [List.length_append]; simp; omega) ⟨hD, hY1⟩ (fun nd ns num pri siz txt she del lev hC' => H _ _ _ _ _ _ _ _ _ _ _ _ _ _ _ _ _ ?_ ?_)
        · unfold sg_fl; rw [if_neg (by omega)]; exact hC'
        · unfold sg_flN; rw [if_neg (by omega)]
          have e : sg_nwN L (sg_st S) W N 4 = sg_fwN L (sg_st S) W N (L.length - sg_st S) := rfl
          rw [e]; exact hNd
      | succ k ih =>
        intro d kd sp wt is ma sc she nw nc hd h1 hNd
        have hdl : d < L.length := by omega
        have hsd : she d = a_shelf d := by rw [h1 d hdl, if_neg (by omega)]
        refine pk_le L.length d (fun z => by omega) (fun z => ⟨pk_in d 32 (by omega), ?_⟩) hD.1
        rw [nI_clamp (show d < 2 ^ 31 by omega), hsd]
        by_cases hds : d < sg_st S
        · have hne : ¬ a_shelf d = -1 := fun q => (hsh.2 d hdl).1 hds (by rw [q]; decide)
          refine br_f hne (nm_r (nI_1 d) (ih (d + 1) kd sp wt is ma sc she nw nc (by omega) (fun j hj => ?_) ?_))
          · rw [h1 j hj, if_neg (by omega), if_neg (by omega)]
          · rw [show d + 1 - sg_st S = d - sg_st S by omega]; exact hNd
        · refine br_t ((hsh.2 d hdl).2 (by omega)) ?_
          have hs2 : sg_Ysh L.length d she := by
            refine ⟨by omega, fun j hj => ⟨fun q => ?_, fun q => ?_⟩⟩
            · rw [h1 j hj]
              by_cases y : sg_st S ≤ j
              · rw [if_pos ⟨y, q⟩]; exact nI_pos (by omega)
              · rw [if_neg (by omega)]; exact (hsh.2 j hj).1 (by omega)
            · rw [h1 j hj, if_neg (by omega)]; exact (hsh.2 j hj).2 (by omega)
          refine sg_ytell (L := L) (Q := Q) (W := W) (N := sg_fwN L (sg_st S) W N (d - sg_st S)) hdl hL hD (sg_Gd_T hG) (sg_Gd_w hG) (sg_Gd_p hG) hs2 hQ hq hNd (fun kd1 sp1 wt1 is1 ma1 sc1 nw1 nc1 hN1 => ⟨pk_in d 32 (by omega), nm_e (nm_r (nI_1 d) (ih (d + 1) kd1 sp1 wt1 is1 ma1 sc1 _ nw1 nc1 (by omega) (fun j hj => ?_) ?_))⟩)
          · by_cases y : j = d
            · rw [y, pk_us, if_pos (by omega), hY.1]
            · rw [pk_un y, h1 j hj]
              by_cases y2 : sg_st S ≤ j ∧ j < d
              · rw [if_pos y2, if_pos (by omega)]
              · rw [if_neg y2, if_neg (by omega)]
          · have e := sg_fwN_s (L := L) (fr := sg_st S) (n := d - sg_st S) (W := W) (N := N)
            rw [show sg_st S + (d - sg_st S) = d by omega, show d - sg_st S + 1 = d + 1 - sg_st S by omega] at e
            rw [← e]; exact hN1
    refine Exists.intro (L.length + 1) (loop L.length 0 a_kinds a_spans a_weights a_isSpan a_matches a_scores a_shelf a_news a_newsCount (by omega) (fun j hj => by rw [if_neg (by omega)]) ?_)
    have e : sg_fwN L (sg_st S) W N (0 - sg_st S) = N := by
      funext v; unfold sg_fwN
      rw [Nat.zero_sub]
      by_cases y : v < 4
      · rw [if_pos y]; unfold sg_nws
        by_cases y2 : W v = []
        · rw [if_pos y2]
        · rw [if_neg y2]; rfl
      · rw [if_neg y]
    rw [e]; exact hN
end
end
section
/-! Y: the whole relation; word, find, add, delete, settle -/
def sg_YK (K : List (Nat × Nat)) (fk : Int32) (kn : Nat → Int32) (ks : Nat → Int64) : Prop := fk = nI K.length ∧ ∀ r, r < K.length → kn r = nI (K.getD r (0, 0)).1 ∧ ks r = lN (K.getD r (0, 0)).2
def sg_YR (L : List sg_D) (S : List (Nat × Nat)) (ad : Nat) (PT Q : List Nat) (W N : Nat → List Nat) (K : List (Nat × Nat)) (Sh : Nat → Nat) : SY → Prop
  | (f_documents, f_segments, f_numbers, f_words, f_kept, a_number, a_price, a_size, a_text, a_shelf, a_deleted, a_levels, a_pendingText, a_tokens, a_length, a_kinds, a_spans, a_weights, a_isSpan, a_matches, a_scores, a_news, a_newsCount, a_keptNumber, a_keptScore, a_shares, a_isHit, a_hitScore) => sg_YC L S f_documents f_segments a_number a_price a_size a_text a_shelf a_deleted a_levels ∧ f_numbers = nI ad ∧ sg_XP PT f_words a_pendingText ∧ sg_YQ Q W a_tokens a_length ∧ sg_XN N a_news a_newsCount ∧ sg_YK K f_kept a_keptNumber a_keptScore ∧ sg_XH Sh a_shares
section
variable {f_documents f_segments f_numbers f_words f_kept : Int32} {a_number a_price a_size a_text a_shelf a_deleted a_levels a_pendingText a_tokens a_length a_kinds a_spans a_weights a_isSpan a_matches a_news a_newsCount a_keptNumber a_shares a_isHit : Nat → Int32} {a_scores a_keptScore a_hitScore : Nat → Int64}
variable {L : List sg_D} {S : List (Nat × Nat)} {ad : Nat} {PT Q : List Nat} {W N : Nat → List Nat} {K : List (Nat × Nat)} {Sh : Nat → Nat}
theorem sg_YR_mk (hC : sg_YC L S f_documents f_segments a_number a_price a_size a_text a_shelf a_deleted a_levels) (hA : f_numbers = nI ad) (hP : sg_XP PT f_words a_pendingText) (hQ : sg_YQ Q W a_tokens a_length) (hN : sg_XN N a_news a_newsCount) (hK : sg_YK K f_kept a_keptNumber a_keptScore) (hH : sg_XH Sh a_shares) : sg_YR L S ad PT Q W N K Sh (f_documents, f_segments, f_numbers, f_words, f_kept, a_number, a_price, a_size, a_text, a_shelf, a_deleted, a_levels, a_pendingText, a_tokens, a_length, a_kinds, a_spans, a_weights, a_isSpan, a_matches, a_scores, a_news, a_newsCount, a_keptNumber, a_keptScore, a_shares, a_isHit, a_hitScore) := ⟨hC, hA, hP, hQ, hN, hK, hH⟩
theorem sg_yfind {post : Int32 → Prop} (hL : L.length ≤ 32) (hD : sg_YD L f_documents a_number a_price a_size a_text a_deleted) (v : Int32) (H1 : ∀ i, i < L.length → nI (sg_nu L i) = v → post (nI i)) (H0 : (∀ i, i < L.length → ¬ nI (sg_nu L i) = v) → post (-1)) : wpY_find post (f_documents, f_segments, f_numbers, f_words, f_kept, a_number, a_price, a_size, a_text, a_shelf, a_deleted, a_levels, a_pendingText, a_tokens, a_length, a_kinds, a_spans, a_weights, a_isSpan, a_matches, a_scores, a_news, a_newsCount, a_keptNumber, a_keptScore, a_shares, a_isHit, a_hitScore) v := by
  have key : ∀ k d, d + k = L.length → (∀ i, i < d → ¬ nI (sg_nu L i) = v) → wY_find_2 post v f_documents f_segments f_numbers f_words f_kept a_number a_price a_size a_text a_shelf a_deleted a_levels a_pendingText a_tokens a_length a_kinds a_spans a_weights a_isSpan a_matches a_scores a_news a_newsCount a_keptNumber a_keptScore a_shares a_isHit a_hitScore (k + 1) (nI d) := by
    intro k
    induction k with
    | zero =>
      intro d hd h
      obtain rfl : d = L.length := by omega
      exact pk_le L.length L.length (fun _ => H0 h) (fun z => by omega) hD.1
    | succ k ih =>
      intro d hd h
      refine pk_le L.length d (fun z => by omega) (fun z => ⟨pk_in d 32 (by omega), ?_⟩) hD.1
      rw [sg_rd (f := a_number) d rfl (by omega) (show a_number d = nI (sg_nu L d) from (hD.2 d z).1)]
      refine br_c (fun e => H1 d z e) (fun e => nm_r (nI_1 d) (ih (d + 1) (by omega) (fun i hi => ?_)))
      by_cases y : i = d
      · rw [y]; exact e
      · exact h i (by omega)
  exact Exists.intro _ (key L.length 0 (by omega) (fun i hi => by omega))
theorem sg_yword {post : Int32 → SY → Prop} {u : SY} {v : Int32} (hP : sg_Gp PT) (hu : sg_YR L S ad PT Q W N K Sh u) (H0 : ¬ (0 ≤ v ∧ v ≤ 7) ∨ PT.length = 12 → post (-1) u) (H1 : ∀ w u', v = nI w → w < 8 → PT.length < 12 → sg_YR L S ad (PT ++ [w]) Q W N K Sh u' → post (nI (PT.length + 1)) u') : wpY_word post u v := by
  obtain ⟨f_documents, f_segments, f_numbers, f_words, f_kept, a_number, a_price, a_size, a_text, a_shelf, a_deleted, a_levels, a_pendingText, a_tokens, a_length, a_kinds, a_spans, a_weights, a_isSpan, a_matches, a_scores, a_news, a_newsCount, a_keptNumber, a_keptScore, a_shares, a_isHit, a_hitScore⟩ := u
  obtain ⟨hC, hA, hX, hQ, hN, hK, hH⟩ := hu
  obtain ⟨hX1, hX2⟩ := hX
  subst hX1
  unfold wpY_word
  refine sg_within (fun h1 h2 => br_f (by decide) (pk_eq PT.length 12 (fun z => H0 (Or.inr z)) (fun z => ?_) rfl rfl (by have := hP.1; omega))) (fun h => br_t rfl (H0 (Or.inl h)))
  have hl : PT.length < 12 := by have := hP.1; omega
  obtain ⟨w, hw, rfl⟩ := nI_of2 (M := 7) (n := 7) (by decide) (Int32.not_lt.mpr h1) h2
  refine nm_r (nI_1 _) ⟨pk_in PT.length 12 hl, nm_r (sg_wr PT.length rfl (by omega) rfl) ?_⟩
  refine H1 w _ rfl (by omega) hl (sg_YR_mk hC hA ⟨by rw [List.length_append]; rfl, fun i hi => ?_⟩ hQ hN hK hH)
  rw [List.length_append, List.length_singleton] at hi
  rw [List.getD_eq_getElem?_getD]
  by_cases e : i = PT.length
  · rw [e, pk_us, List.getElem?_append_right (Nat.le_refl _), Nat.sub_self]; rfl
  · rw [pk_un e, List.getElem?_append_left (by omega), hX2 i (by omega), List.getD_eq_getElem?_getD]
theorem sg_yadd {post : Int32 → SY → Prop} {u : SY} {v : Int32} (hG : sg_Gd L S ad) (had : ad < 2000) (hS : sg_Gs L.length S) (hq : sg_Gq Q W) (hP : sg_Gp PT) (hu : sg_YR L S ad PT Q W N K Sh u)
    (H0 : ¬ (0 ≤ v ∧ v ≤ 99) → post (-1) u) (H1 : 0 ≤ v → v ≤ 99 → L.length = 32 → post (-2) u)
    (H2 : ∀ p u', v = nI p → p ≤ 99 → L.length < 32 → L.length + 1 - sg_st S = 4 → sg_YR (sg_fl (sg_addL L ad p PT) S).1 (sg_fl (sg_addL L ad p PT) S).2 (ad + 1) [] Q W (sg_flN (sg_addL L ad p PT) S W N) K Sh u' → post (nI ad) u')
    (H3 : ∀ p u', v = nI p → p ≤ 99 → L.length < 32 → ¬ L.length + 1 - sg_st S = 4 → sg_YR (sg_addL L ad p PT) S (ad + 1) [] Q W N K Sh u' → post (nI ad) u') : wpY_add post u v := by
  obtain ⟨f_documents, f_segments, f_numbers, f_words, f_kept, a_number, a_price, a_size, a_text, a_shelf, a_deleted, a_levels, a_pendingText, a_tokens, a_length, a_kinds, a_spans, a_weights, a_isSpan, a_matches, a_scores, a_news, a_newsCount, a_keptNumber, a_keptScore, a_shares, a_isHit, a_hitScore⟩ := u
  obtain ⟨⟨hD, hY⟩, hA, hXP, hQ, hN, hK, hH⟩ := hu
  have hL := hG.1
  have hst := hS.2.1
  have hp1 := hP.1
  unfold wpY_add
  refine sg_within (fun h1 h2 => br_f (by decide) (pk_eq L.length 32 (fun z => H1 h1 h2 z) (fun z => ?_) hD.1)) (fun h => br_t rfl (H0 h))
  have hl : L.length < 32 := by omega
  obtain ⟨p, hp, rfl⟩ := nI_of2 (M := 99) (n := 99) (by decide) (Int32.not_lt.mpr h1) h2
  obtain ⟨hG1, hS1⟩ := sg_addL_ok hG hl had hS hP hp
  have hlen := sg_addL_len L ad p PT
  have hge : sg_g (sg_addL L ad p PT) L.length = (ad, p, PT, false) := by unfold sg_addL; rw [sg_g_ap, if_pos rfl]
  have hgn : ∀ k, k ≠ L.length → sg_g (sg_addL L ad p PT) k = sg_g L k := fun k hk => by unfold sg_addL; rw [sg_g_ap, if_neg hk]
  have hT := sg_Gd_T hG
  have fin : ∀ txt, (∀ i, i < PT.length → txt (12 * L.length + i) = nI (PT.getD i 8)) → (∀ x, x < 12 * L.length → txt x = a_text x) → sg_YC (sg_addL L ad p PT) S (nI (L.length + 1)) f_segments (upd a_number L.length (nI ad)) (upd a_price L.length (nI p)) (upd a_size L.length (nI PT.length)) txt (upd a_shelf L.length (-1)) (upd a_deleted L.length 0) a_levels := by
    intro txt t1 t2
    refine ⟨⟨by rw [hlen], fun k hk => ?_⟩, hY.1, hY.2.1, hY.2.2.1, fun d hd => ?_⟩
    · rw [hlen] at hk
      by_cases e : k = L.length
      · rw [e, hge]
        exact ⟨pk_us, pk_us, pk_us, t1, pk_us⟩
      · rw [hgn k e]
        obtain ⟨a1, a2, a3, a4, a5⟩ := hD.2 k (by omega)
        refine ⟨by rw [pk_un e]; exact a1, by rw [pk_un e]; exact a2, by rw [pk_un e]; exact a3, fun i hi => ?_, by rw [pk_un e]; exact a5⟩
        have h12 : (sg_g L k).2.2.1.length ≤ 12 := hT k
        rw [t2 _ (by omega)]; exact a4 i hi
    · rw [hlen] at hd
      by_cases e : d = L.length
      · rw [e, pk_us]
        refine ⟨fun k hk q1 q2 => ?_, fun _ => rfl⟩
        have := sg_e_le hS hk
        omega
      · rw [pk_un e]; exact hY.2.2.2 d (by omega)
  have loop : ∀ k i txt, i + k = PT.length → (∀ i', i' < i → txt (12 * L.length + i') = nI (PT.getD i' 8)) → (∀ x, x < 12 * L.length → txt x = a_text x) → wY_add_72 post (nI L.length) (nI (L.length + 1)) f_segments (nI (ad + 1)) f_words f_kept (k + 1) (nI i) (upd a_number L.length (nI ad)) (upd a_price L.length (nI p)) (upd a_size L.length (nI PT.length)) txt a_shelf a_deleted a_levels a_pendingText a_tokens a_length a_kinds a_spans a_weights a_isSpan a_matches a_scores a_news a_newsCount a_keptNumber a_keptScore a_shares a_isHit a_hitScore := by
    intro k
    induction k with
    | zero =>
      intro i txt hi t1 t2
      obtain rfl : i = PT.length := by omega
      have hC' := fin txt t1 t2
      have hsh := sg_YS_sh hS1 hC'.2
      refine pk_le PT.length PT.length (fun _ => ⟨pk_in L.length 32 hl, nm_r (sg_wr L.length rfl (by omega) rfl) ⟨pk_in L.length 32 hl, nm_r (sg_wr L.length rfl (by omega) sg_nbool0) ⟨pk_in L.length 32 hl, nm_r (sg_rd L.length rfl (by omega) pk_us) ?_⟩⟩⟩) (fun z => by omega) hXP.1
      refine sg_ymany (n := L.length + 1) rfl (by omega) ?_
      rw [hlen] at hsh
      rw [sg_Ysh_c hsh]
      refine pk_eq (L.length + 1 - sg_st S) 4 (fun e4 => ?_) (fun e4 => ?_)
      · exact sg_yflush (L := sg_addL L ad p PT) hG1 hS1 hQ hq hN hC' (fun nd ns num pri siz txt she del lev kd sp wt is ma sc nw nc hC2 hN2 => H2 p _ rfl hp hl e4 (sg_YR_mk hC2 rfl ⟨rfl, fun i hi => by cases hi⟩ hQ hN2 hK hH))
      · exact H3 p _ rfl hp hl e4 (sg_YR_mk hC' rfl ⟨rfl, fun i hi => by cases hi⟩ hQ hN hK hH)
    | succ k ih =>
      intro i txt hi t1 t2
      have e1 : (12 : Int32) * nI L.length + nI i = nI (12 * L.length + i) := by rw [show (12 : Int32) * nI L.length = nI (12 * L.length) from pk_mul 12 _, nI_add]
      refine pk_le PT.length i (fun z => by omega) (fun z => ⟨pk_in i 12 (by omega), pk_in (12 * L.length + i) 384 (by omega) e1, nm_r (sg_wr (12 * L.length + i) e1 (by omega) (sg_rd i rfl (by omega) (hXP.2 i z))) (nm_r (nI_1 i) (ih (i + 1) _ (by omega) (fun i' hi' => ?_) (fun x hx => ?_)))⟩) hXP.1
      · by_cases y : i' = i
        · rw [y, pk_us]
        · rw [pk_un (by omega)]; exact t1 i' (by omega)
      · rw [pk_un (by omega)]; exact t2 x hx
  refine nm_r (e' := nI (L.length + 1)) (by rw [hD.1, nI_1]) (nm_r (e' := nI (ad + 1)) (by rw [hA, nI_1]) ⟨pk_in L.length 32 hl hD.1, nm_r (sg_wr L.length hD.1 (by omega) hA) ⟨pk_in L.length 32 hl hD.1, nm_r (sg_wr L.length hD.1 (by omega) rfl) ⟨pk_in L.length 32 hl hD.1, nm_r (sg_wr L.length hD.1 (by omega) hXP.1) (Exists.intro (PT.length + 1) ?_)⟩⟩⟩)
  rw [hD.1]
  exact loop PT.length 0 a_text (by omega) (fun i hi => by omega) (fun x _ => rfl)
theorem sg_ydelete {post : Int32 → SY → Prop} {u : SY} {v : Int32} (hG : sg_Gd L S ad) (hS : sg_Gs L.length S) (hu : sg_YR L S ad PT Q W N K Sh u)
    (H0 : (∀ i, i < L.length → ¬ nI (sg_nu L i) = v) → post 0 u) (H1 : ∀ i, i < L.length → nI (sg_nu L i) = v → sg_dl L i = true → post 0 u)
    (H2 : ∀ i u', i < L.length → nI (sg_nu L i) = v → sg_dl L i = false → i < sg_st S → sg_YR (sg_mark L i) S ad PT Q W N K Sh u' → post 1 u')
    (H3 : ∀ i u', i < L.length → nI (sg_nu L i) = v → sg_dl L i = false → sg_st S ≤ i → sg_YR (L.eraseIdx i) S ad PT Q W N K Sh u' → post 1 u') : wpY_delete post u v := by
  obtain ⟨f_documents, f_segments, f_numbers, f_words, f_kept, a_number, a_price, a_size, a_text, a_shelf, a_deleted, a_levels, a_pendingText, a_tokens, a_length, a_kinds, a_spans, a_weights, a_isSpan, a_matches, a_scores, a_news, a_newsCount, a_keptNumber, a_keptScore, a_shares, a_isHit, a_hitScore⟩ := u
  obtain ⟨⟨hD, hY⟩, hA, hP, hQ, hN, hK, hH⟩ := hu
  have hL := hG.1
  have hT := sg_Gd_T hG
  have hsh := sg_YS_sh hS hY
  unfold wpY_delete
  refine sg_yfind hL hD v (fun i hi e => br_f (nI_pos (by omega)) ⟨pk_in i 32 (by omega), ?_⟩) (fun h => br_t (by decide) (H0 h))
  rw [nI_clamp (show i < 2 ^ 31 by omega), show a_deleted i = sg_bi1 (sg_dl L i) from (hD.2 i hi).2.2.2.2]
  cases hc : sg_dl L i
  · refine br_t rfl ⟨pk_in i 32 (by omega), br_c (fun h0 => ?_) (fun h0 => ⟨pk_in i 32 (by omega), nm_e ?_⟩)⟩
    · have hsti : sg_st S ≤ i := by
        rcases Nat.lt_or_ge i (sg_st S) with q | q
        · exact absurd h0 ((hsh.2 i hi).1 q)
        · exact q
      have hl : (L.eraseIdx i).length = L.length - 1 := List.length_eraseIdx_of_lt hi
      have e1 : f_documents - 1 = nI (L.length - 1) := by
        rw [hD.1, show L.length = (L.length - 1) + 1 by omega, nI_pred, Nat.add_sub_cancel]
      have hT2 : ∀ j, (sg_g (L.eraseIdx i) j).2.2.1.length ≤ 12 := fun j => by
        rw [sg_g_er]
        by_cases y : j < i
        · rw [if_pos y]; exact hT j
        · rw [if_neg y]; exact hT (j + 1)
      have loop : ∀ k d num pri siz txt she del, d + k = L.length - 1 → i ≤ d → (∀ j, j < d → sg_yr num pri siz txt del j (sg_g (L.eraseIdx i) j)) → (∀ j, d ≤ j → j < L.length → sg_yr num pri siz txt del j (sg_g L j)) → (∀ j, j < L.length → sg_shl S j (she j)) → wY_delete_52 post (k + 1) (nI d) (nI (L.length - 1)) f_segments f_numbers f_words f_kept num pri siz txt she del a_levels a_pendingText a_tokens a_length a_kinds a_spans a_weights a_isSpan a_matches a_scores a_news a_newsCount a_keptNumber a_keptScore a_shares a_isHit a_hitScore := by
        intro k
        induction k with
        | zero =>
          intro d num pri siz txt she del hd hid i1 i2 i3
          obtain rfl : d = L.length - 1 := by omega
          refine pk_le (L.length - 1) (L.length - 1) (fun _ => H3 i _ hi e hc hsti (sg_YR_mk ⟨⟨by rw [hl], fun j hj => i1 j (by omega)⟩, hY.1, hY.2.1, hY.2.2.1, fun j hj => i3 j (by omega)⟩ hA hP hQ hN hK hH)) (fun z => by omega)
        | succ k ih =>
          intro d num pri siz txt she del hd hid i1 i2 i3
          have r1 := i2 (d + 1) (by omega) (by omega)
          refine pk_le (L.length - 1) d (fun z => by omega) (fun z => ?_)
          rw [nI_1]
          refine sg_ycopy (d := d + 1) (n := d) (b := sg_dl L (d + 1)) (by omega) (by omega) r1.2.2.2.2 (fun txt' t1 t2 => nm_e (ih (d + 1) _ _ _ _ _ _ (by omega) (by omega) (fun j hj => ?_) (fun j h1 h2 => sg_yr_ot (hT j) (by omega) t2 (i2 j (by omega) h2)) (fun j hj => ?_)))
          · by_cases y : j = d
            · rw [y]
              have e3 : sg_g (L.eraseIdx i) d = sg_g L (d + 1) := by rw [sg_g_er, if_neg (by omega)]
              rw [e3]
              exact sg_yr_cp (hT (d + 1)) t1 r1
            · exact sg_yr_ot (hT2 j) y t2 (i1 j (by omega))
          · by_cases y : j = d
            · rw [y, pk_us]
              have q := i3 (d + 1) (by omega)
              refine ⟨fun k hk q1 q2 => ?_, fun _ => q.2 (by omega)⟩
              have := sg_e_le hS hk
              omega
            · rw [pk_un y]; exact i3 j hj
      refine nm_r e1 (Exists.intro (L.length - 1 - i + 1) (loop (L.length - 1 - i) i a_number a_price a_size a_text a_shelf a_deleted (by omega) (Nat.le_refl _) (fun j hj => ?_) (fun j _ h2 => hD.2 j h2) hY.2.2.2))
      rw [sg_g_er, if_pos hj]; exact hD.2 j (by omega)
    · have hsti : i < sg_st S := by
        rcases Nat.lt_or_ge i (sg_st S) with q | q
        · exact q
        · rw [(hsh.2 i hi).2 q] at h0; exact absurd (by decide) h0
      refine H2 i _ hi e hc hsti (sg_YR_mk ⟨⟨by rw [sg_mark_len]; exact hD.1, fun j hj => ?_⟩, by rw [sg_mark_len]; exact hY⟩ hA hP hQ hN hK hH)
      rw [sg_mark_len] at hj
      obtain ⟨a1, a2, a3, a4, a5⟩ := hD.2 j hj
      rw [sg_mark_g hi]
      by_cases y : j = i
      · subst y
        rw [if_pos rfl]
        exact ⟨a1, a2, a3, a4, by rw [pk_us]; rfl⟩
      · rw [if_neg y]
        exact ⟨a1, a2, a3, a4, by rw [pk_un y]; exact a5⟩
  · exact br_f (by decide) (H1 i hi e hc)
theorem sg_ysettle {post : Int32 → SY → Prop} {u : SY} (hG : sg_Gd L S ad) (hS : sg_Gs L.length S) (hq : sg_Gq Q W) (hu : sg_YR L S ad PT Q W N K Sh u)
    (hF : sg_Gd (sg_fl L S).1 (sg_fl L S).2 ad ∧ sg_Gs (sg_fl L S).1.length (sg_fl L S).2 ∧ sg_st (sg_fl L S).2 = (sg_fl L S).1.length)
    (H0 : ∀ u', (sg_fl L S).2.length = 0 → sg_YR (sg_fl L S).1 (sg_fl L S).2 ad PT Q W (sg_flN L S W N) K Sh u' → post 0 u')
    (H1 : ∀ u', 0 < (sg_fl L S).2.length → sg_YR (sg_mL (sg_fl L S).1 0) (sg_mS (sg_fl L S).2 0 3 (sg_mL (sg_fl L S).1 0).length) ad PT Q W (sg_flN L S W N) K Sh u' → post (nI (sg_mL (sg_fl L S).1 0).length) u') : wpY_settle post u := by
  obtain ⟨f_documents, f_segments, f_numbers, f_words, f_kept, a_number, a_price, a_size, a_text, a_shelf, a_deleted, a_levels, a_pendingText, a_tokens, a_length, a_kinds, a_spans, a_weights, a_isSpan, a_matches, a_scores, a_news, a_newsCount, a_keptNumber, a_keptScore, a_shares, a_isHit, a_hitScore⟩ := u
  obtain ⟨hC, hA, hP, hQ, hN, hK, hH⟩ := hu
  unfold wpY_settle
  refine sg_yflush hG hS hQ hq hN hC (fun nd ns num pri siz txt she del lev kd sp wt is ma sc nw nc hC' hN' => ?_)
  have hY' := hC'.2
  have hY2 := hY'.2.1
  refine pk_le (sg_fl L S).2.length 0 (fun z => ?_) (fun z => ?_) hY'.1 rfl (by omega)
  · unfold wY_settle_15
    exact pk_eq (sg_fl L S).2.length 0 (fun _ => H0 _ (by omega) (sg_YR_mk hC' hA hP hQ hN' hK hH)) (fun q => by omega) hY'.1 rfl (by omega)
  · have hm := sg_melt_ok (first := 0) (to := 3) hF.1 hF.2.1 hF.2.2 z (by omega)
    have e0 : sg_lo (sg_fl L S).2 0 = 0 := rfl
    rw [e0] at hm
    refine sg_yjoin (first := 0) (to := 3) hF.1 hF.2.1 hF.2.2 z (by omega) hC' (fun nd ns num pri siz txt she del lev hC2 => ?_)
    rw [e0] at hC2
    have hml := hm.1.1
    have hfin := H1 _ z (sg_YR_mk (a_kinds := kd) (a_spans := sp) (a_weights := wt) (a_isSpan := is) (a_matches := ma) (a_scores := sc) (a_isHit := a_isHit) (a_hitScore := a_hitScore) hC2 hA hP hQ hN' hK hH)
    have hY3 := hC2.2
    unfold wY_settle_15
    refine br_c (fun q => ?_) (fun q => ?_)
    · -- nothing is left
      have hS0 : (sg_mS (sg_fl L S).2 0 3 (sg_mL (sg_fl L S).1 0).length).length = 0 := by
        have := hY3.1
        rw [q] at this
        have h2 := hY3.2.1
        exact ((nI_eq (a := 0) (by omega) (by omega)).mp this).symm
      have hn : (sg_mL (sg_fl L S).1 0).length = 0 := by
        rw [← hm.2.2]; unfold sg_st; rw [hS0]; rfl
      rw [hn] at hfin; exact hfin
    · refine sg_ymany hC2.1.1 hml ?_
      have hc : sg_c (fun d => decide (she d = 0)) (sg_mL (sg_fl L S).1 0).length = (sg_mL (sg_fl L S).1 0).length := by
        refine sg_c_n (fun d hd => decide_eq_true ?_)
        obtain ⟨k, k1, k2, k3⟩ := sg_seg hm.2.1 (d := d) (by omega)
        have := (hY3.2.2.2 d hd).1 k k1 k2 k3
        have hl := sg_mS_len (S := (sg_fl L S).2) (first := 0) (to := 3) (n := (sg_mL (sg_fl L S).1 0).length) z
        rw [this, show k = 0 by omega]; rfl
      rw [hc]; exact hfin
end
end
section
/-! Y: held, segment, about, at, hit, share, next -/
section
variable {f_documents f_segments f_numbers f_words f_kept : Int32} {a_number a_price a_size a_text a_shelf a_deleted a_levels a_pendingText a_tokens a_length a_kinds a_spans a_weights a_isSpan a_matches a_news a_newsCount a_keptNumber a_shares a_isHit : Nat → Int32} {a_scores a_keptScore a_hitScore : Nat → Int64}
variable {L : List sg_D} {S : List (Nat × Nat)} {ad : Nat} {PT Q : List Nat} {W N : Nat → List Nat} {K : List (Nat × Nat)} {Sh : Nat → Nat}
theorem sg_yheld {post : Int32 → Prop} {u : SY} {v : Int32} (hG : sg_Gd L S ad) (hS : sg_Gs L.length S) (hu : sg_YR L S ad PT Q W N K Sh u) (H : post (sg_heldA L S v)) : wpY_held post u v := by
  obtain ⟨f_documents, f_segments, f_numbers, f_words, f_kept, a_number, a_price, a_size, a_text, a_shelf, a_deleted, a_levels, a_pendingText, a_tokens, a_length, a_kinds, a_spans, a_weights, a_isSpan, a_matches, a_scores, a_news, a_newsCount, a_keptNumber, a_keptScore, a_shares, a_isHit, a_hitScore⟩ := u
  obtain ⟨⟨hD, hY⟩, hA, hP, hQ, hN, hK, hH⟩ := hu
  have hL := hG.1
  have hsh := sg_YS_sh hS hY
  unfold sg_heldA at H
  have key : ∀ k d, d + k = L.length → wY_held_4 post v f_documents f_segments f_numbers f_words f_kept a_number a_price a_size a_text a_shelf a_deleted a_levels a_pendingText a_tokens a_length a_kinds a_spans a_weights a_isSpan a_matches a_scores a_news a_newsCount a_keptNumber a_keptScore a_shares a_isHit a_hitScore (k + 1) (nI (sg_c (sg_dl L) d)) (nI d) := by
    intro k
    induction k with
    | zero =>
      intro d hd
      obtain rfl : d = L.length := by omega
      refine pk_le L.length L.length (fun _ => br_c (fun e => ?_) (fun e => br_c (fun e1 => ?_) (fun e1 => br_c (fun e2 => ?_) (fun e2 => br_c (fun e3 => ?_) (fun e3 => ?_))))) (fun z => by omega) hD.1
      · rw [if_pos e] at H; rw [hD.1]; exact H
      · rw [if_neg e, if_pos e1] at H
        refine sg_ymany hD.1 hL ?_
        rw [sg_Ysh_c hsh]; exact H
      · rw [if_neg e, if_neg e1, if_pos e2] at H; exact H
      · rw [if_neg e, if_neg e1, if_neg e2, if_pos e3] at H; rw [hY.1]; exact H
      · rw [if_neg e, if_neg e1, if_neg e2, if_neg e3] at H; exact H
    | succ k ih =>
      intro d hd
      have hn := ih (d + 1) (by omega)
      have hn2 : sg_c (sg_dl L) (d + 1) = sg_c (sg_dl L) d + (sg_dl L d).toNat := rfl
      refine pk_le L.length d (fun z => by omega) (fun z => ⟨pk_in d 32 (by omega), ?_⟩) hD.1
      rw [nI_clamp (show d < 2 ^ 31 by omega), show a_deleted d = sg_bi1 (sg_dl L d) from (hD.2 d z).2.2.2.2]
      cases hc : sg_dl L d
      · rw [hc] at hn2
        rw [hn2] at hn
        exact br_t rfl (nm_r (nI_1 d) hn)
      · rw [hc] at hn2
        rw [hn2] at hn
        exact br_f (by decide) (nm_r (nI_1 _) (nm_r (nI_1 d) hn))
  exact Exists.intro _ (key L.length 0 (by omega))
theorem sg_ysegment {post : Int32 → Prop} {u : SY} {v1 v2 : Int32} (hG : sg_Gd L S ad) (hS : sg_Gs L.length S) (hu : sg_YR L S ad PT Q W N K Sh u)
    (H0 : (¬ ∃ j, j < S.length ∧ v1 = nI j) → post (-1)) (H1 : ∀ j, j < S.length → v1 = nI j → (¬ ∃ c, c < 4 ∧ v2 = nI c) → post (-1)) (H2 : ∀ j c, j < S.length → v1 = nI j → c < 4 → v2 = nI c → post (nI (sg_segV L S j c))) : wpY_segment post u v1 v2 := by
  obtain ⟨f_documents, f_segments, f_numbers, f_words, f_kept, a_number, a_price, a_size, a_text, a_shelf, a_deleted, a_levels, a_pendingText, a_tokens, a_length, a_kinds, a_spans, a_weights, a_isSpan, a_matches, a_scores, a_news, a_newsCount, a_keptNumber, a_keptScore, a_shares, a_isHit, a_hitScore⟩ := u
  obtain ⟨⟨hD, hY⟩, hA, hP, hQ, hN, hK, hH⟩ := hu
  have hL := hG.1
  have hst := hS.2.1
  have hY2 := hY.2.1
  refine br_c (fun h => H0 ?_) (fun h => ?_)
  · rintro ⟨j, hj, rfl⟩; exact nI_pos (by omega) h
  · obtain ⟨j, hj, rfl⟩ := nI_of (x := v1) h
    refine pk_le S.length j (fun z => H0 ?_) (fun z => ?_) hY.1
    · rintro ⟨i, hi, e⟩
      rw [nI_eq hj (by omega)] at e; omega
    · refine sg_within (fun h1 h2 => br_f (by decide) ?_) (fun hn => br_t rfl (H1 j z rfl ?_))
      · obtain ⟨c, hc, rfl⟩ := nI_of2 (M := 3) (n := 3) (by decide) (Int32.not_lt.mpr h1) h2
        have hfin := H2 j c z rfl (by omega) rfl
        have hle := hS.1 j z
        have hel := sg_e_le hS z
        have hshk : ∀ d, d < L.length → (a_shelf d = nI j ↔ sg_lo S j ≤ d ∧ d < sg_e S j) := by
          intro d hd
          constructor
          · intro e
            rcases Nat.lt_or_ge d (sg_st S) with q | q
            · obtain ⟨k, k1, k2, k3⟩ := sg_seg hS q
              rw [(hY.2.2.2 d hd).1 k k1 k2 k3, nI_eq (by omega) (by omega)] at e
              subst e; exact ⟨k2, k3⟩
            · rw [(hY.2.2.2 d hd).2 q] at e
              have := congrArg Int32.toInt e
              rw [nI_toInt hj] at this
              have e3 : (-1 : Int32).toInt = -1 := by decide
              omega
          · intro ⟨q1, q2⟩
            exact (hY.2.2.2 d hd).1 j z q1 q2
        have key : ∀ k d, d + k = L.length → ∀ x4 : Int32, (x4 = if sg_lo S j < d then nI (sg_nu L (sg_lo S j)) else -1) → wY_segment_31 post (nI j) (nI c) f_documents f_segments f_numbers f_words f_kept a_number a_price a_size a_text a_shelf a_deleted a_levels a_pendingText a_tokens a_length a_kinds a_spans a_weights a_isSpan a_matches a_scores a_news a_newsCount a_keptNumber a_keptScore a_shares a_isHit a_hitScore (k + 1) (nI (sg_c (fun k => sg_dl L k && decide (sg_lo S j ≤ k ∧ k < sg_e S j)) d)) x4 (nI d) := by
          intro k
          induction k with
          | zero =>
            intro d hd x4 hx4
            obtain rfl : d = L.length := by omega
            rw [if_pos (by omega)] at hx4
            subst hx4
            refine pk_le L.length L.length (fun _ => pk_eq c 0 (fun e => ⟨pk_in j 34 (by omega), ?_⟩) (fun e => pk_eq c 1 (fun e1 => ?_) (fun e1 => pk_eq c 2 (fun e2 => ?_) (fun e2 => ?_)))) (fun q => by omega) hD.1
            · unfold sg_segV at hfin
              rw [if_pos e] at hfin
              rw [sg_rd (f := a_levels) j rfl (by omega) (hY.2.2.1 j z)]; exact hfin
            · unfold sg_segV at hfin
              rw [if_neg e, if_pos e1] at hfin
              refine sg_ymany hD.1 hL ?_
              have hcnt : sg_c (fun d => decide (a_shelf d = nI j)) L.length = sg_e S j - sg_lo S j := by
                have b1 : sg_c (fun d => decide (a_shelf d = nI j)) L.length = sg_c (fun d => decide (sg_lo S j ≤ d ∧ d < sg_e S j)) L.length := sg_c_eq (fun k hk => sg_beq (by simp only [decide_eq_true_iff]; exact hshk k hk))
                have b2 : sg_c (fun d => decide (sg_lo S j ≤ d ∧ d < sg_e S j)) L.length = sg_c (fun d => decide (sg_lo S j ≤ d ∧ d < sg_e S j)) (sg_e S j) := sg_c_ext (by omega) (fun i q1 _ => decide_eq_false (by omega))
                have b3 := sg_c_add (fun d => decide (sg_lo S j ≤ d ∧ d < sg_e S j)) (sg_lo S j) (sg_e S j - sg_lo S j)
                have b4 : sg_c (fun d => decide (sg_lo S j ≤ d ∧ d < sg_e S j)) (sg_lo S j) = 0 := sg_c_0 (fun k hk => decide_eq_false (by omega))
                have b5 : sg_c (fun i => decide (sg_lo S j ≤ sg_lo S j + i ∧ sg_lo S j + i < sg_e S j)) (sg_e S j - sg_lo S j) = sg_e S j - sg_lo S j := sg_c_n (fun k hk => decide_eq_true (by omega))
                rw [show sg_lo S j + (sg_e S j - sg_lo S j) = sg_e S j by omega, b4, b5, Nat.zero_add] at b3
                exact (b1.trans b2).trans b3
              rw [hcnt]; exact hfin
            · unfold sg_segV at hfin
              rw [if_neg e, if_neg e1, if_pos e2] at hfin; exact hfin
            · unfold sg_segV at hfin
              rw [if_neg e, if_neg e1, if_neg e2] at hfin; exact hfin
          | succ k ih =>
            intro d hd x4 hx4
            have hdl : d < L.length := by omega
            have hn2 : sg_c (fun k => sg_dl L k && decide (sg_lo S j ≤ k ∧ k < sg_e S j)) (d + 1) = sg_c (fun k => sg_dl L k && decide (sg_lo S j ≤ k ∧ k < sg_e S j)) d + (sg_dl L d && decide (sg_lo S j ≤ d ∧ d < sg_e S j)).toNat := rfl
            have hnu : a_number d = nI (sg_nu L d) := (hD.2 d hdl).1
            have hnb := sg_Gd_n hG hdl
            have had := hG.2.1
            refine pk_le L.length d (fun q => by omega) (fun q => ⟨pk_in d 32 (by omega), ?_⟩) hD.1
            rw [nI_clamp (show d < 2 ^ 31 by omega)]
            refine ek_if (hshk d hdl) (fun q1 => ⟨pk_in d 32 (by omega), ?_⟩) (fun q1 => nm_r (nI_1 d) ?_)
            · -- inside
              have k67 : ∀ x3, x3 = nI (sg_c (fun k => sg_dl L k && decide (sg_lo S j ≤ k ∧ k < sg_e S j)) (d + 1)) → wY_segment_67 post (wY_segment_31 post (nI j) (nI c) f_documents f_segments f_numbers f_words f_kept a_number a_price a_size a_text a_shelf a_deleted a_levels a_pendingText a_tokens a_length a_kinds a_spans a_weights a_isSpan a_matches a_scores a_news a_newsCount a_keptNumber a_keptScore a_shares a_isHit a_hitScore (k + 1)) (nI j) (nI c) x3 x4 (nI d) f_documents f_segments f_numbers f_words f_kept a_number a_price a_size a_text a_shelf a_deleted a_levels a_pendingText a_tokens a_length a_kinds a_spans a_weights a_isSpan a_matches a_scores a_news a_newsCount a_keptNumber a_keptScore a_shares a_isHit a_hitScore := by
                intro x3 hx3
                subst hx3
                refine br_c (fun q2 => nm_r (nI_1 d) (ih (d + 1) (by omega) x4 ?_)) (fun q2 => ⟨pk_in d 32 (by omega), nm_r (sg_rd d rfl (by omega) hnu) (nm_r (nI_1 d) (ih (d + 1) (by omega) _ ?_))⟩)
                · by_cases y : sg_lo S j < d
                  · rw [if_pos y] at hx4; rw [if_pos (by omega)]; exact hx4
                  · rw [if_neg y] at hx4
                    rw [hx4] at q2; exact absurd q2 (by decide)
                · by_cases y : sg_lo S j < d
                  · rw [if_pos y] at hx4
                    have hd2 : sg_lo S j < L.length := by omega
                    have hb2 := sg_Gd_n hG hd2
                    rw [hx4] at q2; exact absurd (nI_pos' (by omega)) q2
                  · rw [if_pos (by omega), show sg_lo S j = d by omega]
              rw [show a_deleted d = sg_bi1 (sg_dl L d) from (hD.2 d hdl).2.2.2.2]
              rw [decide_eq_true q1, Bool.and_true] at hn2
              cases hc2 : sg_dl L d
              · rw [hc2] at hn2
                exact br_t rfl (k67 _ (by rw [hn2]; rfl))
              · rw [hc2] at hn2
                exact br_f (by decide) (nm_r (nI_1 _) (k67 _ (by rw [hn2]; rfl)))
            · rw [decide_eq_false q1, Bool.and_false] at hn2
              have := ih (d + 1) (by omega) x4 ?_
              · rw [hn2] at this; exact this
              · by_cases y : sg_lo S j < d
                · rw [if_pos y] at hx4; rw [if_pos (by omega)]; exact hx4
                · rw [if_neg y] at hx4
                  rw [if_neg (by omega)]; exact hx4
        exact Exists.intro _ (key L.length 0 (by omega) (-1) (by rw [if_neg (by omega)]))
      · rintro ⟨c, hc, rfl⟩
        exact hn ⟨nI_pos' (by omega), nI_le (b := 3) (by omega) (by omega)⟩
theorem sg_yabout {post : Int32 → Prop} {u : SY} {v1 v2 : Int32} (hG : sg_Gd L S ad) (hu : sg_YR L S ad PT Q W N K Sh u)
    (H0 : (∀ i, i < L.length → ¬ nI (sg_nu L i) = v1) → post (-5)) (H1 : ∀ i, i < L.length → nI (sg_nu L i) = v1 → ¬ (0 ≤ v2 ∧ v2 ≤ 2) → post (-5))
    (H2 : ∀ i, i < L.length → nI (sg_nu L i) = v1 → v2 = 0 → post (nI (sg_pr L i))) (H3 : ∀ i, i < L.length → nI (sg_nu L i) = v1 → v2 = 1 → post (nI (sg_T L i).length))
    (H4 : ∀ i r, i < L.length → nI (sg_nu L i) = v1 → v2 = 2 → sg_shl S i r → post r) : wpY_about post u v1 v2 := by
  obtain ⟨f_documents, f_segments, f_numbers, f_words, f_kept, a_number, a_price, a_size, a_text, a_shelf, a_deleted, a_levels, a_pendingText, a_tokens, a_length, a_kinds, a_spans, a_weights, a_isSpan, a_matches, a_scores, a_news, a_newsCount, a_keptNumber, a_keptScore, a_shares, a_isHit, a_hitScore⟩ := u
  obtain ⟨⟨hD, hY⟩, hA, hP, hQ, hN, hK, hH⟩ := hu
  have hL := hG.1
  unfold wpY_about
  refine sg_yfind hL hD v1 (fun i hi e => br_f (nI_pos (by omega)) (sg_within (fun h1 h2 => br_f (by decide) ?_) (fun h => br_t rfl (H1 i hi e h)))) (fun h => br_t (by decide) (H0 h))
  obtain ⟨y1, y2, y3, y4, y5⟩ := hD.2 i hi
  refine br_c (fun e0 => ⟨pk_in i 32 (by omega), ?_⟩) (fun e0 => br_c (fun e1 => ⟨pk_in i 32 (by omega), ?_⟩) (fun e1 => ⟨pk_in i 32 (by omega), ?_⟩))
  · rw [sg_rd (f := a_price) i rfl (by omega) y2]; exact H2 i hi e e0
  · rw [sg_rd (f := a_size) i rfl (by omega) y3]; exact H3 i hi e e1
  · rw [sg_rd (f := a_shelf) i rfl (by omega) rfl]
    refine H4 i _ hi e ?_ (hY.2.2.2 i hi)
    obtain ⟨c, hc, rfl⟩ := nI_of2 (M := 2) (n := 2) (by decide) (Int32.not_lt.mpr h1) h2
    have c0 : c ≠ 0 := fun q => e0 (by rw [q]; rfl)
    have c1 : c ≠ 1 := fun q => e1 (by rw [q]; rfl)
    rw [show c = 2 by omega]; rfl
theorem sg_yat {post : Int32 → Prop} {u : SY} {v1 v2 : Int32} (hG : sg_Gd L S ad) (hu : sg_YR L S ad PT Q W N K Sh u)
    (H0 : (∀ i, i < L.length → ¬ nI (sg_nu L i) = v1) → post (-1)) (H1 : ∀ i, i < L.length → nI (sg_nu L i) = v1 → (¬ ∃ j, j < (sg_T L i).length ∧ v2 = nI j) → post (-1))
    (H2 : ∀ i j, i < L.length → nI (sg_nu L i) = v1 → j < (sg_T L i).length → v2 = nI j → post (nI ((sg_T L i).getD j 8))) : wpY_at post u v1 v2 := by
  obtain ⟨f_documents, f_segments, f_numbers, f_words, f_kept, a_number, a_price, a_size, a_text, a_shelf, a_deleted, a_levels, a_pendingText, a_tokens, a_length, a_kinds, a_spans, a_weights, a_isSpan, a_matches, a_scores, a_news, a_newsCount, a_keptNumber, a_keptScore, a_shares, a_isHit, a_hitScore⟩ := u
  obtain ⟨⟨hD, hY⟩, hA, hP, hQ, hN, hK, hH⟩ := hu
  have hL := hG.1
  unfold wpY_at
  refine sg_yfind hL hD v1 (fun i hi e => br_f (nI_pos (by omega)) ?_) (fun h => br_t (by decide) (H0 h))
  obtain ⟨y1, y2, y3, y4, y5⟩ := hD.2 i hi
  have hT := sg_Gd_T hG i
  refine br_c (fun h => H1 i hi e ?_) (fun h => ⟨pk_in i 32 (by omega), ?_⟩)
  · rintro ⟨j, hj, rfl⟩; exact nI_pos (by omega) h
  · obtain ⟨j, hj, rfl⟩ := nI_of (x := v2) h
    have e1 : (12 : Int32) * nI i + nI j = nI (12 * i + j) := by rw [show (12 : Int32) * nI i = nI (12 * i) from pk_mul 12 i, nI_add]
    refine pk_lt j (sg_T L i).length (fun z => ⟨pk_in (12 * i + j) 384 (by omega) e1, ?_⟩) (fun z => H1 i hi e ?_) rfl (sg_rd i rfl (by omega) y3)
    · rw [sg_rd (f := a_text) (12 * i + j) e1 (by omega) (y4 j z)]
      exact H2 i j hi e z rfl
    · rintro ⟨k, hk, e2⟩
      rw [nI_eq hj (by omega)] at e2; omega
theorem sg_yhit {post : Int32 → Prop} {u : SY} {v1 v2 : Int32} (hk : K.length ≤ 10) (hu : sg_YR L S ad PT Q W N K Sh u)
    (H0 : (¬ ∃ j, j < K.length ∧ v1 = nI j) → post (-1)) (H1 : ∀ j, j < K.length → v1 = nI j → ¬ (0 ≤ v2 ∧ v2 ≤ 1) → post (-1))
    (H2 : ∀ j, j < K.length → v1 = nI j → v2 = 0 → post (nI (K.getD j (0, 0)).1)) (H3 : ∀ j, j < K.length → v1 = nI j → v2 = 1 → post (nI (K.getD j (0, 0)).2)) : wpY_hit post u v1 v2 := by
  obtain ⟨f_documents, f_segments, f_numbers, f_words, f_kept, a_number, a_price, a_size, a_text, a_shelf, a_deleted, a_levels, a_pendingText, a_tokens, a_length, a_kinds, a_spans, a_weights, a_isSpan, a_matches, a_scores, a_news, a_newsCount, a_keptNumber, a_keptScore, a_shares, a_isHit, a_hitScore⟩ := u
  obtain ⟨hC, hA, hP, hQ, hN, hK, hH⟩ := hu
  refine br_c (fun h => H0 ?_) (fun h => ?_)
  · rintro ⟨j, hj, rfl⟩; exact nI_pos (by omega) h
  · obtain ⟨j, hj, rfl⟩ := nI_of (x := v1) h
    refine pk_le K.length j (fun z => H0 ?_) (fun z => ?_) hK.1
    · rintro ⟨k, hk2, e⟩
      rw [nI_eq hj (by omega)] at e; omega
    · obtain ⟨y1, y2⟩ := hK.2 j z
      refine sg_within (fun h1 h2 => br_f (by decide) ?_) (fun hn => br_t rfl (H1 j z rfl hn))
      obtain ⟨c, hc, rfl⟩ := nI_of2 (M := 1) (n := 1) (by decide) (Int32.not_lt.mpr h1) h2
      refine pk_eq c 0 (fun q => ⟨pk_in j 10 (by omega), ?_⟩) (fun q => ⟨pk_in j 10 (by omega), ?_⟩)
      · rw [sg_rd (f := a_keptNumber) j rfl (by omega) y1]
        exact H2 j z rfl (by rw [q]; rfl)
      · rw [nI_clamp (show j < 2 ^ 31 by omega), y2, lN_i]
        exact H3 j z rfl (by rw [show c = 1 by omega]; rfl)
theorem sg_yshare {post : Int32 → Prop} {u : SY} {v1 : Int32} (hu : sg_YR L S ad PT Q W N K Sh u) (H0 : ¬ (0 ≤ v1 ∧ v1 ≤ 9) → post (-1)) (H1 : ∀ j, j < 10 → v1 = nI j → post (nI (Sh j))) : wpY_share post u v1 := by
  obtain ⟨f_documents, f_segments, f_numbers, f_words, f_kept, a_number, a_price, a_size, a_text, a_shelf, a_deleted, a_levels, a_pendingText, a_tokens, a_length, a_kinds, a_spans, a_weights, a_isSpan, a_matches, a_scores, a_news, a_newsCount, a_keptNumber, a_keptScore, a_shares, a_isHit, a_hitScore⟩ := u
  obtain ⟨hC, hA, hP, hQ, hN, hK, hH⟩ := hu
  unfold wpY_share
  refine sg_within (fun h1 h2 => br_f (by decide) ?_) (fun h => br_t rfl (H0 h))
  obtain ⟨c, hc, rfl⟩ := nI_of2 (M := 9) (n := 9) (by decide) (Int32.not_lt.mpr h1) h2
  refine ⟨pk_in c 10 (by omega), ?_⟩
  rw [sg_rd (f := a_shares) c rfl (by omega) (hH c (by omega))]
  exact H1 c (by omega) rfl
theorem sg_ynext {post : Int32 → SY → Prop} {u : SY} {v1 : Int32} (hu : sg_YR L S ad PT Q W N K Sh u) (H0 : ¬ (0 ≤ v1 ∧ v1 ≤ 3) → post (-1) u) (H1 : ∀ w, w < 4 → v1 = nI w → N w = [] → post (-1) u) (H2 : ∀ w u', w < 4 → v1 = nI w → N w ≠ [] → sg_YR L S ad PT Q W (sg_set N w (N w).tail) K Sh u' → post (nI ((N w).getD 0 0)) u') : wpY_next post u v1 := by
  obtain ⟨f_documents, f_segments, f_numbers, f_words, f_kept, a_number, a_price, a_size, a_text, a_shelf, a_deleted, a_levels, a_pendingText, a_tokens, a_length, a_kinds, a_spans, a_weights, a_isSpan, a_matches, a_scores, a_news, a_newsCount, a_keptNumber, a_keptScore, a_shares, a_isHit, a_hitScore⟩ := u
  obtain ⟨hC, hA, hP, hQ, hN, hK, hH⟩ := hu
  unfold wpY_next
  refine sg_within (fun h1 h2 => br_f (by decide) ?_) (fun h => br_t rfl (H0 h))
  obtain ⟨w, hw, rfl⟩ := nI_of2 (M := 3) (n := 3) (by decide) (Int32.not_lt.mpr h1) h2
  obtain ⟨a1, a2, a3⟩ := hN w (by omega)
  have e8 : (8 : Int32) * nI w = nI (8 * w) := pk_mul 8 w
  refine ⟨pk_in w 4 (by omega), pk_eq (N w).length 0 (fun z => H1 w (by omega) rfl (List.eq_nil_of_length_eq_zero z)) (fun z => ⟨pk_in (8 * w) 32 (by omega) e8, nm_r (sg_rd (8 * w) e8 (by omega) (a3 0 (by omega))) ?_⟩) (sg_rd w rfl (by omega) a1)⟩
  exact sg_ydrop (by omega) hN (by omega) (fun nw nc h => H2 w _ (by omega) rfl (fun q => z (by rw [q]; rfl)) (sg_YR_mk hC hA hP hQ h hK hH))
end
end
section
/-! Y: token, isExpression, move, watch -/
section
variable {f_documents f_segments f_numbers f_words f_kept : Int32} {a_number a_price a_size a_text a_shelf a_deleted a_levels a_pendingText a_tokens a_length a_kinds a_spans a_weights a_isSpan a_matches a_news a_newsCount a_keptNumber a_shares a_isHit : Nat → Int32} {a_scores a_keptScore a_hitScore : Nat → Int64}
variable {L : List sg_D} {S : List (Nat × Nat)} {ad : Nat} {PT Q : List Nat} {W N : Nat → List Nat} {K : List (Nat × Nat)} {Sh : Nat → Nat}
theorem sg_yi14 {post : Int32 → SY → Prop} {l n0 : Nat} (hl : l < 6) (hz : a_length l = nI n0) (hn0 : n0 ≤ 12) : ∀ (ts : List Nat) (k : Nat) (due : List Bool) (g : Nat → Int32), sg_At a_tokens (16 * l + k) ts → (∀ t, t ∈ ts → sg_tok t) → k + ts.length = n0 → due.length ≤ 1 + k → sg_Wd g due →
      (∀ g', post (sg_bi1 (sg_chk ts due)) (f_documents, f_segments, f_numbers, f_words, f_kept, a_number, a_price, a_size, a_text, a_shelf, a_deleted, a_levels, a_pendingText, a_tokens, a_length, g', a_spans, a_weights, a_isSpan, a_matches, a_scores, a_news, a_newsCount, a_keptNumber, a_keptScore, a_shares, a_isHit, a_hitScore)) → wY_isExpression_14 post (nI l) f_documents f_segments f_numbers f_words f_kept (ts.length + 1) (nI due.length) (nI (16 * l + k)) a_number a_price a_size a_text a_shelf a_deleted a_levels a_pendingText a_tokens a_length g a_spans a_weights a_isSpan a_matches a_scores a_news a_newsCount a_keptNumber a_keptScore a_shares a_isHit a_hitScore := by
  have ez : (16 : Int32) * nI l + a_length (nI l).toNatClampNeg = nI (16 * l + n0) := by
    rw [sg_rd (f := a_length) l rfl (by omega) hz, show (16 : Int32) * nI l = nI (16 * l) from pk_mul 16 l, nI_add]
  intro ts
  induction ts with
  | nil =>
    intro k due g hat htok hk hdue hW H
    have hk' : k = n0 := by simpa using hk
    refine And.intro (pk_in l 6 hl) (pk_le (16 * l + n0) (16 * l + k) (fun _ => pk_eq due.length 0 (fun z => ?_) (fun z => ?_)) (fun z => by omega) ez)
    · have : due = [] := List.eq_nil_of_length_eq_zero z
      subst this; exact H g
    · cases due with
      | nil => exact absurd rfl z
      | cons b r => exact H g
  | cons t ts ih =>
    intro k due g hat htok hk hdue hW H
    obtain ⟨hq, hr⟩ := sg_At_c hat
    have ht := htok t (List.mem_cons_self ..)
    have ht2 : t < 2 ^ 31 := by rcases ht with h | h <;> omega
    have hlen : (t :: ts).length = ts.length + 1 := rfl
    rw [hlen] at hk
    have nxt : ∀ due' g', due'.length ≤ 1 + (k + 1) → sg_Wd g' due' → sg_chk (t :: ts) due = sg_chk ts due' → wY_isExpression_14 post (nI l) f_documents f_segments f_numbers f_words f_kept (ts.length + 1) (nI due'.length) (nI (16 * l + k + 1)) a_number a_price a_size a_text a_shelf a_deleted a_levels a_pendingText a_tokens a_length g' a_spans a_weights a_isSpan a_matches a_scores a_news a_newsCount a_keptNumber a_keptScore a_shares a_isHit a_hitScore := by
      intro due' g' h1 h2 h3
      refine ih (k + 1) due' g' (by rw [show 16 * l + (k + 1) = 16 * l + k + 1 by omega]; exact hr) (fun u hu => htok u (List.mem_cons_of_mem _ hu)) (by omega) h1 h2 (fun g2 => ?_)
      rw [← h3]; exact H g2
    refine And.intro (pk_in l 6 hl) (pk_le (16 * l + n0) (16 * l + k) (fun z => by omega) (fun z => pk_eq due.length 0 (fun z1 => ?_) (fun z1 => ?_)) ez)
    · have : due = [] := List.eq_nil_of_length_eq_zero z1
      subst this; exact H g
    · obtain ⟨b, r, rfl⟩ : ∃ b r, due = b :: r := by
        cases due with
        | nil => exact absurd rfl z1
        | cons b r => exact ⟨b, r, rfl⟩
      have hrl : (b :: r).length = r.length + 1 := rfl
      rw [hrl] at hdue ⊢
      have eg : g (nI r.length).toNatClampNeg = sg_bi1 b := sg_rd r.length rfl (by omega) hW.1
      -- the loop of two
      have k98 : (b && !sg_ist t) = false → ∃ n98 : Nat, wY_isExpression_98 post (wY_isExpression_14 post (nI l) f_documents f_segments f_numbers f_words f_kept (ts.length + 1)) (nI l) (nI (16 * l + k)) (nI t) (sg_bi1 (sg_ist t)) f_documents f_segments f_numbers f_words f_kept n98 (nI r.length) 0 a_number a_price a_size a_text a_shelf a_deleted a_levels a_pendingText a_tokens a_length g a_spans a_weights a_isSpan a_matches a_scores a_news a_newsCount a_keptNumber a_keptScore a_shares a_isHit a_hitScore := by
        intro hc
        by_cases hop : t < 8 ∨ 999 < t
        · have he : sg_chk (t :: ts) (b :: r) = sg_chk ts r := by
            show (if (b && !sg_ist t) = true then false else if t < 8 ∨ 999 < t then sg_chk ts r else _) = _
            rw [hc, if_neg (by decide), if_pos hop]
          have hN := nxt r g (by omega) hW.2 he
          refine Exists.intro 1 (br_f (by decide) (pk_lt t 8 (fun _ => nm_r (nI_1 _) hN) (fun h8 => pk_lt 12 t (fun _ => nm_r (nI_1 _) hN) (fun h12 => by omega))))
        · have he : sg_chk (t :: ts) (b :: r) = sg_chk ts (sg_ist t :: sg_ist t :: r) := by
            show (if (b && !sg_ist t) = true then false else if t < 8 ∨ 999 < t then sg_chk ts r else _) = _
            rw [hc, if_neg (by decide), if_neg hop]
          have h12 : t ≤ 12 := by rcases ht with h | h <;> omega
          have hN := nxt (sg_ist t :: sg_ist t :: r) (upd (upd g r.length (sg_bi1 (sg_ist t))) (r.length + 1) (sg_bi1 (sg_ist t))) (by simp; omega) ⟨by show upd _ _ _ (r.length + 1) = _; rw [pk_us], by show upd _ _ _ r.length = _; rw [pk_un (by omega), pk_us], sg_Wd_eq (fun x hx => by rw [pk_un (by omega), pk_un (by omega)]) hW.2⟩ he
          have step : ∀ (m n : Nat) (g1 : Nat → Int32) (x7 x7' : Int32), ¬ (2 : Int32) ≤ x7 → x7 + 1 = x7' → m < 30 → wY_isExpression_98 post (wY_isExpression_14 post (nI l) f_documents f_segments f_numbers f_words f_kept (ts.length + 1)) (nI l) (nI (16 * l + k)) (nI t) (sg_bi1 (sg_ist t)) f_documents f_segments f_numbers f_words f_kept n (nI (m + 1)) x7' a_number a_price a_size a_text a_shelf a_deleted a_levels a_pendingText a_tokens a_length (upd g1 m (sg_bi1 (sg_ist t))) a_spans a_weights a_isSpan a_matches a_scores a_news a_newsCount a_keptNumber a_keptScore a_shares a_isHit a_hitScore → wY_isExpression_98 post (wY_isExpression_14 post (nI l) f_documents f_segments f_numbers f_words f_kept (ts.length + 1)) (nI l) (nI (16 * l + k)) (nI t) (sg_bi1 (sg_ist t)) f_documents f_segments f_numbers f_words f_kept (n + 1) (nI m) x7 a_number a_price a_size a_text a_shelf a_deleted a_levels a_pendingText a_tokens a_length g1 a_spans a_weights a_isSpan a_matches a_scores a_news a_newsCount a_keptNumber a_keptScore a_shares a_isHit a_hitScore := by
            intro m n g1 x7 x7' h7 h7' hm hK
            refine br_f h7 (pk_lt t 8 (fun h8 => by omega) (fun h8 => pk_lt 12 t (fun h13 => by omega) (fun h13 => nm_r (nI_1 m) ?_)))
            cases hi : sg_ist t
            · rw [hi] at hK
              exact br_t rfl ⟨pk_in m 30 hm, nm_r (sg_wr m rfl (by omega) rfl) (nm_r h7' hK)⟩
            · rw [hi] at hK
              exact br_f (by decide) ⟨pk_in m 30 hm, nm_r (sg_wr m rfl (by omega) rfl) (nm_r h7' hK)⟩
          refine Exists.intro 3 (step r.length 2 g 0 1 (by decide) (by decide) (by omega) (step (r.length + 1) 1 _ 1 2 (by decide) (by decide) (by omega) ?_))
          exact br_t (by decide) (nm_r (nI_1 _) hN)
      have k80 : wY_isExpression_80 post (wY_isExpression_14 post (nI l) f_documents f_segments f_numbers f_words f_kept (ts.length + 1)) (nI l) (nI r.length) (nI (16 * l + k)) (sg_bi1 b) (nI t) (sg_bi1 (sg_ist t)) f_documents f_segments f_numbers f_words f_kept a_number a_price a_size a_text a_shelf a_deleted a_levels a_pendingText a_tokens a_length g a_spans a_weights a_isSpan a_matches a_scores a_news a_newsCount a_keptNumber a_keptScore a_shares a_isHit a_hitScore := by
        cases b
        · exact br_f (by decide) (k98 rfl)
        · refine br_t rfl ?_
          cases hi : sg_ist t
          · have : sg_chk (t :: ts) (true :: r) = false := by
              show (if (true && !sg_ist t) = true then false else _) = false
              rw [hi]; rfl
            rw [this] at H
            exact br_t rfl (H g)
          · rw [hi] at k98
            exact br_f (by decide) (k98 rfl)
      refine nm_r (pk_m1 _) ⟨pk_in r.length 30 (by omega), nm_r eg ⟨pk_in (16 * l + k) 96 (by omega), nm_r (sg_rd (16 * l + k) rfl (by omega) hq) ?_⟩⟩
      refine pk_lt t 8 (fun h8 => ?_) (fun h8 => pk_eq t 11 (fun h11 => ?_) (fun h11 => pk_eq t 12 (fun h12 => ?_) (fun h12 => ?_)))
      · unfold wY_isExpression_75
        have : sg_ist t = true := decide_eq_true (by omega)
        rw [this] at k80; exact k80
      · unfold wY_isExpression_75
        have : sg_ist t = true := decide_eq_true (by omega)
        rw [this] at k80; exact k80
      · unfold wY_isExpression_75
        have : sg_ist t = true := decide_eq_true (by omega)
        rw [this] at k80; exact k80
      · have : sg_ist t = false := decide_eq_false (by omega)
        rw [this] at k80; exact k80
theorem sg_yisExpr {post : Int32 → SY → Prop} {l : Nat} (hl : l < 6) (hz : a_length l = nI Q.length) (hat : sg_At a_tokens (16 * l) Q) (htok : ∀ t, t ∈ Q → sg_tok t) (h12 : Q.length ≤ 12) (H : ∀ g, post (sg_bi1 (sg_chk Q [false])) (f_documents, f_segments, f_numbers, f_words, f_kept, a_number, a_price, a_size, a_text, a_shelf, a_deleted, a_levels, a_pendingText, a_tokens, a_length, g, a_spans, a_weights, a_isSpan, a_matches, a_scores, a_news, a_newsCount, a_keptNumber, a_keptScore, a_shares, a_isHit, a_hitScore)) : wpY_isExpression post (f_documents, f_segments, f_numbers, f_words, f_kept, a_number, a_price, a_size, a_text, a_shelf, a_deleted, a_levels, a_pendingText, a_tokens, a_length, a_kinds, a_spans, a_weights, a_isSpan, a_matches, a_scores, a_news, a_newsCount, a_keptNumber, a_keptScore, a_shares, a_isHit, a_hitScore) (nI l) := by
  unfold wpY_isExpression
  refine nm_e (nm_r (e' := nI (16 * l)) (pk_mul 16 l) (Exists.intro (Q.length + 1) ?_))
  exact sg_yi14 (post := post) hl hz h12 Q 0 [false] (upd a_kinds 0 0) hat htok (by omega) (by simp) ⟨by show upd _ _ _ 0 = _; rw [pk_us]; rfl, trivial⟩ H
theorem sg_ymove {post : SY → Prop} {l : Nat} (hl1 : 1 ≤ l) (hl : l < 6) (hz : a_length 0 = nI Q.length) (hat : sg_At a_tokens 0 Q) (h12 : Q.length ≤ 12)
    (H : ∀ tk, sg_At tk (16 * l) Q → (∀ x, x < 16 * l ∨ 16 * l + 16 ≤ x → tk x = a_tokens x) → post (f_documents, f_segments, f_numbers, f_words, f_kept, a_number, a_price, a_size, a_text, a_shelf, a_deleted, a_levels, a_pendingText, tk, upd (upd a_length l (nI Q.length)) 0 0, a_kinds, a_spans, a_weights, a_isSpan, a_matches, a_scores, a_news, a_newsCount, a_keptNumber, a_keptScore, a_shares, a_isHit, a_hitScore)) : wpY_move post (f_documents, f_segments, f_numbers, f_words, f_kept, a_number, a_price, a_size, a_text, a_shelf, a_deleted, a_levels, a_pendingText, a_tokens, a_length, a_kinds, a_spans, a_weights, a_isSpan, a_matches, a_scores, a_news, a_newsCount, a_keptNumber, a_keptScore, a_shares, a_isHit, a_hitScore) (nI l) := by
  have key : ∀ n k tk, k + n = Q.length → (∀ i, i < k → tk (16 * l + i) = nI (Q.getD i 0)) → (∀ x, x < 16 * l ∨ 16 * l + 16 ≤ x → tk x = a_tokens x) → wY_move_2 post (nI l) f_documents f_segments f_numbers f_words f_kept (n + 1) (nI k) a_number a_price a_size a_text a_shelf a_deleted a_levels a_pendingText tk a_length a_kinds a_spans a_weights a_isSpan a_matches a_scores a_news a_newsCount a_keptNumber a_keptScore a_shares a_isHit a_hitScore := by
    intro n
    induction n with
    | zero =>
      intro k tk hk h1 h2
      obtain rfl : k = Q.length := by omega
      refine pk_le Q.length Q.length (fun _ => ⟨pk_in l 6 hl, nm_r (sg_wr l rfl (by omega) hz) (nm_e (H tk (fun i hi => h1 i hi) h2))⟩) (fun z => by omega) hz
    | succ n ih =>
      intro k tk hk h1 h2
      have e1 : (16 : Int32) * nI l + nI k = nI (16 * l + k) := by rw [show (16 : Int32) * nI l = nI (16 * l) from pk_mul 16 l, nI_add]
      have er : tk k = nI (Q.getD k 0) := by
        rw [h2 k (by omega)]
        have := hat k (by omega)
        rw [Nat.zero_add] at this; exact this
      refine pk_le Q.length k (fun z => by omega) (fun z => ⟨pk_in k 96 (by omega), pk_in (16 * l + k) 96 (by omega) e1, nm_r (sg_wr (16 * l + k) e1 (by omega) (sg_rd k rfl (by omega) er)) (nm_r (nI_1 k) (ih (k + 1) _ (by omega) (fun i hi => ?_) (fun x hx => ?_)))⟩) hz
      · by_cases y : i = k
        · rw [y, pk_us]
        · rw [pk_un (by omega)]; exact h1 i (by omega)
      · rw [pk_un (by omega)]; exact h2 x hx
  exact Exists.intro (Q.length + 1) (key Q.length 0 a_tokens (by omega) (fun i hi => by omega) (fun x _ => rfl))
theorem sg_ytoken {post : Int32 → SY → Prop} {u : SY} {v : Int32} (hq : sg_Gq Q W) (hu : sg_YR L S ad PT Q W N K Sh u) (H0 : (¬ ∃ t, sg_tok t ∧ v = nI t) → post (-1) u) (H1 : ∀ t, sg_tok t → v = nI t → Q.length = 12 → post (-1) u) (H2 : ∀ t u', sg_tok t → v = nI t → Q.length < 12 → sg_YR L S ad PT (Q ++ [t]) W N K Sh u' → post (nI (Q.length + 1)) u') : wpY_token post u v := by
  obtain ⟨f_documents, f_segments, f_numbers, f_words, f_kept, a_number, a_price, a_size, a_text, a_shelf, a_deleted, a_levels, a_pendingText, a_tokens, a_length, a_kinds, a_spans, a_weights, a_isSpan, a_matches, a_scores, a_news, a_newsCount, a_keptNumber, a_keptScore, a_shares, a_isHit, a_hitScore⟩ := u
  obtain ⟨hC, hA, hP, hQ, hN, hK, hH⟩ := hu
  have hq1 := hq.1
  have good : ∀ t, sg_tok t → v = nI t → wY_token_23 post v f_documents f_segments f_numbers f_words f_kept a_number a_price a_size a_text a_shelf a_deleted a_levels a_pendingText a_tokens a_length a_kinds a_spans a_weights a_isSpan a_matches a_scores a_news a_newsCount a_keptNumber a_keptScore a_shares a_isHit a_hitScore := by
    intro t ht hv
    subst hv
    refine pk_eq Q.length 12 (fun z => H1 t ht rfl z) (fun z => nm_r (e' := upd a_length 0 (nI (Q.length + 1))) ?_ ⟨pk_in Q.length 96 (by omega) hQ.2.1, nm_r (sg_wr Q.length hQ.2.1 (by omega) rfl) ?_⟩) hQ.2.1
    · rw [hQ.2.1, nI_1]
    · rw [pk_us]
      refine H2 t _ ht rfl (by omega) (sg_YR_mk hC hA hP ⟨fun k hk => ?_, by rw [pk_us, List.length_append]; rfl, fun w hw => ?_⟩ hN hK hH)
      · rw [List.length_append, List.length_singleton] at hk
        rw [List.getD_eq_getElem?_getD]
        by_cases e : k = Q.length
        · rw [e, Nat.zero_add, pk_us, List.getElem?_append_right (Nat.le_refl _), Nat.sub_self]; rfl
        · rw [pk_un (by omega), List.getElem?_append_left (by omega), hQ.1 k (by omega), List.getD_eq_getElem?_getD]
      · rw [pk_un (by omega)]
        exact ⟨sg_At_u (hQ.2.2 w hw).1 (by omega), (hQ.2.2 w hw).2⟩
  unfold wpY_token
  refine sg_within (fun h1 h2 => br_f (by decide) ?_) (fun h => br_t rfl (sg_within (fun h1 h2 => br_f (by decide) ?_) (fun h2 => br_t rfl (H0 ?_))))
  · obtain ⟨t, ht, rfl⟩ := nI_of2 (M := 12) (n := 12) (by decide) (Int32.not_lt.mpr h1) h2
    exact good t (Or.inl (by omega)) rfl
  · have hnn : ¬ v < 0 := fun q => Int32.not_lt.mpr (Int32.le_trans (show (0 : Int32) ≤ 1000 by decide) h1) q
    obtain ⟨t, ht, rfl⟩ := nI_of2 (M := 10999) (n := 10999) (by decide) hnn h2
    rw [show (1000 : Int32) = nI 1000 from rfl, nI_leI (by omega) (by omega)] at h1
    exact good t (Or.inr ⟨h1, by omega⟩) rfl
  · rintro ⟨t, ht, rfl⟩
    rcases ht with ht | ht
    · exact h ⟨nI_pos' (by omega), nI_le (b := 12) (by omega) (by omega)⟩
    · exact h2 ⟨nI_le (a := 1000) (by omega) (by omega), nI_le (b := 10999) (by omega) (by omega)⟩
theorem sg_ywatch {post : Int32 → SY → Prop} {u : SY} {v : Int32} (hq : sg_Gq Q W) (hu : sg_YR L S ad PT Q W N K Sh u) (H0 : ¬ (0 ≤ v ∧ v ≤ 3) → post (-1) u)
    (H1 : ∀ w u', w < 4 → v = nI w → Q ≠ [] → sg_chk Q [false] = false → sg_YR L S ad PT [] W N K Sh u' → post (-3) u')
    (H2 : ∀ w u', w < 4 → v = nI w → (Q = [] ∨ sg_chk Q [false] = true) → sg_YR L S ad PT [] (sg_set W w Q) (sg_set N w []) K Sh u' → post (nI Q.length) u') : wpY_watch post u v := by
  obtain ⟨f_documents, f_segments, f_numbers, f_words, f_kept, a_number, a_price, a_size, a_text, a_shelf, a_deleted, a_levels, a_pendingText, a_tokens, a_length, a_kinds, a_spans, a_weights, a_isSpan, a_matches, a_scores, a_news, a_newsCount, a_keptNumber, a_keptScore, a_shares, a_isHit, a_hitScore⟩ := u
  obtain ⟨hC, hA, hP, hQ, hN, hK, hH⟩ := hu
  have hq1 := hq.1
  unfold wpY_watch
  refine sg_within (fun h1 h2 => br_f (by decide) ?_) (fun h => br_t rfl (H0 h))
  obtain ⟨w, hw, rfl⟩ := nI_of2 (M := 3) (n := 3) (by decide) (Int32.not_lt.mpr h1) h2
  have hw4 : w < 4 := by omega
  have e1 : (1 : Int32) + nI w = nI (1 + w) := nI_add 1 w
  have yes : ∀ kd, (Q = [] ∨ sg_chk Q [false] = true) → wY_watch_28 post (nI w) f_documents f_segments f_numbers f_words f_kept a_number a_price a_size a_text a_shelf a_deleted a_levels a_pendingText a_tokens a_length kd a_spans a_weights a_isSpan a_matches a_scores a_news a_newsCount a_keptNumber a_keptScore a_shares a_isHit a_hitScore := by
    intro kd hc
    unfold wY_watch_28
    refine br_f (by decide) ?_
    rw [e1]
    refine sg_ymove (l := 1 + w) (by omega) (by omega) hQ.2.1 hQ.1 hq1 (fun tk t1 t2 => ⟨pk_in w 4 hw4, nm_r (sg_wr w rfl (by omega) rfl) ?_⟩)
    unfold wY_watch_52
    refine nm_e (br_f (by decide) ⟨pk_in (1 + w) 6 (by omega) e1, ?_⟩)
    rw [sg_rd (f := upd (upd (upd a_length (1 + w) (nI Q.length)) 0 0) 0 0) (1 + w) e1 (by omega) (v := nI Q.length) (by rw [pk_un (by omega), pk_un (by omega), pk_us])]
    refine H2 w _ hw4 rfl hc (sg_YR_mk hC hA hP ⟨(fun k hk => by cases hk), by rw [pk_us]; rfl, fun w' hw' => ?_⟩ (fun w' hw' => ?_) hK hH)
    · rw [pk_un (by omega), pk_un (by omega)]
      by_cases e : w' = w
      · subst e
        rw [pk_us, sg_set_s]; exact ⟨t1, rfl⟩
      · rw [pk_un (by omega), sg_set_n e]
        refine ⟨fun k hk => ?_, (hQ.2.2 w' hw').2⟩
        have := (hq.2.2 w' hw').1
        rw [t2 _ (by omega)]; exact (hQ.2.2 w' hw').1 k hk
    · by_cases e : w' = w
      · subst e
        rw [pk_us, sg_set_s]; exact ⟨rfl, by simp, fun i hi => by cases hi⟩
      · rw [pk_un e, sg_set_n e]; exact hN w' hw'
  refine pk_eq Q.length 0 (fun z => yes _ (Or.inl (List.eq_nil_of_length_eq_zero z))) (fun z => ?_) hQ.2.1
  have hne : Q ≠ [] := fun e => z (by rw [e]; rfl)
  refine sg_yisExpr (l := 0) (by omega) hQ.2.1 hQ.1 hq.2.1 hq1 (fun g => ?_)
  cases hc : sg_chk Q [false]
  · refine br_t rfl ?_
    unfold wY_watch_33
    refine br_t rfl ?_
    unfold wY_watch_52
    refine nm_e (br_t rfl (H1 w _ hw4 rfl hne hc (sg_YR_mk hC hA hP ⟨(fun k hk => by cases hk), by rw [pk_us]; rfl, fun w' hw' => ?_⟩ hN hK hH)))
    rw [pk_un (by omega)]; exact hQ.2.2 w' hw'
  · exact br_f (by decide) (yes _ (Or.inr hc))
end
end
section
/-! Y: precedes, look -/
theorem sg_lneg {a b : Nat} (ha : a < 2 ^ 31) (hb : b < 2 ^ 31) : (-lN a < -lN b ↔ b < a) ∧ (-lN a = -lN b ↔ a = b) := by
  have h : ∀ c, c < 2 ^ 31 → (-lN c).toInt = -(c : Int) := by
    intro c hc
    rw [Int64.toInt_neg, lN_toInt hc]
    exact Int.bmod_eq_of_le (by omega) (by omega)
  constructor
  · rw [Int64.lt_iff_toInt_lt, h a ha, h b hb]; omega
  · rw [← Int64.toInt_inj, h a ha, h b hb]; omega
section
variable {f_documents f_segments f_numbers f_words f_kept : Int32} {a_number a_price a_size a_text a_shelf a_deleted a_levels a_pendingText a_tokens a_length a_kinds a_spans a_weights a_isSpan a_matches a_news a_newsCount a_keptNumber a_shares a_isHit : Nat → Int32} {a_scores a_keptScore a_hitScore : Nat → Int64}
variable {L : List sg_D} {S : List (Nat × Nat)} {ad : Nat} {PT Q : List Nat} {W N : Nat → List Nat} {K : List (Nat × Nat)} {Sh : Nat → Nat}
theorem sg_yprec {post : Int32 → Prop} {k d : Nat} {bp : Int32} {e : List Nat} (hk : k < 32) (hd : d < 32) (hkp : a_price k = nI (sg_pr L k)) (hdp : a_price d = nI (sg_pr L d)) (hp9 : ∀ i, sg_pr L i ≤ 99) (hkh : a_hitScore k = lN (sg_scr L S e k)) (hdh : a_hitScore d = lN (sg_scr L S e d)) (hsb : ∀ i, sg_scr L S e i < 2 ^ 31)
    (H : post (sg_bi1 (decide (sg_key L S e bp d < sg_key L S e bp k) || (decide (sg_key L S e bp k = sg_key L S e bp d) && decide (k < d))))) : wpY_precedes post (f_documents, f_segments, f_numbers, f_words, f_kept, a_number, a_price, a_size, a_text, a_shelf, a_deleted, a_levels, a_pendingText, a_tokens, a_length, a_kinds, a_spans, a_weights, a_isSpan, a_matches, a_scores, a_news, a_newsCount, a_keptNumber, a_keptScore, a_shares, a_isHit, a_hitScore) (nI k) (nI d) bp := by
  have h9k := hp9 k
  have h9d := hp9 d
  have hsk := hsb k
  have hsd := hsb d
  have ck : (nI k).toNatClampNeg = k := nI_clamp (by omega)
  have cd : (nI d).toNatClampNeg = d := nI_clamp (by omega)
  have fin : ∀ x y : Int64, (x < y ↔ sg_key L S e bp d < sg_key L S e bp k) → (x = y ↔ sg_key L S e bp k = sg_key L S e bp d) → wY_precedes_44 post (nI k) (nI d) x y f_documents f_segments f_numbers f_words f_kept a_number a_price a_size a_text a_shelf a_deleted a_levels a_pendingText a_tokens a_length a_kinds a_spans a_weights a_isSpan a_matches a_scores a_news a_newsCount a_keptNumber a_keptScore a_shares a_isHit a_hitScore := by
    intro x y h1 h2
    refine ek_if h1 (fun q => ?_) (fun q => ek_if h2 (fun q2 => pk_le d k (fun q3 => ?_) (fun q3 => ?_)) (fun q2 => ?_))
    · rw [decide_eq_true q] at H; exact H
    · rw [decide_eq_false q, decide_eq_false (show ¬ k < d by omega), Bool.and_false] at H; exact H
    · rw [decide_eq_true q2, decide_eq_true q3, Bool.and_true, Bool.or_true] at H; exact H
    · rw [decide_eq_false q, decide_eq_false q2] at H; exact H
  unfold sg_key at fin
  by_cases hb : bp = 0
  · rw [if_pos hb, if_pos hb] at fin
    refine br_t hb ⟨pk_in k 32 hk, ?_⟩
    unfold wY_precedes_21
    refine br_t hb ⟨pk_in d 32 hd, ?_⟩
    rw [ck, cd, hkh, hdh]
    obtain ⟨n1, n2⟩ := sg_lneg hsk hsd
    exact fin _ _ (n1.trans (by omega)) (n2.trans (by omega))
  · rw [if_neg hb, if_neg hb] at fin
    refine br_f hb ⟨pk_in k 32 hk, ?_⟩
    unfold wY_precedes_21
    refine br_f hb ⟨pk_in d 32 hd, ?_⟩
    rw [ck, cd, hkp, hdp, nI_l (by omega), nI_l (by omega)]
    exact fin _ _ ((lN_lt (by omega) (by omega)).trans (by omega)) ((lN_eq (by omega) (by omega)).trans (by omega))
theorem sg_ylook {post : Int32 → SY → Prop} {lim ex : Nat} {bp exv : Int32} {e : List Nat} (hG : sg_Gd L S ad) (hS : sg_Gs L.length S) (hC : sg_YC L S f_documents f_segments a_number a_price a_size a_text a_shelf a_deleted a_levels) (hE : sg_Ex e) (hl : e.length ≤ 15) (hz : a_length 5 = nI e.length) (hat : sg_At a_tokens 80 e) (hlim : lim ≤ 10) (hex : ∀ d, d < 32 → (nI d = exv ↔ d = ex)) (hsb : ∀ i, sg_scr L S e i < 2 ^ 31) (hKK : sg_KK (sg_hit L S e ex) (sg_key L S e bp) (sg_nu L) (sg_scr L S e) lim L.length K)
    (H : ∀ kd sp wt is ma sc fk kn ks sh ih hs, sg_YK K fk kn ks → sg_XH (sg_shr L (sg_hit L S e ex) L.length) sh → post (nI (sg_c (sg_hit L S e ex) L.length)) (f_documents, f_segments, f_numbers, f_words, fk, a_number, a_price, a_size, a_text, a_shelf, a_deleted, a_levels, a_pendingText, a_tokens, a_length, kd, sp, wt, is, ma, sc, a_news, a_newsCount, kn, ks, sh, ih, hs)) : wpY_look post (f_documents, f_segments, f_numbers, f_words, f_kept, a_number, a_price, a_size, a_text, a_shelf, a_deleted, a_levels, a_pendingText, a_tokens, a_length, a_kinds, a_spans, a_weights, a_isSpan, a_matches, a_scores, a_news, a_newsCount, a_keptNumber, a_keptScore, a_shares, a_isHit, a_hitScore) exv (nI lim) bp := by
  obtain ⟨hD, hY⟩ := hC
  have hL := hG.1
  have hst := hS.2.1
  have hsh := sg_YS_sh hS hY
  have hT := sg_Gd_T hG
  have hp9 := sg_Gd_p hG
  have hcl : sg_c (sg_hit L S e ex) L.length ≤ L.length := sg_c_le _ _
  -- the count before one
  have k211 : ∀ kd sp wt is ma sc fk kn ks sh ih hs d (J : Int32 → (Nat → Int32) → (Nat → Int32) → (Nat → Int32) → (Nat → Int32) → (Nat → Int32) → (Nat → Int32) → (Nat → Int32) → (Nat → Int32) → (Nat → Int32) → (Nat → Int32) → (Nat → Int32) → (Nat → Int32) → (Nat → Int32) → (Nat → Int32) → (Nat → Int32) → (Nat → Int64) → (Nat → Int32) → (Nat → Int32) → (Nat → Int32) → (Nat → Int64) → (Nat → Int32) → (Nat → Int32) → (Nat → Int64) → Prop), d < L.length → sg_hit L S e ex d = true → (∀ x, x < L.length → ih x = sg_bi1 (sg_hit L S e ex x)) → (∀ x, x < L.length → sg_hit L S e ex x = true → hs x = lN (sg_scr L S e x)) →
      (sg_rk (sg_hit L S e ex) (sg_key L S e bp) L.length d < lim → J (nI (d + 1)) a_number a_price a_size a_text a_shelf a_deleted a_levels a_pendingText a_tokens a_length kd sp wt is ma sc a_news a_newsCount (upd kn (sg_rk (sg_hit L S e ex) (sg_key L S e bp) L.length d) (nI (sg_nu L d))) (vp_updL ks (sg_rk (sg_hit L S e ex) (sg_key L S e bp) L.length d) (lN (sg_scr L S e d))) sh ih hs) → (¬ sg_rk (sg_hit L S e ex) (sg_key L S e bp) L.length d < lim → J (nI (d + 1)) a_number a_price a_size a_text a_shelf a_deleted a_levels a_pendingText a_tokens a_length kd sp wt is ma sc a_news a_newsCount kn ks sh ih hs) →
      ∀ x4 k q, q + k = L.length → wY_look_211 post J (nI lim) bp x4 (nI d) f_documents f_segments f_numbers f_words fk a_number a_price a_size a_text a_shelf a_deleted a_levels a_pendingText a_tokens a_length kd sp wt is ma sc a_news a_newsCount kn ks sh ih hs (k + 1) (nI (sg_rk (sg_hit L S e ex) (sg_key L S e bp) q d)) (nI q) := by
    intro kd sp wt is ma sc fk kn ks sh ih hs d J hd hhd hih hhs J1 J2 x4 k
    induction k with
    | zero =>
      intro q hq
      obtain rfl : q = L.length := by omega
      have hrl : sg_rk (sg_hit L S e ex) (sg_key L S e bp) L.length d ≤ L.length := sg_c_le _ _
      refine pk_le L.length L.length (fun _ => pk_lt (sg_rk (sg_hit L S e ex) (sg_key L S e bp) L.length d) lim (fun z => ⟨pk_in d 32 (by omega), pk_in (sg_rk (sg_hit L S e ex) (sg_key L S e bp) L.length d) 10 (by omega), nm_r (sg_wr (sg_rk (sg_hit L S e ex) (sg_key L S e bp) L.length d) rfl (by omega) (sg_rd d rfl (by omega) (show a_number d = nI (sg_nu L d) from (hD.2 d hd).1))) ⟨pk_in d 32 (by omega), pk_in (sg_rk (sg_hit L S e ex) (sg_key L S e bp) L.length d) 10 (by omega), nm_r (e' := vp_updL ks (sg_rk (sg_hit L S e ex) (sg_key L S e bp) L.length d) (lN (sg_scr L S e d))) ?_ (nm_r (nI_1 d) (J1 z))⟩⟩) (fun z => nm_r (nI_1 d) (J2 (by omega)))) (fun z => by omega) hD.1
      rw [nI_clamp (show d < 2 ^ 31 by omega), nI_clamp (show sg_rk (sg_hit L S e ex) (sg_key L S e bp) L.length d < 2 ^ 31 by omega), hhs d hd hhd]
    | succ k ih2 =>
      intro q hq
      have hql : q < L.length := by omega
      have hn := ih2 (q + 1) (by omega)
      have hrs : sg_rk (sg_hit L S e ex) (sg_key L S e bp) (q + 1) d = sg_rk (sg_hit L S e ex) (sg_key L S e bp) q d + (sg_pc (sg_hit L S e ex) (sg_key L S e bp) q d).toNat := rfl
      refine pk_le L.length q (fun z => by omega) (fun z => ⟨pk_in q 32 (by omega), ?_⟩) hD.1
      rw [nI_clamp (show q < 2 ^ 31 by omega), hih q hql]
      cases hc : sg_hit L S e ex q
      · have e0 : sg_pc (sg_hit L S e ex) (sg_key L S e bp) q d = false := by unfold sg_pc; rw [hc]; rfl
        rw [e0] at hrs
        rw [hrs] at hn
        exact br_t rfl (nm_r (nI_1 q) hn)
      · refine br_f (by decide) (sg_yprec (L := L) (S := S) (e := e) (by omega) (by omega) (show a_price q = nI (sg_pr L q) from (hD.2 q hql).2.1) (show a_price d = nI (sg_pr L d) from (hD.2 d hd).2.1) hp9 (hhs q hql hc) (hhs d hd hhd) hsb ?_)
        have e0 : sg_pc (sg_hit L S e ex) (sg_key L S e bp) q d = (decide (sg_key L S e bp d < sg_key L S e bp q) || (decide (sg_key L S e bp q = sg_key L S e bp d) && decide (q < d))) := by unfold sg_pc; rw [hc]; rfl
        rw [← e0]
        cases hc2 : sg_pc (sg_hit L S e ex) (sg_key L S e bp) q d
        · rw [hc2] at hrs
          rw [hrs] at hn
          exact br_t rfl (nm_r (nI_1 q) hn)
        · rw [hc2] at hrs
          rw [hrs] at hn
          exact br_f (by decide) (nm_r (nI_1 _) (nm_r (nI_1 q) hn))
  -- the kept ones
  have k183 : ∀ kd sp wt is ma sc sh ih hs, (∀ x, x < L.length → ih x = sg_bi1 (sg_hit L S e ex x)) → (∀ x, x < L.length → sg_hit L S e ex x = true → hs x = lN (sg_scr L S e x)) → sg_XH (sg_shr L (sg_hit L S e ex) L.length) sh → ∀ k d kn ks, d + k = L.length → (∀ x, x < d → sg_hit L S e ex x = true → sg_rk (sg_hit L S e ex) (sg_key L S e bp) L.length x < lim → kn (sg_rk (sg_hit L S e ex) (sg_key L S e bp) L.length x) = nI (sg_nu L x) ∧ ks (sg_rk (sg_hit L S e ex) (sg_key L S e bp) L.length x) = lN (sg_scr L S e x)) → wY_look_183 post (nI lim) bp (nI (sg_c (sg_hit L S e ex) L.length)) f_documents f_segments f_numbers f_words (nI K.length) (k + 1) (nI d) a_number a_price a_size a_text a_shelf a_deleted a_levels a_pendingText a_tokens a_length kd sp wt is ma sc a_news a_newsCount kn ks sh ih hs := by
    intro kd sp wt is ma sc sh ih hs hih hhs hXH k
    induction k with
    | zero =>
      intro d kn ks hd h1
      obtain rfl : d = L.length := by omega
      refine pk_le L.length L.length (fun _ => H _ _ _ _ _ _ _ _ _ _ _ _ ⟨rfl, fun r hr => ?_⟩ hXH) (fun z => by omega) hD.1
      obtain ⟨x, x1, x2, x3, x4⟩ := hKK.2 r hr
      have := h1 x x1 x2 (by rw [x3]; have := hKK.1; omega)
      rw [x3] at this
      rw [x4]; exact this
    | succ k ih2 =>
      intro d kn ks hd h1
      have hdl : d < L.length := by omega
      refine pk_le L.length d (fun z => by omega) (fun z => ⟨pk_in d 32 (by omega), ?_⟩) hD.1
      rw [nI_clamp (show d < 2 ^ 31 by omega), hih d hdl]
      cases hc : sg_hit L S e ex d
      · refine br_t rfl (nm_r (nI_1 d) (ih2 (d + 1) kn ks (by omega) (fun x hx hhx hrx => ?_)))
        by_cases y : x = d
        · rw [y, hc] at hhx; cases hhx
        · exact h1 x (by omega) hhx hrx
      · refine br_f (by decide) (Exists.intro (L.length + 1) (k211 kd sp wt is ma sc _ kn ks sh ih hs d _ hdl hc hih hhs (fun hr => ih2 (d + 1) _ _ (by omega) (fun x hx hhx hrx => ?_)) (fun hr => ih2 (d + 1) kn ks (by omega) (fun x hx hhx hrx => ?_)) _ L.length 0 (by omega)))
        · by_cases y : x = d
          · rw [y, pk_us, pk_uLs]; exact ⟨rfl, rfl⟩
          · have hne : sg_rk (sg_hit L S e ex) (sg_key L S e bp) L.length x ≠ sg_rk (sg_hit L S e ex) (sg_key L S e bp) L.length d := fun q => y (sg_rk_inj (by omega) hdl hhx hc q)
            rw [pk_un hne, pk_uLn hne]
            exact h1 x (by omega) hhx hrx
        · by_cases y : x = d
          · rw [y] at hrx; exact absurd hrx hr
          · exact h1 x (by omega) hhx hrx
  -- the hits
  have k30 : ∀ k d kd sp wt is ma sc sh ih hs, d + k = L.length → (∀ x, x < d → ih x = sg_bi1 (sg_hit L S e ex x)) → (∀ x, x < d → sg_hit L S e ex x = true → hs x = lN (sg_scr L S e x)) → (∀ j, j < 10 → sh j = nI (sg_shr L (sg_hit L S e ex) d j)) → wY_look_30 post exv (nI lim) bp (k + 1) (nI (sg_c (sg_hit L S e ex) d)) (nI d) f_documents f_segments f_numbers f_words f_kept a_number a_price a_size a_text a_shelf a_deleted a_levels a_pendingText a_tokens a_length kd sp wt is ma sc a_news a_newsCount a_keptNumber a_keptScore sh ih hs := by
    intro k
    induction k with
    | zero =>
      intro d kd sp wt is ma sc sh ih hs hd h1 h2 h3
      obtain rfl : d = L.length := by omega
      have hKl := hKK.1
      have go : ∃ n183 : Nat, wY_look_183 post (nI lim) bp (nI (sg_c (sg_hit L S e ex) L.length)) f_documents f_segments f_numbers f_words (nI K.length) n183 0 a_number a_price a_size a_text a_shelf a_deleted a_levels a_pendingText a_tokens a_length kd sp wt is ma sc a_news a_newsCount a_keptNumber a_keptScore sh ih hs :=
        Exists.intro (L.length + 1) (k183 kd sp wt is ma sc sh ih hs h1 h2 h3 L.length 0 a_keptNumber a_keptScore (by omega) (fun x hx => by omega))
      refine pk_le L.length L.length (fun _ => pk_le lim (sg_c (sg_hit L S e ex) L.length) (fun q => ?_) (fun q => ?_)) (fun z => by omega) hD.1
      · rw [show K.length = lim by omega] at go; exact go
      · rw [show K.length = sg_c (sg_hit L S e ex) L.length by omega] at go; exact go
    | succ k ih2 =>
      intro d kd sp wt is ma sc sh ih hs hd h1 h2 h3
      have hdl : d < L.length := by omega
      have hcs : sg_c (sg_hit L S e ex) (d + 1) = sg_c (sg_hit L S e ex) d + (sg_hit L S e ex d).toNat := rfl
      have no : ∀ kd sp wt is ma sc hs' ih', (∀ x, x < d → hs' x = hs x) → (∀ x, x < d → ih' x = ih x) → ih' d = 0 → sg_hit L S e ex d = false → wY_look_30 post exv (nI lim) bp (k + 1) (nI (sg_c (sg_hit L S e ex) d)) (nI (d + 1)) f_documents f_segments f_numbers f_words f_kept a_number a_price a_size a_text a_shelf a_deleted a_levels a_pendingText a_tokens a_length kd sp wt is ma sc a_news a_newsCount a_keptNumber a_keptScore sh ih' hs' := by
        intro kd sp wt is ma sc hs' ih' e1 e2 e3 hh
        rw [hh] at hcs
        have := ih2 (d + 1) kd sp wt is ma sc sh ih' hs' (by omega) (fun x hx => ?_) (fun x hx hhx => ?_) (fun j hj => ?_)
        · rw [hcs] at this; exact this
        · by_cases y : x = d
          · rw [y, e3, hh]; rfl
          · rw [e2 x (by omega)]; exact h1 x (by omega)
        · by_cases y : x = d
          · rw [y, hh] at hhx; cases hhx
          · rw [e1 x (by omega)]; exact h2 x (by omega) hhx
        · rw [h3 j hj, sg_shr_s, hh]; rfl
      have no75 : sg_hit L S e ex d = false → wY_look_75 post (wY_look_30 post exv (nI lim) bp (k + 1)) exv (nI lim) bp (nI (sg_c (sg_hit L S e ex) d)) (nI d) (nI d) f_documents f_segments f_numbers f_words f_kept a_number a_price a_size a_text a_shelf a_deleted a_levels a_pendingText a_tokens a_length kd sp wt is ma sc a_news a_newsCount a_keptNumber a_keptScore sh ih hs := by
        intro hh
        unfold wY_look_75
        refine And.intro (pk_in d 32 (by omega)) (nm_r (sg_wr d rfl (by omega) sg_nbool0) ⟨pk_in d 32 (by omega), ?_⟩)
        rw [sg_rd (f := upd ih d 0) d rfl (by omega) pk_us]
        exact br_t rfl (nm_r (nI_1 d) (no _ _ _ _ _ _ hs (upd ih d 0) (fun x _ => rfl) (fun x hx => pk_un (by omega)) pk_us hh))
      refine pk_le L.length d (fun z => by omega) (fun z => ⟨pk_in d 32 (by omega), ?_⟩) hD.1
      rw [nI_clamp (show d < 2 ^ 31 by omega)]
      refine br_c (fun q => no75 ?_) (fun q => ⟨pk_in d 32 (by omega), ?_⟩)
      · unfold sg_hit
        rw [decide_eq_false (fun w => (hsh.2 d hdl).1 w q)]; rfl
      · have hds : d < sg_st S := by
          rcases Nat.lt_or_ge d (sg_st S) with w | w
          · exact w
          · rw [(hsh.2 d hdl).2 w] at q; exact absurd (by decide) q
        rw [show a_deleted d = sg_bi1 (sg_dl L d) from (hD.2 d hdl).2.2.2.2]
        cases hdel : sg_dl L d
        · refine br_t rfl (br_c (fun w => no75 ?_) (fun w => ?_))
          · unfold sg_hit
            have hnx : decide (d ≠ ex) = false := decide_eq_false (fun w2 => w2 ((hex d (by omega)).mp w))
            rw [hnx, Bool.and_false]
          · have hne : d ≠ ex := fun w2 => w ((hex d (by omega)).mpr w2)
            have hh : sg_hit L S e ex d = sg_M (sg_T L d) (sg_pr L d) e := by
              unfold sg_hit
              rw [decide_eq_true hds, hdel, decide_eq_true hne]; simp
            refine And.intro (pk_in d 32 (by omega)) (nm_r (sg_wr d rfl (by omega) sg_nbool1) ⟨pk_in d 32 (by omega), ?_⟩)
            rw [sg_rd (f := upd ih d 1) d rfl (by omega) pk_us]
            refine br_f (by decide) (sg_ywork (l := 5) (by omega) hdl hL hD hT (sg_Gd_w hG) hp9 hsh hE hl hz hat (fun kd1 sp1 wt1 is1 ma1 sc1 hm hsc => ⟨pk_in d 32 (by omega), nm_r (sg_wr d rfl (by omega) (w := sg_bi1 (sg_hit L S e ex d)) (by rw [hm, hh, sg_nbool])) ⟨pk_in d 32 (by omega), nm_r (e' := vp_updL hs d (lN (sg_scr L S e d))) (by rw [nI_clamp (show d < 2 ^ 31 by omega), hsc]; rfl) ⟨pk_in d 32 (by omega), ?_⟩⟩⟩))
            rw [sg_rd (f := upd (upd ih d 1) d (sg_bi1 (sg_hit L S e ex d))) d rfl (by omega) pk_us]
            cases hc : sg_hit L S e ex d
            · exact br_t rfl (nm_r (nI_1 d) (no _ _ _ _ _ _ _ _ (fun x hx => pk_uLn (by omega)) (fun x hx => by rw [pk_un (by omega), pk_un (by omega)]) (by rw [pk_us]; rfl) hc))
            · have h9 := hp9 d
              have hpd : a_price (nI d).toNatClampNeg = nI (sg_pr L d) := sg_rd d rfl (by omega) (hD.2 d hdl).2.1
              have e10 : nI (sg_pr L d) / 10 = nI (sg_pr L d / 10) := by rw [show (10 : Int32) = nI 10 from rfl, pk_div (by omega) (by omega) (by omega)]
              rw [hc] at hcs
              refine br_f (by decide) (nm_r (e' := nI (sg_c (sg_hit L S e ex) (d + 1))) (by rw [hcs, nI_1]; rfl) ⟨pk_in d 32 (by omega), by decide, ?_⟩)
              rw [hpd, e10]
              refine ⟨pk_in (sg_pr L d / 10) 10 (by omega), pk_in (sg_pr L d / 10) 10 (by omega), nm_r (sg_wr (sg_pr L d / 10) rfl (by omega) (w := nI (sg_shr L (sg_hit L S e ex) (d + 1) (sg_pr L d / 10))) ?_) (nm_r (nI_1 d) (ih2 (d + 1) _ _ _ _ _ _ _ _ _ (by omega) (fun x hx => ?_) (fun x hx hhx => ?_) (fun j hj => ?_)))⟩
              · rw [sg_rd (f := sh) (sg_pr L d / 10) rfl (by omega) (h3 _ (by omega)), nI_1, sg_shr_s, hc, decide_eq_true rfl]; rfl
              · by_cases y : x = d
                · rw [y, pk_us, hc]
                · rw [pk_un y, pk_un y]; exact h1 x (by omega)
              · by_cases y : x = d
                · rw [y, pk_uLs]
                · rw [pk_uLn y]; exact h2 x (by omega) hhx
              · by_cases y : j = sg_pr L d / 10
                · rw [y, pk_us]
                · rw [pk_un y, h3 j hj, sg_shr_s, hc, decide_eq_false (fun w => y w.symm)]; rfl
        · refine br_f (by decide) (no75 ?_)
          unfold sg_hit
          rw [hdel]; simp
  have k6 : ∀ n k sh, k ≤ 10 → 10 - k < n → (∀ j, j < k → sh j = 0) → wY_look_6 post exv (nI lim) bp 0 f_documents f_segments f_numbers f_words f_kept n (nI k) a_number a_price a_size a_text a_shelf a_deleted a_levels a_pendingText a_tokens a_length a_kinds a_spans a_weights a_isSpan a_matches a_scores a_news a_newsCount a_keptNumber a_keptScore sh a_isHit a_hitScore := by
    intro n
    induction n with
    | zero => intro k sh _ h; omega
    | succ n ih =>
      intro k sh hk hn h0
      refine pk_le 10 k (fun z => Exists.intro (L.length + 1) ?_) (fun z => ⟨pk_in k 10 z, nm_r (sg_wr k rfl (by omega) rfl) (nm_r (nI_1 k) (ih (k + 1) _ (by omega) (by omega) (fun j hj => ?_)))⟩)
      · exact k30 L.length 0 a_kinds a_spans a_weights a_isSpan a_matches a_scores sh a_isHit a_hitScore (by omega) (fun x hx => by omega) (fun x hx => by omega) (fun j hj => h0 j (by omega))
      · by_cases y : j = k
        · rw [y, pk_us]
        · rw [pk_un y]; exact h0 j (by omega)
  exact Exists.intro 11 (k6 11 0 a_shares (by omega) (by omega) (fun j hj => by omega))
end
end
section
/-! Y: search, like -/
theorem sg_Sc_le {T : List Nat} {p M : Nat} {dg : Nat → Nat} {sf : Nat → Nat → Nat} (h : ∀ w n, n ≤ 144 → w ≤ 72 → sf w n ≤ M) (hd : ∀ t, t < 8 → dg t ≤ 9) {e : List Nat} (hE : sg_Ex e) : e.length ≤ 15 → sg_Sc T p dg sf e ≤ e.length * M := by
  refine sg_Ex_ind (R := fun e => e.length ≤ 15 → sg_Sc T p dg sf e ≤ e.length * M) ?_ ?_ ?_ hE
  · intro e he hl
    rw [sg_Sc_s he]
    have := sg_Sp_odd he hd
    have hp := sg_Tr_pos (sg_Sp_Tr he)
    refine Nat.le_trans (h _ _ (sg_nsp_le _) (by omega)) ?_
    have := Nat.mul_le_mul hp (Nat.le_refl M)
    omega
  · intro t ht hu _
    rw [sg_Sc_p ht hu]; exact Nat.zero_le _
  · intro t a b ht ha hb ia ib hl
    have hlen : (t :: (a ++ b)).length = 1 + a.length + b.length := by simp; omega
    rw [hlen] at hl ⊢
    have h1 := ia (by omega)
    have h2 := ib (by omega)
    rw [sg_Sc_o ht (sg_Ex_Tr ha) (sg_Ex_Tr hb), Nat.add_mul, Nat.add_mul]
    by_cases e10 : t = 10
    · rw [if_pos e10]; omega
    · rw [if_neg e10]; omega
theorem sg_scr_lt {L : List sg_D} {S : List (Nat × Nat)} {e : List Nat} (hst : sg_st S ≤ 32) (hE : sg_Ex e) (hl : e.length ≤ 15) (i : Nat) : sg_scr L S e i < 2 ^ 31 := by
  have h := sg_Sc_le (T := sg_T L i) (p := sg_pr L i) (M := 2280960) (dg := sg_dg L (sg_st S)) (sf := sg_sf L (sg_st S) i) (fun w n h1 h2 => sg_sf_le h1 h2) (fun t _ => sg_dg_le hst) hE hl
  have h2 := Nat.mul_le_mul hl (Nat.le_refl 2280960)
  unfold sg_scr
  omega
/-! the words of a document, from the last on -/
def sg_wd (T : List Nat) : Nat → List Nat
  | 0 => []
  | k + 1 => if 7 - k ∈ T then (7 - k) :: sg_wd T k else sg_wd T k
theorem sg_wd_eq (T : List Nat) : ∀ k, k ≤ 8 → sg_wd T k = ((List.range 8).drop (8 - k)).filter (fun w => decide (w ∈ T))
  | 0, _ => by
    rw [List.drop_eq_nil_of_le (by simp)]; rfl
  | k + 1, hk => by
    have ih := sg_wd_eq T k (by omega)
    have e : (List.range 8).drop (8 - (k + 1)) = (7 - k) :: (List.range 8).drop (8 - k) := by
      rw [List.drop_eq_getElem_cons (by simp; omega), List.getElem_range, show 8 - (k + 1) + 1 = 8 - k by omega, show 8 - (k + 1) = 7 - k by omega]
    rw [e]
    unfold sg_wd
    by_cases h : 7 - k ∈ T
    · rw [if_pos h, List.filter_cons_of_pos (by simp [h]), ih]
    · rw [if_neg h, List.filter_cons_of_neg (by simp [h]), ih]
theorem sg_wd_8 (T : List Nat) : sg_wd T 8 = sg_ws T 8 := by
  rw [sg_wd_eq T 8 (Nat.le_refl _)]; rfl
theorem sg_wd_len (T : List Nat) : ∀ k, (sg_wd T k).length ≤ k
  | 0 => Nat.le_refl _
  | k + 1 => by
    have := sg_wd_len T k
    unfold sg_wd
    by_cases h : 7 - k ∈ T
    · rw [if_pos h, List.length_cons]; omega
    · rw [if_neg h]; omega
theorem sg_lkY_len : ∀ ws : List Nat, (sg_lkY ws).length = 2 * ws.length - 1
  | [] => rfl
  | [_] => rfl
  | w :: v :: r => by
    show (sg_lkY (v :: r)).length + 1 + 1 = _
    rw [sg_lkY_len (v :: r)]
    simp only [List.length_cons]; omega
section
variable {f_documents f_segments f_numbers f_words f_kept : Int32} {a_number a_price a_size a_text a_shelf a_deleted a_levels a_pendingText a_tokens a_length a_kinds a_spans a_weights a_isSpan a_matches a_news a_newsCount a_keptNumber a_shares a_isHit : Nat → Int32} {a_scores a_keptScore a_hitScore : Nat → Int64}
variable {L : List sg_D} {S : List (Nat × Nat)} {ad : Nat} {PT Q : List Nat} {W N : Nat → List Nat} {K : List (Nat × Nat)} {Sh : Nat → Nat}
theorem sg_ysearch {post : Int32 → SY → Prop} {u : SY} {v1 bp : Int32} {K' : List (Nat × Nat)} (hG : sg_Gd L S ad) (hS : sg_Gs L.length S) (hq : sg_Gq Q W) (hu : sg_YR L S ad PT Q W N K Sh u)
    (hKK : ∀ lim, v1 = nI lim → lim ≤ 10 → sg_chk Q [false] = true → sg_KK (sg_hit L S Q 100) (sg_key L S Q bp) (sg_nu L) (sg_scr L S Q) lim L.length K')
    (H0 : ¬ (0 ≤ v1 ∧ v1 ≤ 10) → post (-1) u)
    (H1 : ∀ u', 0 ≤ v1 → v1 ≤ 10 → sg_chk Q [false] = false → sg_YR L S ad PT [] W N K Sh u' → post (-3) u')
    (H2 : ∀ lim u', v1 = nI lim → lim ≤ 10 → sg_chk Q [false] = true → sg_YR L S ad PT [] W N K' (sg_shr L (sg_hit L S Q 100) L.length) u' → post (nI (sg_c (sg_hit L S Q 100) L.length)) u') : wpY_search post u v1 bp := by
  obtain ⟨f_documents, f_segments, f_numbers, f_words, f_kept, a_number, a_price, a_size, a_text, a_shelf, a_deleted, a_levels, a_pendingText, a_tokens, a_length, a_kinds, a_spans, a_weights, a_isSpan, a_matches, a_scores, a_news, a_newsCount, a_keptNumber, a_keptScore, a_shares, a_isHit, a_hitScore⟩ := u
  obtain ⟨hC, hA, hP, hQ, hN, hK, hH⟩ := hu
  have hq1 := hq.1
  have hst := hS.2.1
  have hL := hG.1
  unfold wpY_search
  refine sg_within (fun h1 h2 => br_f (by decide) ?_) (fun h => br_t rfl (H0 h))
  refine sg_ymove (l := 5) (by omega) (by omega) hQ.2.1 hQ.1 hq1 (fun tk t1 t2 => ?_)
  have hQ' : sg_YQ [] W tk (upd (upd a_length 5 (nI Q.length)) 0 0) := by
    refine ⟨(fun k hk => by cases hk), by rw [pk_us]; rfl, fun w hw => ?_⟩
    rw [pk_un (by omega), pk_un (by omega)]
    refine ⟨fun k hk => ?_, (hQ.2.2 w hw).2⟩
    have := (hq.2.2 w hw).1
    rw [t2 _ (by omega)]; exact (hQ.2.2 w hw).1 k hk
  have hz5 : (upd (upd a_length 5 (nI Q.length)) 0 0) 5 = nI Q.length := by rw [pk_un (by omega), pk_us]
  refine sg_yisExpr (l := 5) (Q := Q) (by omega) hz5 t1 hq.2.1 hq1 (fun g => ?_)
  cases hc : sg_chk Q [false]
  · exact br_t rfl (H1 _ h1 h2 hc (sg_YR_mk hC hA hP hQ' hN hK hH))
  · obtain ⟨lim, hlim, rfl⟩ := nI_of2 (M := 10) (n := 10) (by decide) (Int32.not_lt.mpr h1) h2
    have hE := sg_chk_Ex hq.2.1 hc
    refine br_f (by decide) ?_
    refine sg_ylook (L := L) (S := S) (e := Q) (ex := 100) hG hS hC hE (by omega) hz5 t1 hlim (fun d hd => ⟨fun z => ?_, fun z => by omega⟩) (fun i => sg_scr_lt (by omega) hE (by omega) i) (hKK lim rfl hlim hc) (fun kd sp wt is ma sc fk kn ks sh ih hs hYK hXH => H2 lim _ rfl hlim hc (sg_YR_mk hC hA hP hQ' hN hYK hXH))
    have := congrArg Int32.toInt z
    rw [nI_toInt (by omega)] at this
    have e : (-1 : Int32).toInt = -1 := by decide
    omega
theorem sg_ylike {post : Int32 → SY → Prop} {u : SY} {v1 v2 : Int32} {K' : List (Nat × Nat)} (hG : sg_Gd L S ad) (hS : sg_Gs L.length S) (hq : sg_Gq Q W) (hu : sg_YR L S ad PT Q W N K Sh u)
    (hKK : ∀ i lim, i < L.length → nI (sg_nu L i) = v1 → sg_T L i ≠ [] → v2 = nI lim → lim ≤ 10 → sg_KK (sg_hit L S (sg_lkY (sg_ws (sg_T L i) 8)) i) (sg_key L S (sg_lkY (sg_ws (sg_T L i) 8)) 0) (sg_nu L) (sg_scr L S (sg_lkY (sg_ws (sg_T L i) 8))) lim L.length K')
    (H0 : (∀ i, i < L.length → ¬ nI (sg_nu L i) = v1) → post (-1) u) (H1 : ∀ i, i < L.length → nI (sg_nu L i) = v1 → sg_T L i = [] → post (-1) u)
    (H2 : ∀ i, i < L.length → nI (sg_nu L i) = v1 → sg_T L i ≠ [] → ¬ (0 ≤ v2 ∧ v2 ≤ 10) → post (-1) u)
    (H3 : ∀ i lim u', i < L.length → nI (sg_nu L i) = v1 → sg_T L i ≠ [] → v2 = nI lim → lim ≤ 10 → sg_YR L S ad PT Q W N K' (sg_shr L (sg_hit L S (sg_lkY (sg_ws (sg_T L i) 8)) i) L.length) u' → post (nI (sg_c (sg_hit L S (sg_lkY (sg_ws (sg_T L i) 8)) i) L.length)) u') : wpY_like post u v1 v2 := by
  obtain ⟨f_documents, f_segments, f_numbers, f_words, f_kept, a_number, a_price, a_size, a_text, a_shelf, a_deleted, a_levels, a_pendingText, a_tokens, a_length, a_kinds, a_spans, a_weights, a_isSpan, a_matches, a_scores, a_news, a_newsCount, a_keptNumber, a_keptScore, a_shares, a_isHit, a_hitScore⟩ := u
  obtain ⟨hC, hA, hP, hQ, hN, hK, hH⟩ := hu
  have hL := hG.1
  have hst := hS.2.1
  have hD := hC.1
  unfold wpY_like
  refine sg_yfind hL hD v1 (fun i hi e => br_f (nI_pos (by omega)) ⟨pk_in i 32 (by omega), ?_⟩) (fun h => br_t (by decide) (H0 h))
  have hT := sg_Gd_T hG i
  refine pk_eq (sg_T L i).length 0 (fun z => H1 i hi e (List.eq_nil_of_length_eq_zero z)) (fun z => ?_) (sg_rd i rfl (by omega) (hD.2 i hi).2.2.1)
  have hne : sg_T L i ≠ [] := fun w => z (by rw [w]; rfl)
  refine sg_within (fun h1 h2 => br_f (by decide) ?_) (fun h => br_t rfl (H2 i hi e hne h))
  obtain ⟨lim, hlim, rfl⟩ := nI_of2 (M := 10) (n := 10) (by decide) (Int32.not_lt.mpr h1) h2
  have hwp := sg_ws_pos hne (sg_Gd_w hG i)
  have hfin := H3 i lim
  have hkk := hKK i lim hi e hne rfl hlim
  have hex0 := (sg_lkY_v (T := []) (p := 0) (dg := fun _ => 0) (sf := fun _ _ => 0) (sg_ws (sg_T L i) 8) (fun q => by rw [q] at hwp; cases hwp) (fun w hw => (sg_ws_lt hw).1)).1
  have hly := sg_lkY_len (sg_ws (sg_T L i) 8)
  have hwl := sg_ws_len (sg_T L i) 8
  have e80 : ∀ q, (80 : Int32) + nI q = nI (80 + q) := fun q => nI_add 80 q
  -- the state of the list being built
  have loop : ∀ c k tk, k + c = 8 → (∀ x, x < 80 → tk x = a_tokens x) → sg_At tk 80 (sg_lkY (sg_wd (sg_T L i) k)) → ∀ x5 : Int32, ((sg_wd (sg_T L i) k = [] → x5 = 8) ∧ (sg_wd (sg_T L i) k ≠ [] → ¬ (8 : Int32) ≤ x5)) → wY_like_42 post (nI lim) (nI i) f_documents f_segments f_numbers f_words f_kept (c + 1) (nI (sg_lkY (sg_wd (sg_T L i) k)).length) x5 (nI c + (-1)) a_number a_price a_size a_text a_shelf a_deleted a_levels a_pendingText tk a_length a_kinds a_spans a_weights a_isSpan a_matches a_scores a_news a_newsCount a_keptNumber a_keptScore a_shares a_isHit a_hitScore := by
    intro c
    induction c with
    | zero =>
      intro k tk hk t1 t2 x5 h5
      obtain rfl : k = 8 := by omega
      rw [sg_wd_8] at t2 ⊢
      refine br_t (by decide) (nm_e ?_)
      refine sg_ylook (L := L) (S := S) (e := sg_lkY (sg_ws (sg_T L i) 8)) (ex := i) hG hS hC hex0 (by omega) (by rw [pk_us]) t2 hlim (fun d hd => nI_eq (by omega) (by omega)) (fun j => sg_scr_lt (by omega) hex0 (by omega) j) hkk (fun kd sp wt is ma sc fk kn ks sh ih hs hYK hXH => ?_)
      refine hfin _ hi e hne rfl hlim (sg_YR_mk hC hA hP ⟨fun k hk => ?_, by rw [pk_un (by omega)]; exact hQ.2.1, fun w hw => ?_⟩ hN hYK hXH)
      · have := hq.1
        rw [t1 _ (by omega)]; exact hQ.1 k hk
      · rw [pk_un (by omega)]
        refine ⟨fun k hk => ?_, (hQ.2.2 w hw).2⟩
        have := (hq.2.2 w hw).1
        rw [t1 _ (by omega)]; exact (hQ.2.2 w hw).1 k hk
    | succ c ih =>
      intro k tk hk t1 t2 x5 h5
      have hc : c = 7 - k := by omega
      have hwr : sg_wd (sg_T L i) (k + 1) = if 7 - k ∈ sg_T L i then (7 - k) :: sg_wd (sg_T L i) k else sg_wd (sg_T L i) k := rfl
      rw [← hc] at hwr
      have hll := sg_lkY_len (sg_wd (sg_T L i) k)
      have hwl2 := sg_wd_len (sg_T L i) k
      rw [pk_m1]
      refine br_f (nI_pos (by omega)) (sg_yhas (x := sg_g L i) (by omega) (by omega) (hD.2 i hi) hT (sg_Gd_w hG i) ?_)
      show ((sg_bi1 (decide (c ∈ sg_T L i)) = 0 → _) ∧ (¬ sg_bi1 (decide (c ∈ sg_T L i)) = 0 → _))
      by_cases hm : c ∈ sg_T L i
      · rw [if_pos hm] at hwr
        rw [decide_eq_true hm]
        refine br_f (by decide) (nm_r (nI_1 _) ?_)
        cases hw : sg_wd (sg_T L i) k with
        | nil =>
          -- the first word
          rw [hw] at hwr h5
          have h58 := h5.1 rfl
          have nx := ih (k + 1) (upd tk 80 (nI c)) (by omega) (fun x hx => by rw [pk_un (by omega)]; exact t1 x hx) (by rw [hwr]; intro j hj; have hj0 : j = 0 := by { have : j < 1 := hj; omega }; subst hj0; rw [Nat.add_zero, pk_us]; rfl) (nI c) ⟨fun q => (by rw [hwr] at q; cases q), fun _ => nI_ge (a := c) (b := 8) (by omega) (by omega)⟩
          rw [hwr] at nx
          refine Exists.intro 1 (br_f (by decide) (br_t (by decide) ?_))
          unfold wY_like_106
          refine br_t (by rw [h58]; decide) ?_
          unfold wY_like_126
          refine ⟨pk_in 80 96 (by omega), nm_r (sg_wr 80 rfl (by omega) rfl) (br_t (by rw [h58]; decide) ?_)⟩
          unfold wY_like_143
          exact br_t (by rw [h58]; decide) (nm_e (nm_e nx))
        | cons v r =>
          rw [hw] at hwr h5 hll hwl2 t2
          have h58 := h5.2 (by simp)
          rw [List.length_cons] at hll hwl2
          generalize hn : (sg_lkY (v :: r)).length = n at *
          have hn1 : 1 ≤ n := by omega
          have nx : ∀ tk2, (∀ x, x < 80 → tk2 x = a_tokens x) → (∀ y, y < n → tk2 (82 + y) = nI ((sg_lkY (v :: r)).getD y 0)) → wY_like_42 post (nI lim) (nI i) f_documents f_segments f_numbers f_words f_kept (c + 1) (nI (n + 2)) (nI c) (nI c + (-1)) a_number a_price a_size a_text a_shelf a_deleted a_levels a_pendingText (upd (upd tk2 80 9) 81 (nI c)) a_length a_kinds a_spans a_weights a_isSpan a_matches a_scores a_news a_newsCount a_keptNumber a_keptScore a_shares a_isHit a_hitScore := by
            intro tk2 p1 p2
            have hlk : sg_lkY (c :: v :: r) = 9 :: c :: sg_lkY (v :: r) := rfl
            have nx := ih (k + 1) (upd (upd tk2 80 9) 81 (nI c)) (by omega) (fun x hx => by rw [pk_un (by omega), pk_un (by omega)]; exact p1 x hx) (by
              rw [hwr, hlk]
              intro j hj
              rw [List.length_cons, List.length_cons, hn] at hj
              rcases Nat.lt_trichotomy j 1 with y | y | y
              · obtain rfl : j = 0 := by omega
                rw [Nat.add_zero, pk_un (by omega), pk_us]; rfl
              · subst y
                rw [pk_us]; rfl
              · rw [pk_un (by omega), pk_un (by omega), show 80 + j = 82 + (j - 2) by omega, p2 (j - 2) (by omega)]
                obtain ⟨m, rfl⟩ : ∃ m, j = m + 2 := ⟨j - 2, by omega⟩
                rw [Nat.add_sub_cancel]; rfl) (nI c) ⟨fun q => (by rw [hwr] at q; cases q), fun _ => nI_ge (a := c) (b := 8) (by omega) (by omega)⟩
            rw [hwr, hlk, List.length_cons, List.length_cons, hn] at nx
            exact nx
          have k66 : ∀ q tk2, q ≤ n + 1 → (∀ x, x ≤ 80 + q + 1 → tk2 x = tk x) → (∀ y, q ≤ y → y ≤ n → tk2 (82 + y) = tk (80 + y)) → wY_like_66 post (wY_like_42 post (nI lim) (nI i) f_documents f_segments f_numbers f_words f_kept (c + 1)) (nI lim) (nI i) (nI n) x5 (nI c) f_documents f_segments f_numbers f_words f_kept (q + 1) (nI q) a_number a_price a_size a_text a_shelf a_deleted a_levels a_pendingText tk2 a_length a_kinds a_spans a_weights a_isSpan a_matches a_scores a_news a_newsCount a_keptNumber a_keptScore a_shares a_isHit a_hitScore := by
            intro q
            induction q with
            | zero =>
              intro tk2 hq' p1 p2
              refine br_t (by decide) ?_
              unfold wY_like_106
              refine br_f h58 ?_
              unfold wY_like_126
              refine ⟨pk_in 80 96 (by omega), nm_r (sg_wr 80 rfl (by omega) rfl) (br_f h58 (nm_e ?_))⟩
              unfold wY_like_143
              refine br_f h58 (nm_r (e' := nI (n + 2)) (nI_add n 2) (nm_e (nx tk2 (fun x hx => ?_) (fun y hy => ?_))))
              · rw [p1 x (by omega)]; exact t1 x hx
              · rw [p2 y (by omega) (by omega)]; exact t2 y (by omega)
            | succ q ihq =>
              intro tk2 hq' p1 p2
              have a1 : (80 : Int32) + nI (q + 1) - 1 = nI (80 + q) := by rw [e80, show 80 + (q + 1) = (80 + q) + 1 by omega, nI_pred]
              have a2 : (80 : Int32) + nI (q + 1) + 1 = nI (82 + q) := by rw [e80, nI_1]; exact congrArg nI (by omega)
              refine br_f (nI_nle (by omega) (by omega)) (br_f (nI_nle (by omega) (by omega)) ⟨pk_in (80 + q) 96 (by omega) a1, pk_in (82 + q) 96 (by omega) a2, nm_r (sg_wr (82 + q) a2 (by omega) (sg_rd (80 + q) a1 (by omega) (p1 (80 + q) (by omega)))) (nm_r (pk_m1 q) (ihq _ (by omega) (fun x hx => ?_) (fun y h3 h4 => ?_)))⟩)
              · rw [pk_un (by omega)]; exact p1 x (by omega)
              · by_cases y2 : y = q
                · rw [y2, pk_us]
                · rw [pk_un (by omega)]; exact p2 y (by omega) h4
          exact Exists.intro (n + 1 + 1) (k66 (n + 1) tk (Nat.le_refl _) (fun x _ => rfl) (fun y h3 h4 => by omega))
      · rw [if_neg hm] at hwr
        rw [decide_eq_false hm]
        refine br_t rfl (nm_e ?_)
        have := ih (k + 1) tk (by omega) t1 (by rw [hwr]; exact t2) x5 (by rw [hwr]; exact h5)
        rw [hwr] at this; exact this
  refine Exists.intro 9 ?_
  exact loop 8 0 a_tokens rfl (fun x _ => rfl) (fun j hj => by cases hj) 8 ⟨fun _ => rfl, fun q => absurd rfl q⟩
end
end
section
/-! the relation; flush of whole states; small facts -/
theorem sg_fl_ok {L : List sg_D} {S : List (Nat × Nat)} {ad : Nat} (hG : sg_Gd L S ad) (hS : sg_Gs L.length S) : sg_Gd (sg_fl L S).1 (sg_fl L S).2 ad ∧ sg_Gs (sg_fl L S).1.length (sg_fl L S).2 ∧ sg_st (sg_fl L S).2 = (sg_fl L S).1.length := by
  have hst := hS.2.1
  unfold sg_fl
  by_cases z : L.length = sg_st S
  · rw [if_pos z]; exact ⟨hG, hS, z.symm⟩
  · rw [if_neg z]
    have hlt : sg_st S < L.length := by omega
    refine sg_mm_ok 40 L (S ++ [(L.length, 0)]) ⟨hG.1, hG.2.1, hG.2.2.1, hG.2.2.2.1, fun i hi => hG.2.2.2.2 i ?_⟩ (sg_Gs_app hS hlt (Nat.le_refl _) (Nat.zero_le 3)) (by rw [sg_st_app])
    rw [sg_st_app] at hi
    exact Nat.le_trans hst hi
theorem sg_same {L : List sg_D} {S : List (Nat × Nat)} {ad i j : Nat} {v : Int32} (hG : sg_Gd L S ad) (hi : i < L.length) (hj : j < L.length) (ei : nI (sg_nu L i) = v) (ej : nI (sg_nu L j) = v) : i = j := by
  have h1 := sg_Gd_n hG hi
  have h2 := sg_Gd_n hG hj
  have h3 := hG.2.1
  exact sg_Gd_i hG hi hj ((nI_eq (by omega) (by omega)).mp (ei.trans ej.symm))
theorem sg_shl_u {n : Nat} {S : List (Nat × Nat)} (hS : sg_Gs n S) {d : Nat} {x y : Int32} (hx : sg_shl S d x) (hy : sg_shl S d y) : y = x := by
  rcases Nat.lt_or_ge d (sg_st S) with h | h
  · obtain ⟨k, k1, k2, k3⟩ := sg_seg hS h
    rw [hx.1 k k1 k2 k3, hy.1 k k1 k2 k3]
  · rw [hx.2 h, hy.2 h]
def sg_Good (k : Nat) (L : List sg_D) (S : List (Nat × Nat)) (ad : Nat) (PT Q : List Nat) (W : Nat → List Nat) (K : List (Nat × Nat)) : Prop := sg_Gd L S ad ∧ sg_Gs L.length S ∧ ad ≤ k ∧ sg_Gp PT ∧ sg_Gq Q W ∧ K.length ≤ 10
/-- the relation at the head of a turn whose first cell is k -/
def i_Rel (k : Nat) (u : SX) (v : SY) : Prop := ∃ (L : List sg_D) (S : List (Nat × Nat)) (ad : Nat) (PT Q : List Nat) (W N : Nat → List Nat) (K : List (Nat × Nat)) (Sh : Nat → Nat), sg_Good k L S ad PT Q W K ∧ sg_XR L S ad PT Q W N K Sh u ∧ sg_YR L S ad PT Q W N K Sh v
theorem sg_Good_up {k k' : Nat} {L : List sg_D} {S : List (Nat × Nat)} {ad : Nat} {PT Q : List Nat} {W : Nat → List Nat} {K : List (Nat × Nat)} (hk : k ≤ k') (h : sg_Good k L S ad PT Q W K) : sg_Good k' L S ad PT Q W K := ⟨h.1, h.2.1, Nat.le_trans h.2.2.1 hk, h.2.2.2⟩
theorem sg_rel {k : Nat} {L : List sg_D} {S : List (Nat × Nat)} {ad : Nat} {PT Q : List Nat} {W N : Nat → List Nat} {K : List (Nat × Nat)} {Sh : Nat → Nat} {u : SX} {v : SY} (h : sg_Good k L S ad PT Q W K) (hx : sg_XR L S ad PT Q W N K Sh u) (hy : sg_YR L S ad PT Q W N K Sh v) : i_Rel k u v := ⟨L, S, ad, PT, Q, W, N, K, Sh, h, hx, hy⟩
section
variable {L : List sg_D} {S : List (Nat × Nat)} {ad : Nat} {PT Q : List Nat} {W N : Nat → List Nat} {K : List (Nat × Nat)} {Sh : Nat → Nat}
theorem sg_xflushR {post : Int32 → SX → Prop} {u : SX} (hG : sg_Gd L S ad) (hS : sg_Gs L.length S) (hq : sg_Gq Q W) (hu : sg_XR L S ad PT Q W N K Sh u) (H : ∀ u', sg_XR (sg_fl L S).1 (sg_fl L S).2 ad PT Q W (sg_flN L S W N) K Sh u' → post (nI (sg_fl L S).2.length) u') : wpX_flush post u := by
  obtain ⟨f_documents, f_added, f_deleted, f_segments, f_total, f_words, f_base, f_kept, a_number, a_length, a_price, a_places, a_having, a_end, a_level, a_text, a_query, a_size, a_wanted, a_news, a_waiting, a_sets, a_scores, a_rarity, a_spans, a_best, a_worth, a_keptNumber, a_keptScore, a_shares⟩ := u
  obtain ⟨hC, hA, hP, hQ, hN, hK, hH⟩ := hu
  refine sg_xflush hG hS hQ hq hN hC (fun nd del ns tt num len pri pla hav en lv bs s g nw wt hC' hN' => ?_)
  rw [hC'.2.1.1]
  refine H _ (sg_XR_mk ?_ hA hP hQ hN' hK hH)
  rw [← hC'.2.1.1]; exact hC'
theorem sg_yflushR {post : Int32 → SY → Prop} {u : SY} (hG : sg_Gd L S ad) (hS : sg_Gs L.length S) (hq : sg_Gq Q W) (hu : sg_YR L S ad PT Q W N K Sh u) (H : ∀ u', sg_YR (sg_fl L S).1 (sg_fl L S).2 ad PT Q W (sg_flN L S W N) K Sh u' → post (nI (sg_fl L S).2.length) u') : wpY_flush post u := by
  obtain ⟨f_documents, f_segments, f_numbers, f_words, f_kept, a_number, a_price, a_size, a_text, a_shelf, a_deleted, a_levels, a_pendingText, a_tokens, a_length, a_kinds, a_spans, a_weights, a_isSpan, a_matches, a_scores, a_news, a_newsCount, a_keptNumber, a_keptScore, a_shares, a_isHit, a_hitScore⟩ := u
  obtain ⟨hC, hA, hP, hQ, hN, hK, hH⟩ := hu
  refine sg_yflush hG hS hQ hq hN hC (fun nd ns num pri siz txt she del lev kd sp wt is ma sc nw nc hC' hN' => ?_)
  rw [hC'.2.1]
  refine H _ (sg_YR_mk ?_ hA hP hQ hN' hK hH)
  rw [← hC'.2.1]; exact hC'
end
/-! the two queries of a like say the same -/
theorem sg_lk_eq {L : List sg_D} {S : List (Nat × Nat)} {ad i : Nat} (hG : sg_Gd L S ad) (hne : sg_T L i ≠ []) :
    sg_hit L S (sg_lkX (sg_ws (sg_T L i) 8)) i = sg_hit L S (sg_lkY (sg_ws (sg_T L i) 8)) i ∧ sg_key L S (sg_lkX (sg_ws (sg_T L i) 8)) 0 = sg_key L S (sg_lkY (sg_ws (sg_T L i) 8)) 0 ∧ sg_scr L S (sg_lkX (sg_ws (sg_T L i) 8)) = sg_scr L S (sg_lkY (sg_ws (sg_T L i) 8)) := by
  have hwp := sg_ws_pos hne (sg_Gd_w hG i)
  have hw8 : ∀ w, w ∈ sg_ws (sg_T L i) 8 → w < 8 := fun w hw => (sg_ws_lt hw).1
  have hM : ∀ T p, sg_M T p (sg_lkX (sg_ws (sg_T L i) 8)) = sg_M T p (sg_lkY (sg_ws (sg_T L i) 8)) := by
    intro T p
    rw [(sg_lkX_v (T := T) (p := p) (dg := fun _ => 0) (sf := fun _ _ => 0) ((sg_ws (sg_T L i) 8).length - 1) (sg_ws (sg_T L i) 8) (by omega) hw8).2.1]
    rw [(sg_lkY_v (T := T) (p := p) (dg := fun _ => 0) (sf := fun _ _ => 0) (sg_ws (sg_T L i) 8) (fun q => by rw [q] at hwp; cases hwp) hw8).2.1]
  have hS : sg_scr L S (sg_lkX (sg_ws (sg_T L i) 8)) = sg_scr L S (sg_lkY (sg_ws (sg_T L i) 8)) := by
    funext d
    unfold sg_scr
    rw [(sg_lkX_v (T := sg_T L d) (p := sg_pr L d) (dg := sg_dg L (sg_st S)) (sf := sg_sf L (sg_st S) d) ((sg_ws (sg_T L i) 8).length - 1) (sg_ws (sg_T L i) 8) (by omega) hw8).2.2]
    rw [(sg_lkY_v (T := sg_T L d) (p := sg_pr L d) (dg := sg_dg L (sg_st S)) (sf := sg_sf L (sg_st S) d) (sg_ws (sg_T L i) 8) (fun q => by rw [q] at hwp; cases hwp) hw8).2.2]
  refine ⟨?_, ?_, hS⟩
  · funext d
    unfold sg_hit
    rw [hM]
  · funext d
    unfold sg_key
    rw [hS]
end
section
/-! what is owed -/
theorem i_up {k : Nat} {u : SX} {v : SY} (h : i_Rel k u v) : i_Rel (k + 3) u v := by
  obtain ⟨L, S, ad, PT, Q, W, N, K, Sh, hg, hx, hy⟩ := h
  exact sg_rel (sg_Good_up (by omega) hg) hx hy
theorem i_vc0 : wpX_init (fun u => wpY_init (fun v => i_Rel 0 u v)) := by
  refine sg_rel (L := []) (S := []) (ad := 0) (PT := []) (Q := []) (W := fun _ => []) (N := fun _ => []) (K := []) (Sh := fun _ => 0) ⟨⟨Nat.zero_le _, Nat.zero_le _, List.Pairwise.nil, (fun x hx => by cases hx), fun i _ => rfl⟩, ⟨(fun k hk => by cases hk), Nat.le_refl _, fun k => Nat.zero_le _⟩, Nat.le_refl _, ⟨Nat.zero_le _, (fun w hw => by cases hw)⟩, ⟨Nat.zero_le _, (fun t ht => by cases ht), fun w _ => ⟨Nat.zero_le _, Or.inl rfl⟩⟩, Nat.zero_le _⟩ ?_ ?_
  · refine sg_XR_mk ⟨⟨rfl, (fun k hk => by cases hk), (fun k w i hk => by cases hk), fun w k _ _ => ?_, fun k _ => ?_⟩, ⟨rfl, Nat.zero_le _, (fun k hk => by cases hk)⟩, rfl⟩ rfl ⟨rfl, (fun i hi => by cases hi)⟩ ⟨(fun k hk => by cases hk), rfl, fun w _ => ⟨(fun k hk => by cases hk), rfl⟩⟩ (fun w _ => ⟨rfl, Nat.zero_le _, (fun i hi => by cases hi)⟩) ⟨rfl, (fun r hr => by cases hr)⟩ (fun k _ => rfl)
    · rw [b_0]
      exact (decide_eq_false (fun q => by cases q)).symm
    · rw [b_0]; rfl
  · exact sg_YR_mk ⟨⟨rfl, (fun k hk => by cases hk)⟩, rfl, Nat.zero_le _, (fun k hk => by cases hk), (fun d hd => by cases hd)⟩ rfl ⟨rfl, (fun i hi => by cases hi)⟩ ⟨(fun k hk => by cases hk), rfl, fun w _ => ⟨(fun k hk => by cases hk), rfl⟩⟩ (fun w _ => ⟨rfl, Nat.zero_le _, (fun i hi => by cases hi)⟩) ⟨rfl, (fun r hr => by cases hr)⟩ (fun k _ => rfl)
theorem i_vc_word {k : Nat} {u : SX} {v : SY} (I : i_Rel k u v) (hk : k + 3 ≤ 1536) (v1 : Int32) : wpX_word (fun r u' => wpY_word (fun r' v' => r' = r ∧ i_Rel (k + 3) u' v') v v1) u v1 := by
  obtain ⟨L, S, ad, PT, Q, W, N, K, Sh, hg, hx, hy⟩ := I
  have hg3 := sg_Good_up (show k ≤ k + 3 by omega) hg
  obtain ⟨hG, hS, had, hP, hQ, hK⟩ := hg
  refine sg_xword hP hx (fun h => sg_yword hP hy (fun _ => ⟨rfl, sg_rel hg3 hx hy⟩) (fun w v' e hw hl _ => ?_)) (fun w u' e hw hl hx' => sg_yword hP hy (fun h => ?_) (fun w' v' e' hw' _ hy' => ?_))
  · exfalso
    rcases h with h | h
    · exact h (by rw [e]; exact ⟨nI_pos' (by omega), nI_le (b := 7) (by omega) (by omega)⟩)
    · omega
  · exfalso
    rcases h with h | h
    · exact h (by rw [e]; exact ⟨nI_pos' (by omega), nI_le (b := 7) (by omega) (by omega)⟩)
    · omega
  · obtain rfl : w = w' := (nI_eq (by omega) (by omega)).mp (e.symm.trans e')
    refine ⟨rfl, sg_rel ⟨hG, hS, hg3.2.2.1, ⟨?_, fun x hx2 => ?_⟩, hQ, hK⟩ hx' hy'⟩
    · rw [List.length_append, List.length_singleton]; omega
    · rcases List.mem_append.mp hx2 with q | q
      · exact hP.2 x q
      · rw [List.mem_singleton.mp q]; exact hw
theorem i_vc_add {k : Nat} {u : SX} {v : SY} (I : i_Rel k u v) (hk : k + 3 ≤ 1536) (v1 : Int32) : wpX_add (fun r u' => wpY_add (fun r' v' => r' = r ∧ i_Rel (k + 3) u' v') v v1) u v1 := by
  obtain ⟨L, S, ad, PT, Q, W, N, K, Sh, hg, hx, hy⟩ := I
  have hg3 := sg_Good_up (show k ≤ k + 3 by omega) hg
  obtain ⟨hG, hS, had, hP, hQ, hK⟩ := hg
  have hP0 : sg_Gp [] := ⟨Nat.zero_le _, fun w hw => by cases hw⟩
  have bad : ∀ p, v1 = nI p → p ≤ 99 → 0 ≤ v1 ∧ v1 ≤ 99 := fun p e hp => by rw [e]; exact ⟨nI_pos' (by omega), nI_le (b := 99) (by omega) (by omega)⟩
  have same : ∀ p q, v1 = nI p → v1 = nI q → p ≤ 99 → q ≤ 99 → p = q := fun p q e1 e2 h1 h2 => (nI_eq (by omega) (by omega)).mp (e1.symm.trans e2)
  refine sg_xadd hG (by omega) hS hQ hP hx ?_ ?_ ?_ ?_
  · intro h
    exact sg_yadd hG (by omega) hS hQ hP hy (fun _ => ⟨rfl, sg_rel hg3 hx hy⟩) (fun a b _ => absurd ⟨a, b⟩ h) (fun p v' e hp _ _ _ => absurd (bad p e hp) h) (fun p v' e hp _ _ _ => absurd (bad p e hp) h)
  · intro a b h
    exact sg_yadd hG (by omega) hS hQ hP hy (fun q => absurd ⟨a, b⟩ q) (fun _ _ _ => ⟨rfl, sg_rel hg3 hx hy⟩) (fun p v' e hp hl _ _ => by omega) (fun p v' e hp hl _ _ => by omega)
  · intro p u' e hp hl h4 hx'
    refine sg_yadd hG (by omega) hS hQ hP hy (fun q => absurd (bad p e hp) q) (fun _ _ h => by omega) (fun p' v' e' hp' _ _ hy' => ?_) (fun p' v' e' hp' _ h _ => absurd h4 h)
    obtain rfl := same p p' e e' hp hp'
    obtain ⟨g1, s1⟩ := sg_addL_ok hG hl (by omega) hS hP hp
    obtain ⟨f1, f2, f3⟩ := sg_fl_ok g1 s1
    exact ⟨rfl, sg_rel ⟨f1, f2, by omega, hP0, hQ, hK⟩ hx' hy'⟩
  · intro p u' e hp hl h4 hx'
    refine sg_yadd hG (by omega) hS hQ hP hy (fun q => absurd (bad p e hp) q) (fun _ _ h => by omega) (fun p' v' e' hp' _ h _ => absurd h h4) (fun p' v' e' hp' _ _ hy' => ?_)
    obtain rfl := same p p' e e' hp hp'
    obtain ⟨g1, s1⟩ := sg_addL_ok hG hl (by omega) hS hP hp
    exact ⟨rfl, sg_rel ⟨g1, s1, by omega, hP0, hQ, hK⟩ hx' hy'⟩
theorem i_vc_flush {k : Nat} {u : SX} {v : SY} (I : i_Rel k u v) (hk : k + 3 ≤ 1536) : wpX_flush (fun r u' => wpY_flush (fun r' v' => r' = r ∧ i_Rel (k + 3) u' v') v) u := by
  obtain ⟨L, S, ad, PT, Q, W, N, K, Sh, hg, hx, hy⟩ := I
  have hg3 := sg_Good_up (show k ≤ k + 3 by omega) hg
  obtain ⟨hG, hS, had, hP, hQ, hK⟩ := hg
  obtain ⟨f1, f2, f3⟩ := sg_fl_ok hG hS
  exact sg_xflushR hG hS hQ hx (fun u' hx' => sg_yflushR hG hS hQ hy (fun v' hy' => ⟨rfl, sg_rel ⟨f1, f2, hg3.2.2.1, hP, hQ, hK⟩ hx' hy'⟩))
theorem i_vc_delete {k : Nat} {u : SX} {v : SY} (I : i_Rel k u v) (hk : k + 3 ≤ 1536) (v1 : Int32) : wpX_delete (fun r u' => wpY_delete (fun r' v' => r' = r ∧ i_Rel (k + 3) u' v') v v1) u v1 := by
  obtain ⟨L, S, ad, PT, Q, W, N, K, Sh, hg, hx, hy⟩ := I
  have hg3 := sg_Good_up (show k ≤ k + 3 by omega) hg
  obtain ⟨hG, hS, had, hP, hQ, hK⟩ := hg
  refine sg_xdelete hG hS hx ?_ ?_ ?_ ?_
  · intro h
    exact sg_ydelete hG hS hy (fun _ => ⟨rfl, sg_rel hg3 hx hy⟩) (fun i hi e _ => absurd e (h i hi)) (fun i v' hi e _ _ _ => absurd e (h i hi)) (fun i v' hi e _ _ _ => absurd e (h i hi))
  · intro i hi e hd
    refine sg_ydelete hG hS hy (fun h => absurd e (h i hi)) (fun _ _ _ _ => ⟨rfl, sg_rel hg3 hx hy⟩) (fun j v' hj ej dj _ _ => ?_) (fun j v' hj ej dj _ _ => ?_)
    · rw [sg_same hG hj hi ej e, hd] at dj; cases dj
    · rw [sg_same hG hj hi ej e, hd] at dj; cases dj
  · intro i u' hi e hd hst hx'
    refine sg_ydelete hG hS hy (fun h => absurd e (h i hi)) (fun j hj ej dj => ?_) (fun j v' hj ej dj _ hy' => ?_) (fun j v' hj ej dj hst' _ => ?_)
    · rw [sg_same hG hj hi ej e, hd] at dj; cases dj
    · obtain rfl := sg_same hG hj hi ej e
      obtain ⟨m1, m2⟩ := sg_mark_ok hG hS hst
      exact ⟨rfl, sg_rel ⟨m1, m2, hg3.2.2.1, hP, hQ, hK⟩ hx' hy'⟩
    · rw [sg_same hG hj hi ej e] at hst'; omega
  · intro i u' hi e hd hst hx'
    refine sg_ydelete hG hS hy (fun h => absurd e (h i hi)) (fun j hj ej dj => ?_) (fun j v' hj ej dj hst' _ => ?_) (fun j v' hj ej dj _ hy' => ?_)
    · rw [sg_same hG hj hi ej e, hd] at dj; cases dj
    · rw [sg_same hG hj hi ej e] at hst'; omega
    · obtain rfl := sg_same hG hj hi ej e
      obtain ⟨m1, m2⟩ := sg_er_ok hG hS hj hst
      exact ⟨rfl, sg_rel ⟨m1, m2, hg3.2.2.1, hP, hQ, hK⟩ hx' hy'⟩
theorem i_vc_settle {k : Nat} {u : SX} {v : SY} (I : i_Rel k u v) (hk : k + 3 ≤ 1536) : wpX_settle (fun r u' => wpY_settle (fun r' v' => r' = r ∧ i_Rel (k + 3) u' v') v) u := by
  obtain ⟨L, S, ad, PT, Q, W, N, K, Sh, hg, hx, hy⟩ := I
  have hg3 := sg_Good_up (show k ≤ k + 3 by omega) hg
  obtain ⟨hG, hS, had, hP, hQ, hK⟩ := hg
  have hF := sg_fl_ok hG hS
  refine sg_xsettle hG hS hQ hx hF (fun u' h0 hx' => sg_ysettle hG hS hQ hy hF (fun v' _ hy' => ⟨rfl, sg_rel ⟨hF.1, hF.2.1, hg3.2.2.1, hP, hQ, hK⟩ hx' hy'⟩) (fun v' h1 _ => by omega)) (fun u' h1 hx' => sg_ysettle hG hS hQ hy hF (fun v' h0 _ => by omega) (fun v' _ hy' => ?_))
  have hm := sg_melt_ok (first := 0) (to := 3) hF.1 hF.2.1 hF.2.2 h1 (by omega)
  exact ⟨rfl, sg_rel ⟨hm.1, hm.2.1, hg3.2.2.1, hP, hQ, hK⟩ hx' hy'⟩
theorem i_vc_held {k : Nat} {u : SX} {v : SY} (I : i_Rel k u v) (hk : k + 3 ≤ 1536) (v1 : Int32) : wpX_held (fun r => wpY_held (fun r' => r' = r ∧ i_Rel (k + 3) u v) v v1) u v1 := by
  obtain ⟨L, S, ad, PT, Q, W, N, K, Sh, hg, hx, hy⟩ := I
  have hg3 := sg_Good_up (show k ≤ k + 3 by omega) hg
  obtain ⟨hG, hS, had, hP, hQ, hK⟩ := hg
  exact sg_xheld hG hS hx (sg_yheld hG hS hy ⟨rfl, sg_rel hg3 hx hy⟩)
theorem i_vc_segment {k : Nat} {u : SX} {v : SY} (I : i_Rel k u v) (hk : k + 3 ≤ 1536) (v1 : Int32) (v2 : Int32) : wpX_segment (fun r => wpY_segment (fun r' => r' = r ∧ i_Rel (k + 3) u v) v v1 v2) u v1 v2 := by
  obtain ⟨L, S, ad, PT, Q, W, N, K, Sh, hg, hx, hy⟩ := I
  have hr := sg_rel (sg_Good_up (show k ≤ k + 3 by omega) hg) hx hy
  obtain ⟨hG, hS, had, hP, hQ, hK⟩ := hg
  have hl := sg_S_len hS
  have hst := hS.2.1
  have hL := hG.1
  refine sg_xsegment hG hS hx ?_ ?_ ?_
  · intro h
    exact sg_ysegment hG hS hy (fun _ => ⟨rfl, hr⟩) (fun j hj e _ => absurd ⟨j, hj, e⟩ h) (fun j c hj e _ _ => absurd ⟨j, hj, e⟩ h)
  · intro j hj e h
    exact sg_ysegment hG hS hy (fun q => absurd ⟨j, hj, e⟩ q) (fun _ _ _ _ => ⟨rfl, hr⟩) (fun j' c _ _ hc e2 => absurd ⟨c, hc, e2⟩ h)
  · intro j c hj e hc e2
    refine sg_ysegment hG hS hy (fun q => absurd ⟨j, hj, e⟩ q) (fun _ _ _ q => absurd ⟨c, hc, e2⟩ q) (fun j' c' hj' e' hc' e2' => ?_)
    obtain rfl : j = j' := (nI_eq (by omega) (by omega)).mp (e.symm.trans e')
    obtain rfl : c = c' := (nI_eq (by omega) (by omega)).mp (e2.symm.trans e2')
    exact ⟨rfl, hr⟩
theorem i_vc_about {k : Nat} {u : SX} {v : SY} (I : i_Rel k u v) (hk : k + 3 ≤ 1536) (v1 : Int32) (v2 : Int32) : wpX_about (fun r => wpY_about (fun r' => r' = r ∧ i_Rel (k + 3) u v) v v1 v2) u v1 v2 := by
  obtain ⟨L, S, ad, PT, Q, W, N, K, Sh, hg, hx, hy⟩ := I
  have hr := sg_rel (sg_Good_up (show k ≤ k + 3 by omega) hg) hx hy
  obtain ⟨hG, hS, had, hP, hQ, hK⟩ := hg
  have n01 : (0 : Int32) ≠ 1 := by decide
  have n02 : (0 : Int32) ≠ 2 := by decide
  have n12 : (1 : Int32) ≠ 2 := by decide
  refine sg_xabout hG hS hx ?_ ?_ ?_ ?_ ?_
  · intro h
    exact sg_yabout hG hy (fun _ => ⟨rfl, hr⟩) (fun i hi e _ => absurd e (h i hi)) (fun i hi e _ => absurd e (h i hi)) (fun i hi e _ => absurd e (h i hi)) (fun i r hi e _ _ => absurd e (h i hi))
  · intro i hi e h
    exact sg_yabout hG hy (fun q => absurd e (q i hi)) (fun _ _ _ _ => ⟨rfl, hr⟩) (fun j hj ej q => absurd (by rw [q]; decide) h) (fun j hj ej q => absurd (by rw [q]; decide) h) (fun j r hj ej q _ => absurd (by rw [q]; decide) h)
  · intro i hi e h
    refine sg_yabout hG hy (fun q => absurd e (q i hi)) (fun _ _ _ q => absurd (by rw [h]; decide) q) (fun j hj ej _ => ?_) (fun j hj ej q => absurd (h.symm.trans q) n01) (fun j r hj ej q _ => absurd (h.symm.trans q) n02)
    obtain rfl := sg_same hG hj hi ej e
    exact ⟨rfl, hr⟩
  · intro i hi e h
    refine sg_yabout hG hy (fun q => absurd e (q i hi)) (fun _ _ _ q => absurd (by rw [h]; decide) q) (fun j hj ej q => absurd (q.symm.trans h) n01) (fun j hj ej _ => ?_) (fun j r hj ej q _ => absurd (h.symm.trans q) n12)
    obtain rfl := sg_same hG hj hi ej e
    exact ⟨rfl, hr⟩
  · intro i r hi e h hs
    refine sg_yabout hG hy (fun q => absurd e (q i hi)) (fun _ _ _ q => absurd (by rw [h]; decide) q) (fun j hj ej q => absurd (q.symm.trans h) n02) (fun j hj ej q => absurd (q.symm.trans h) n12) (fun j r' hj ej _ hs' => ?_)
    obtain rfl := sg_same hG hj hi ej e
    exact ⟨sg_shl_u hS hs hs', hr⟩
theorem i_vc_at {k : Nat} {u : SX} {v : SY} (I : i_Rel k u v) (hk : k + 3 ≤ 1536) (v1 : Int32) (v2 : Int32) : wpX_at (fun r => wpY_at (fun r' => r' = r ∧ i_Rel (k + 3) u v) v v1 v2) u v1 v2 := by
  obtain ⟨L, S, ad, PT, Q, W, N, K, Sh, hg, hx, hy⟩ := I
  have hr := sg_rel (sg_Good_up (show k ≤ k + 3 by omega) hg) hx hy
  obtain ⟨hG, hS, had, hP, hQ, hK⟩ := hg
  refine sg_xat hG hx ?_ ?_ ?_
  · intro h
    exact sg_yat hG hy (fun _ => ⟨rfl, hr⟩) (fun i hi e _ => absurd e (h i hi)) (fun i j hi e _ _ => absurd e (h i hi))
  · intro i hi e h
    refine sg_yat hG hy (fun q => absurd e (q i hi)) (fun _ _ _ _ => ⟨rfl, hr⟩) (fun i' j hi' e' hj ej => ?_)
    obtain rfl := sg_same hG hi' hi e' e
    exact absurd ⟨j, hj, ej⟩ h
  · intro i j hi e hj ej
    refine sg_yat hG hy (fun q => absurd e (q i hi)) (fun i' hi' e' q => ?_) (fun i' j' hi' e' hj' ej' => ?_)
    · obtain rfl := sg_same hG hi' hi e' e
      exact absurd ⟨j, hj, ej⟩ q
    · obtain rfl := sg_same hG hi' hi e' e
      have := sg_Gd_T hG i'
      obtain rfl : j = j' := (nI_eq (by omega) (by omega)).mp (ej.symm.trans ej')
      exact ⟨rfl, hr⟩
theorem i_vc_token {k : Nat} {u : SX} {v : SY} (I : i_Rel k u v) (hk : k + 3 ≤ 1536) (v1 : Int32) : wpX_token (fun r u' => wpY_token (fun r' v' => r' = r ∧ i_Rel (k + 3) u' v') v v1) u v1 := by
  obtain ⟨L, S, ad, PT, Q, W, N, K, Sh, hg, hx, hy⟩ := I
  have hg3 := sg_Good_up (show k ≤ k + 3 by omega) hg
  obtain ⟨hG, hS, had, hP, hQ, hK⟩ := hg
  have hr := sg_rel hg3 hx hy
  refine sg_xtoken hQ hx ?_ ?_ ?_
  · intro h
    exact sg_ytoken hQ hy (fun _ => ⟨rfl, hr⟩) (fun t ht e _ => absurd ⟨t, ht, e⟩ h) (fun t v' ht e _ _ => absurd ⟨t, ht, e⟩ h)
  · intro t ht e h12
    exact sg_ytoken hQ hy (fun q => absurd ⟨t, ht, e⟩ q) (fun _ _ _ _ => ⟨rfl, hr⟩) (fun t' v' _ _ hl _ => by omega)
  · intro t u' ht e hl hx'
    refine sg_ytoken hQ hy (fun q => absurd ⟨t, ht, e⟩ q) (fun _ _ _ q => by omega) (fun t' v' ht' e' _ hy' => ?_)
    have b1 : t < 2 ^ 31 := by rcases ht with h | h <;> omega
    have b2 : t' < 2 ^ 31 := by rcases ht' with h | h <;> omega
    obtain rfl : t = t' := (nI_eq b1 b2).mp (e.symm.trans e')
    refine ⟨rfl, sg_rel ⟨hG, hS, hg3.2.2.1, hP, ⟨?_, fun x hx2 => ?_, hQ.2.2⟩, hK⟩ hx' hy'⟩
    · rw [List.length_append, List.length_singleton]; omega
    · rcases List.mem_append.mp hx2 with q | q
      · exact hQ.2.1 x q
      · rw [List.mem_singleton.mp q]; exact ht
theorem i_vc_search {k : Nat} {u : SX} {v : SY} (I : i_Rel k u v) (hk : k + 3 ≤ 1536) (v1 : Int32) (v2 : Int32) : wpX_search (fun r u' => wpY_search (fun r' v' => r' = r ∧ i_Rel (k + 3) u' v') v v1 (lw_bz v2)) u v1 (lw_bz v2) := by
  obtain ⟨L, S, ad, PT, Q, W, N, K, Sh, hg, hx, hy⟩ := I
  have hg3 := sg_Good_up (show k ≤ k + 3 by omega) hg
  obtain ⟨hG, hS, had, hP, hQ, hK⟩ := hg
  have hr := sg_rel hg3 hx hy
  have hQ0 : sg_Gq [] W := ⟨Nat.zero_le _, (fun t ht => by cases ht), hQ.2.2⟩
  have inr : ∀ lim, v1 = nI lim → lim ≤ 10 → 0 ≤ v1 ∧ v1 ≤ 10 := fun lim e h => by rw [e]; exact ⟨nI_pos' (by omega), nI_le (b := 10) (by omega) (by omega)⟩
  refine sg_xsearch hG hS hQ hx ?_ ?_ ?_
  · intro h
    exact sg_ysearch (K' := []) hG hS hQ hy (fun lim e hl _ => absurd (inr lim e hl) h) (fun _ => ⟨rfl, hr⟩) (fun v' a b _ _ => absurd ⟨a, b⟩ h) (fun lim v' e hl _ _ => absurd (inr lim e hl) h)
  · intro u' a b hc hx'
    refine sg_ysearch (K' := []) hG hS hQ hy (fun lim e hl hc' => ?_) (fun q => absurd ⟨a, b⟩ q) (fun v' _ _ _ hy' => ⟨rfl, sg_rel ⟨hG, hS, hg3.2.2.1, hP, hQ0, hK⟩ hx' hy'⟩) (fun lim v' e hl hc' _ => ?_)
    · rw [hc] at hc'; cases hc'
    · rw [hc] at hc'; cases hc'
  · intro lim K' u' e hl hc hKK hKl hx'
    refine sg_ysearch (K' := K') hG hS hQ hy (fun lim' e' hl' _ => ?_) (fun q => absurd (inr lim e hl) q) (fun v' _ _ hc' _ => ?_) (fun lim' v' e' hl' _ hy' => ⟨rfl, sg_rel ⟨hG, hS, hg3.2.2.1, hP, hQ0, hKl⟩ hx' hy'⟩)
    · obtain rfl : lim = lim' := (nI_eq (by omega) (by omega)).mp (e.symm.trans e')
      exact hKK
    · rw [hc] at hc'; cases hc'
theorem i_vc_like {k : Nat} {u : SX} {v : SY} (I : i_Rel k u v) (hk : k + 3 ≤ 1536) (v1 : Int32) (v2 : Int32) : wpX_like (fun r u' => wpY_like (fun r' v' => r' = r ∧ i_Rel (k + 3) u' v') v v1 v2) u v1 v2 := by
  obtain ⟨L, S, ad, PT, Q, W, N, K, Sh, hg, hx, hy⟩ := I
  have hg3 := sg_Good_up (show k ≤ k + 3 by omega) hg
  obtain ⟨hG, hS, had, hP, hQ, hK⟩ := hg
  have hr := sg_rel hg3 hx hy
  have inr : ∀ lim, v2 = nI lim → lim ≤ 10 → 0 ≤ v2 ∧ v2 ≤ 10 := fun lim e h => by rw [e]; exact ⟨nI_pos' (by omega), nI_le (b := 10) (by omega) (by omega)⟩
  refine sg_xlike hG hS hQ hx ?_ ?_ ?_ ?_
  · intro h
    exact sg_ylike (K' := []) hG hS hQ hy (fun i lim hi e _ _ _ => absurd e (h i hi)) (fun _ => ⟨rfl, hr⟩) (fun i hi e _ => absurd e (h i hi)) (fun i hi e _ _ => absurd e (h i hi)) (fun i lim v' hi e _ _ _ _ => absurd e (h i hi))
  · intro i hi e h
    refine sg_ylike (K' := []) hG hS hQ hy (fun j lim hj ej hne _ _ => ?_) (fun q => absurd e (q i hi)) (fun _ _ _ _ => ⟨rfl, hr⟩) (fun j hj ej hne _ => ?_) (fun j lim v' hj ej hne _ _ _ => ?_)
    · obtain rfl := sg_same hG hj hi ej e; exact absurd h hne
    · obtain rfl := sg_same hG hj hi ej e; exact absurd h hne
    · obtain rfl := sg_same hG hj hi ej e; exact absurd h hne
  · intro i hi e hne h
    refine sg_ylike (K' := []) hG hS hQ hy (fun j lim hj ej _ e2 hl => absurd (inr lim e2 hl) h) (fun q => absurd e (q i hi)) (fun j hj ej q => ?_) (fun _ _ _ _ _ => ⟨rfl, hr⟩) (fun j lim v' hj ej _ e2 hl _ => absurd (inr lim e2 hl) h)
    obtain rfl := sg_same hG hj hi ej e; exact absurd q hne
  · intro i lim K' u' hi e hne e2 hl hKK hKl hx'
    obtain ⟨l1, l2, l3⟩ := sg_lk_eq (S := S) hG hne
    refine sg_ylike (K' := K') hG hS hQ hy (fun j lim' hj ej _ e2' hl' => ?_) (fun q => absurd e (q i hi)) (fun j hj ej q => ?_) (fun j hj ej _ q => absurd (inr lim e2 hl) q) (fun j lim' v' hj ej _ e2' hl' hy' => ?_)
    · obtain rfl := sg_same hG hj hi ej e
      obtain rfl : lim = lim' := (nI_eq (by omega) (by omega)).mp (e2.symm.trans e2')
      rw [← l1, ← l2, ← l3]; exact hKK
    · obtain rfl := sg_same hG hj hi ej e; exact absurd q hne
    · obtain rfl := sg_same hG hj hi ej e
      rw [← l1] at hy' ⊢
      exact ⟨rfl, sg_rel ⟨hG, hS, hg3.2.2.1, hP, hQ, hKl⟩ hx' hy'⟩
theorem i_vc_hit {k : Nat} {u : SX} {v : SY} (I : i_Rel k u v) (hk : k + 3 ≤ 1536) (v1 : Int32) (v2 : Int32) : wpX_hit (fun r => wpY_hit (fun r' => r' = r ∧ i_Rel (k + 3) u v) v v1 v2) u v1 v2 := by
  obtain ⟨L, S, ad, PT, Q, W, N, K, Sh, hg, hx, hy⟩ := I
  have hr := sg_rel (sg_Good_up (show k ≤ k + 3 by omega) hg) hx hy
  obtain ⟨hG, hS, had, hP, hQ, hK⟩ := hg
  have n01 : (0 : Int32) ≠ 1 := by decide
  refine sg_xhit hK hx ?_ ?_ ?_ ?_
  · intro h
    exact sg_yhit hK hy (fun _ => ⟨rfl, hr⟩) (fun j hj e _ => absurd ⟨j, hj, e⟩ h) (fun j hj e _ => absurd ⟨j, hj, e⟩ h) (fun j hj e _ => absurd ⟨j, hj, e⟩ h)
  · intro j hj e h
    exact sg_yhit hK hy (fun q => absurd ⟨j, hj, e⟩ q) (fun _ _ _ _ => ⟨rfl, hr⟩) (fun j' hj' e' q => absurd (by rw [q]; decide) h) (fun j' hj' e' q => absurd (by rw [q]; decide) h)
  · intro j hj e h
    refine sg_yhit hK hy (fun q => absurd ⟨j, hj, e⟩ q) (fun _ _ _ q => absurd (by rw [h]; decide) q) (fun j' hj' e' _ => ?_) (fun j' hj' e' q => absurd (h.symm.trans q) n01)
    obtain rfl : j = j' := (nI_eq (by omega) (by omega)).mp (e.symm.trans e')
    exact ⟨rfl, hr⟩
  · intro j hj e h
    refine sg_yhit hK hy (fun q => absurd ⟨j, hj, e⟩ q) (fun _ _ _ q => absurd (by rw [h]; decide) q) (fun j' hj' e' q => absurd (q.symm.trans h) n01) (fun j' hj' e' _ => ?_)
    obtain rfl : j = j' := (nI_eq (by omega) (by omega)).mp (e.symm.trans e')
    exact ⟨rfl, hr⟩
theorem i_vc_share {k : Nat} {u : SX} {v : SY} (I : i_Rel k u v) (hk : k + 3 ≤ 1536) (v1 : Int32) : wpX_share (fun r => wpY_share (fun r' => r' = r ∧ i_Rel (k + 3) u v) v v1) u v1 := by
  obtain ⟨L, S, ad, PT, Q, W, N, K, Sh, hg, hx, hy⟩ := I
  have hr := sg_rel (sg_Good_up (show k ≤ k + 3 by omega) hg) hx hy
  refine sg_xshare hx (fun h => sg_yshare hy (fun _ => ⟨rfl, hr⟩) (fun j hj e => absurd (by rw [e]; exact ⟨nI_pos' (by omega), nI_le (b := 9) (by omega) (by omega)⟩) h)) (fun j hj e => sg_yshare hy (fun q => absurd (by rw [e]; exact ⟨nI_pos' (by omega), nI_le (b := 9) (by omega) (by omega)⟩) q) (fun j' hj' e' => ?_))
  obtain rfl : j = j' := (nI_eq (by omega) (by omega)).mp (e.symm.trans e')
  exact ⟨rfl, hr⟩
theorem i_vc_watch {k : Nat} {u : SX} {v : SY} (I : i_Rel k u v) (hk : k + 3 ≤ 1536) (v1 : Int32) : wpX_watch (fun r u' => wpY_watch (fun r' v' => r' = r ∧ i_Rel (k + 3) u' v') v v1) u v1 := by
  obtain ⟨L, S, ad, PT, Q, W, N, K, Sh, hg, hx, hy⟩ := I
  have hg3 := sg_Good_up (show k ≤ k + 3 by omega) hg
  obtain ⟨hG, hS, had, hP, hQ, hK⟩ := hg
  have hr := sg_rel hg3 hx hy
  have inr : ∀ w, v1 = nI w → w < 4 → 0 ≤ v1 ∧ v1 ≤ 3 := fun w e h => by rw [e]; exact ⟨nI_pos' (by omega), nI_le (b := 3) (by omega) (by omega)⟩
  have con : Q ≠ [] → sg_chk Q [false] = false → ¬ (Q = [] ∨ sg_chk Q [false] = true) := fun h1 h2 q => by
    rcases q with q | q
    · exact h1 q
    · rw [h2] at q; cases q
  refine sg_xwatch hQ hx ?_ ?_ ?_
  · intro h
    exact sg_ywatch hQ hy (fun _ => ⟨rfl, hr⟩) (fun w v' hw e _ _ _ => absurd (inr w e hw) h) (fun w v' hw e _ _ => absurd (inr w e hw) h)
  · intro w u' hw e h1 h2 hx'
    exact sg_ywatch hQ hy (fun q => absurd (inr w e hw) q) (fun w' v' hw' e' _ _ hy' => ⟨rfl, sg_rel ⟨hG, hS, hg3.2.2.1, hP, ⟨Nat.zero_le _, (fun t ht => by cases ht), hQ.2.2⟩, hK⟩ hx' hy'⟩) (fun w' v' hw' e' q _ => absurd q (con h1 h2))
  · intro w u' hw e h hx'
    refine sg_ywatch hQ hy (fun q => absurd (inr w e hw) q) (fun w' v' hw' e' h1 h2 _ => absurd h (con h1 h2)) (fun w' v' hw' e' _ hy' => ?_)
    obtain rfl : w = w' := (nI_eq (by omega) (by omega)).mp (e.symm.trans e')
    refine ⟨rfl, sg_rel ⟨hG, hS, hg3.2.2.1, hP, ⟨Nat.zero_le _, (fun t ht => by cases ht), fun w2 hw2 => ?_⟩, hK⟩ hx' hy'⟩
    by_cases q : w2 = w
    · subst q
      rw [sg_set_s]
      exact ⟨hQ.1, h.elim Or.inl (fun z => Or.inr (sg_chk_Ex hQ.2.1 z))⟩
    · rw [sg_set_n q]; exact hQ.2.2 w2 hw2
theorem i_vc_next {k : Nat} {u : SX} {v : SY} (I : i_Rel k u v) (hk : k + 3 ≤ 1536) (v1 : Int32) : wpX_next (fun r u' => wpY_next (fun r' v' => r' = r ∧ i_Rel (k + 3) u' v') v v1) u v1 := by
  obtain ⟨L, S, ad, PT, Q, W, N, K, Sh, hg, hx, hy⟩ := I
  have hg3 := sg_Good_up (show k ≤ k + 3 by omega) hg
  have hr := sg_rel hg3 hx hy
  have inr : ∀ w, v1 = nI w → w < 4 → 0 ≤ v1 ∧ v1 ≤ 3 := fun w e h => by rw [e]; exact ⟨nI_pos' (by omega), nI_le (b := 3) (by omega) (by omega)⟩
  refine sg_xnext hx ?_ ?_ ?_
  · intro h
    exact sg_ynext hy (fun _ => ⟨rfl, hr⟩) (fun w hw e _ => absurd (inr w e hw) h) (fun w v' hw e _ _ => absurd (inr w e hw) h)
  · intro w hw e h
    refine sg_ynext hy (fun q => absurd (inr w e hw) q) (fun _ _ _ _ => ⟨rfl, hr⟩) (fun w' v' hw' e' q _ => ?_)
    obtain rfl : w = w' := (nI_eq (by omega) (by omega)).mp (e.symm.trans e')
    exact absurd h q
  · intro w u' hw e h hx'
    refine sg_ynext hy (fun q => absurd (inr w e hw) q) (fun w' hw' e' q => ?_) (fun w' v' hw' e' _ hy' => ?_)
    · obtain rfl : w = w' := (nI_eq (by omega) (by omega)).mp (e.symm.trans e')
      exact absurd q h
    · obtain rfl : w = w' := (nI_eq (by omega) (by omega)).mp (e.symm.trans e')
      exact ⟨rfl, sg_rel hg3 hx' hy'⟩
end
