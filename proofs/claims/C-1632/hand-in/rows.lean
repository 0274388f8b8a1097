section
/-! pure rows to paste: stores, nI and lN arithmetic, masks, shifts, narrowing, branches by naturals (pk_le, pk_lt, pk_eq), loops (lp1 .. lp16: the measure of the state; rp1 ..: recursion), negatives. Take what you need -/
theorem pk_us {f : Nat → Int32} {k : Nat} {x : Int32} : upd f k x k = x := if_pos rfl
theorem pk_un {f : Nat → Int32} {k j : Nat} {x : Int32} (h : j ≠ k) : upd f k x j = f j := if_neg h
theorem pk_uLs {f : Nat → Int64} {k : Nat} {x : Int64} : vp_updL f k x k = x := if_pos rfl
theorem pk_uLn {f : Nat → Int64} {k j : Nat} {x : Int64} (h : j ≠ k) : vp_updL f k x j = f j := if_neg h
theorem pk_sub {a b : Nat} (h : b ≤ a) : nI a - nI b = nI (a - b) := by
  obtain ⟨c, rfl⟩ : ∃ c, a = c + b := ⟨a - b, by omega⟩
  rw [← nI_add, Int32.add_sub_cancel, Nat.add_sub_cancel]
theorem pk_m1 (n : Nat) : nI (n + 1) + (-1) = nI n := by
  rw [← nI_1, Int32.add_assoc, show (1 : Int32) + (-1) = 0 from rfl, Int32.add_zero]
theorem pk_mul (a b : Nat) : nI a * nI b = nI (a * b) := (Int32.ofNat_mul a b).symm
theorem pk_div {a d : Nat} (ha : a < 2 ^ 31) (h0 : 0 < d) (hd : d < 2 ^ 31) : nI a / nI d = nI (a / d) := by
  apply Int32.toInt_inj.mp
  rw [lg_idiv_nonneg (by rw [nI_toInt ha]; omega) (by rw [nI_toInt hd]; omega), nI_toInt ha, nI_toInt hd, nI_toInt (Nat.lt_of_le_of_lt (Nat.div_le_self a d) ha)]
  first | rfl | exact (Int.natCast_ediv _ _).symm
theorem pk_rem {a d : Nat} (ha : a < 2 ^ 31) (h0 : 0 < d) (hd : d < 2 ^ 31) : nI a - nI a / nI d * nI d = nI (a % d) := by
  rw [pk_div ha h0 hd, pk_mul, pk_sub (Nat.div_mul_le_self a d)]
  exact congrArg nI (by have := Nat.div_add_mod' a d; omega)
theorem pk_sub_toInt {a b : Nat} (ha : a < 2 ^ 30) (hb : b < 2 ^ 30) : (nI a - nI b).toInt = (a : Int) - b := by
  rw [Int32.toInt_sub, nI_toInt (by omega), nI_toInt (by omega)]
  exact Int.bmod_eq_of_le (by omega) (by omega)
theorem pk_sneg {a b : Nat} (hb : b < 2 ^ 30) (h : a < b) : nI a - nI b < 0 := by
  rw [Int32.lt_iff_toInt_lt, pk_sub_toInt (by omega) hb, show (0 : Int32).toInt = 0 from by decide]
  omega
theorem pk_ix (x : Int32) {n : Nat} (hn : n < 2 ^ 31) : x < 0 ∨ nI n ≤ x ∨ ∃ j : Nat, j < n ∧ x = nI j := by
  by_cases h : x < 0
  · exact Or.inl h
  · obtain ⟨j, hj, rfl⟩ := nI_of h
    by_cases h2 : j < n
    · exact Or.inr (Or.inr ⟨j, h2, rfl⟩)
    · exact Or.inr (Or.inl (nI_le (by omega) hj))
theorem pk_le {x y : Int32} {A B : Prop} (a b : Nat) (f : a ≤ b → A) (g : b < a → B) (hx : x = nI a := by rfl) (hy : y = nI b := by rfl) (ha : a < 2 ^ 31 := by omega) (hb : b < 2 ^ 31 := by omega) : (x ≤ y → A) ∧ (¬ x ≤ y → B) := by
  subst hx hy
  rw [nI_leI ha hb]
  exact ⟨f, fun z => g (by omega)⟩
theorem pk_lt {x y : Int32} {A B : Prop} (a b : Nat) (f : a < b → A) (g : b ≤ a → B) (hx : x = nI a := by rfl) (hy : y = nI b := by rfl) (ha : a < 2 ^ 31 := by omega) (hb : b < 2 ^ 31 := by omega) : (x < y → A) ∧ (¬ x < y → B) := by
  subst hx hy
  rw [nI_ltI ha hb]
  exact ⟨f, fun z => g (by omega)⟩
theorem pk_eq {x y : Int32} {A B : Prop} (a b : Nat) (f : a = b → A) (g : a ≠ b → B) (hx : x = nI a := by rfl) (hy : y = nI b := by rfl) (ha : a < 2 ^ 31 := by omega) (hb : b < 2 ^ 31 := by omega) : (x = y → A) ∧ (¬ x = y → B) := by
  subst hx hy
  rw [nI_eq ha hb]
  exact ⟨f, g⟩
theorem pk_in {x : Int32} (n N : Nat) (h : n < N) (hx : x = nI n := by rfl) (hN : N < 2 ^ 31 := by omega) : vp_in x N := by
  subst hx
  exact vp_in_nI h hN
theorem pk_cl {x : Int32} (n : Nat) (hx : x = nI n := by rfl) (h : n < 2 ^ 31 := by omega) : x.toNatClampNeg = n := by
  subst hx
  exact nI_clamp h
theorem pk_tn {n : Nat} (h : n < 2 ^ 32) : (nI n).toBitVec.toNat = n := Nat.mod_eq_of_lt h
theorem pk_and (x : Int32) {m : Int32} (k : Nat) (hm : m.toBitVec.toNat = 2 ^ k - 1) : x &&& m = nI (x.toBitVec.toNat % 2 ^ k) := by
  apply Int32.toBitVec_inj.mp
  apply BitVec.eq_of_toNat_eq
  rw [Int32.toBitVec_and, BitVec.toNat_and, hm, Nat.and_two_pow_sub_one_eq_mod]
  show _ = (BitVec.ofNat 32 _).toNat
  rw [BitVec.toNat_ofNat]
  exact (Nat.mod_eq_of_lt (Nat.lt_of_le_of_lt (Nat.mod_le _ _) x.toBitVec.isLt)).symm
theorem pk_andN {n : Nat} (h : n < 2 ^ 32) {m : Int32} (k : Nat) (hm : m.toBitVec.toNat = 2 ^ k - 1) : nI n &&& m = nI (n % 2 ^ k) := by
  rw [pk_and _ k hm, pk_tn h]
theorem pk_andE (x : Int32) {m : Int32} (k : Nat) (hm : m.toBitVec.toNat = 2 ^ k - 1) : ∃ j : Nat, j < 2 ^ k ∧ x &&& m = nI j := ⟨_, Nat.mod_lt _ (Nat.two_pow_pos k), pk_and x k hm⟩
theorem pk_andIn (x : Int32) {m : Int32} (k : Nat) (hm : m.toBitVec.toNat = 2 ^ k - 1) (hk : k ≤ 30) : vp_in (x &&& m) (2 ^ k) := by
  obtain ⟨j, hj, e⟩ := pk_andE x k hm
  rw [e]
  exact vp_in_nI hj (Nat.lt_of_le_of_lt (Nat.pow_le_pow_right (by decide) hk) (by decide))
theorem pk_shl (a s : Int32) (k : Nat) (hs : (s.toBitVec.smod 32).toNat = k) : (a <<< s).toBitVec.toNat = a.toBitVec.toNat * 2 ^ k % 2 ^ 32 := by
  show (a.toBitVec <<< (s.toBitVec.smod 32).toNat).toNat = _
  rw [hs, BitVec.toNat_shiftLeft, Nat.shiftLeft_eq]
theorem pk_shlN {n : Nat} (s : Int32) (k : Nat) (hs : (s.toBitVec.smod 32).toNat = k) (h : n * 2 ^ k < 2 ^ 32) : nI n <<< s = nI (n * 2 ^ k) := by
  apply Int32.toBitVec_inj.mp
  apply BitVec.eq_of_toNat_eq
  have hn : n < 2 ^ 32 := Nat.lt_of_le_of_lt (Nat.le_mul_of_pos_right n (Nat.two_pow_pos k)) h
  rw [pk_shl _ _ k hs, pk_tn hn, pk_tn h, Nat.mod_eq_of_lt h]
theorem pk_shr (a s : Int32) (k : Nat) (hs : (s.toBitVec.smod 32).toNat = k) : (a >>> s).toInt = a.toInt >>> k := by
  show (a.toBitVec.sshiftRight (s.toBitVec.smod 32).toNat).toInt = _
  rw [hs, BitVec.toInt_sshiftRight]
  rfl
theorem pk_shrN {n : Nat} (h : n < 2 ^ 31) (s : Int32) (k : Nat) (hs : (s.toBitVec.smod 32).toNat = k) : nI n >>> s = nI (n / 2 ^ k) := by
  apply Int32.toInt_inj.mp
  have h2 : n / 2 ^ k ≤ n := Nat.div_le_self _ _
  rw [pk_shr _ _ k hs, nI_toInt h, nI_toInt (by omega), Int.shiftRight_eq_div_pow]
  rfl
theorem pk_ushr (x s : Int32) (k : Nat) (hs : ((s.toUInt32 &&& Int32.toUInt32 31).toBitVec % 32).toNat = k) : (x.toUInt32 >>> (s.toUInt32 &&& Int32.toUInt32 31)).toInt32.toBitVec.toNat = x.toBitVec.toNat / 2 ^ k := by
  have e : (x.toUInt32 >>> (s.toUInt32 &&& Int32.toUInt32 31)).toInt32.toBitVec = x.toBitVec >>> k := by
    rw [← hs]
    exact UInt32.toBitVec_shiftRight _ _
  rw [e, BitVec.toNat_ushiftRight, Nat.shiftRight_eq_div_pow]
theorem pk_ushrN {n : Nat} (hn : n < 2 ^ 32) (s : Int32) (k : Nat) (hs : ((s.toUInt32 &&& Int32.toUInt32 31).toBitVec % 32).toNat = k) : ((nI n).toUInt32 >>> (s.toUInt32 &&& Int32.toUInt32 31)).toInt32 = nI (n / 2 ^ k) := by
  apply Int32.toBitVec_inj.mp
  apply BitVec.eq_of_toNat_eq
  rw [pk_ushr _ s k hs, pk_tn hn, pk_tn (Nat.lt_of_le_of_lt (Nat.div_le_self _ _) hn)]
theorem pk_nb (z : Int32) : narrow .byte (.int z.toInt8.toInt32) = .int z.toInt8.toInt32 := congrArg Value.int (by simp)
theorem pk_ns (z : Int32) : narrow .short (.int z.toInt16.toInt32) = .int z.toInt16.toInt32 := congrArg Value.int (by simp)
theorem pk_fb (r : Int32) : fits .byte (.int r.toInt8.toInt32) = true := by
  have ⟨a, b⟩ := lg_i2b_range r
  have h1 : (-128 : Int32).toInt = -128 := by decide
  have h2 : (127 : Int32).toInt = 127 := by decide
  simp only [fits, Bool.and_eq_true, decide_eq_true_eq, Int32.le_iff_toInt_le, h1, h2]
  omega
theorem pk_fs (r : Int32) : fits .short (.int r.toInt16.toInt32) = true := by
  have ⟨a, b⟩ := lg_i2s_range r
  have h1 : (-32768 : Int32).toInt = -32768 := by decide
  have h2 : (32767 : Int32).toInt = 32767 := by decide
  simp only [fits, Bool.and_eq_true, decide_eq_true_eq, Int32.le_iff_toInt_le, h1, h2]
  omega
theorem pk_charN {q : Nat} (hq : q < 65536) : narrow .char (.int (nI q)) = .int (nI q) ∧ fits .char (.int (nI q)) = true := by
  constructor
  · have e : (nI q).toUInt32.toUInt16.toUInt32.toInt32 = nI q := by
      apply Int32.toBitVec_inj.mp
      apply BitVec.eq_of_toNat_eq
      show (nI q).toUInt32.toUInt16.toUInt32.toNat = q % 2 ^ 32
      rw [UInt16.toNat_toUInt32, UInt32.toNat_toUInt16, show (nI q).toUInt32.toNat = q % 2 ^ 32 from rfl]
      omega
    exact congrArg Value.int e
  · have a : (0 : Int32) ≤ nI q := nI_pos' (by omega)
    have b : nI q ≤ 65535 := nI_le (b := 65535) (by omega) (by decide)
    show (decide ((0 : Int32) ≤ nI q) && decide (nI q ≤ 65535)) = true
    rw [decide_eq_true a, decide_eq_true b]
    rfl
theorem pk_char (x : Int32) : (x.toUInt32 % 65536).toInt32 = nI (x.toBitVec.toNat % 65536) := by
  apply Int32.toBitVec_inj.mp
  apply BitVec.eq_of_toNat_eq
  rw [pk_tn (by omega)]
  show (x.toUInt32 % 65536).toNat = _
  rw [UInt32.toNat_mod]
  rfl
theorem pk_nc (x : Int32) : narrow .char (.int (x.toUInt32 % 65536).toInt32) = .int (x.toUInt32 % 65536).toInt32 := by
  rw [pk_char]
  exact (pk_charN (Nat.mod_lt _ (by decide))).1
theorem pk_fc (x : Int32) : fits .char (.int (x.toUInt32 % 65536).toInt32) = true := by
  rw [pk_char]
  exact (pk_charN (Nat.mod_lt _ (by decide))).2
theorem pk_vb (z : Int32) : vp_nar .byte z.toInt8.toInt32 = z.toInt8.toInt32 := by rw [vp_nar_byte]; simp
theorem pk_vs (z : Int32) : vp_nar .short z.toInt16.toInt32 = z.toInt16.toInt32 := by rw [vp_nar_short]; simp
theorem pk_vc (z : Int32) : vp_nar .char (z.toUInt32 % 65536).toInt32 = (z.toUInt32 % 65536).toInt32 := Value.int.inj (pk_nc z)
theorem pk_lT {n : Nat} (h : n < 2 ^ 63) : (lN n).toInt = (n : Int) := lg_ofNat_toInt h
theorem pk_lLT {a b : Nat} (ha : a < 2 ^ 63) (hb : b < 2 ^ 63) : lN a < lN b ↔ a < b := by
  rw [Int64.lt_iff_toInt_lt, pk_lT ha, pk_lT hb]; omega
theorem pk_lLE {a b : Nat} (ha : a < 2 ^ 63) (hb : b < 2 ^ 63) : lN a ≤ lN b ↔ a ≤ b := by
  rw [Int64.le_iff_toInt_le, pk_lT ha, pk_lT hb]; omega
theorem pk_lEQ {a b : Nat} (ha : a < 2 ^ 63) (hb : b < 2 ^ 63) : lN a = lN b ↔ a = b := by
  rw [← Int64.toInt_inj, pk_lT ha, pk_lT hb]; omega
theorem pk_lOf {x : Int64} (h : ¬ x < 0) : ∃ k : Nat, k < 2 ^ 63 ∧ x = lN k := by
  rw [Int64.lt_iff_toInt_lt] at h
  have h0 : (0 : Int64).toInt = 0 := by decide
  have hx := Int64.toInt_lt x
  refine ⟨x.toInt.toNat, by omega, Int64.toInt_inj.mp ?_⟩
  rw [pk_lT (by omega)]
  omega
theorem pk_lDiv {a b : Nat} (ha : a < 2 ^ 63) (h0 : 0 < b) (hb : b < 2 ^ 63) : lN a / lN b = lN (a / b) := by
  apply Int64.toInt_inj.mp
  rw [lg_ldiv_nonneg (by rw [pk_lT ha]; omega) (by rw [pk_lT hb]; omega), pk_lT ha, pk_lT hb, pk_lT (Nat.lt_of_le_of_lt (Nat.div_le_self a b) ha)]
  rfl
theorem pk_lRem {a b : Nat} (ha : a < 2 ^ 63) (h0 : 0 < b) (hb : b < 2 ^ 63) : lN a - lN a / lN b * lN b = lN (a % b) := by
  rw [pk_lDiv ha h0 hb, lN_mul, lN_sub (Nat.div_mul_le_self a b)]
  exact congrArg lN (by have := Nat.div_add_mod' a b; omega)
theorem pk_loop {σ : Type} (W : Nat → Nat → σ → Prop) (I : Nat → σ → Prop) (e i0 : Nat) (s : σ) (hi : i0 ≤ e) (h0 : I i0 s) (hx : ∀ n s, I e s → W (n + 1) e s)
    (hs : ∀ n i s, i < e → I i s → (∀ s', I (i + 1) s' → W n (i + 1) s') → W (n + 1) i s) : ∃ n, W n i0 s :=
  ⟨e + 1, loop_i W I e hx hs (e + 1) i0 s hi (by omega) h0⟩
theorem pk_loopD {σ : Type} (W : Nat → Nat → σ → Prop) (I : Nat → σ → Prop) (hx : ∀ n s, I 0 s → W (n + 1) 0 s)
    (hs : ∀ n i s, I (i + 1) s → (∀ s', I i s' → W n i s') → W (n + 1) (i + 1) s) : ∀ (e : Nat) (s : σ), I e s → W (e + 1) e s := by
  intro e
  induction e with
  | zero => exact fun s h => hx 0 s h
  | succ e ih => exact fun s h => hs (e + 1) e s h (fun s' h' => ih s' h')
theorem lp1 {A1 : Type} (W : Nat → A1 → Prop) (I : A1 → Prop) (μ : A1 → Nat) (hs : ∀ (n : Nat) (a1 : A1), I a1 → (∀ (b1 : A1), I b1 → μ b1 < μ a1 → W n b1) → W (n + 1) a1) (a1 : A1) (h : I a1) : ∃ n, W n a1 :=
  loop_m (σ := A1) (fun n s => W n s) (fun s => I s) (fun s => μ s) (fun n s hI hk => hs n s hI (fun b1 h9 hm => hk b1 h9 hm)) a1 h
theorem lp2 {A1 A2 : Type} (W : Nat → A1 → A2 → Prop) (I : A1 → A2 → Prop) (μ : A1 → A2 → Nat) (hs : ∀ (n : Nat) (a1 : A1) (a2 : A2), I a1 a2 → (∀ (b1 : A1) (b2 : A2), I b1 b2 → μ b1 b2 < μ a1 a2 → W n b1 b2) → W (n + 1) a1 a2) (a1 : A1) (a2 : A2) (h : I a1 a2) : ∃ n, W n a1 a2 :=
  loop_m (σ := A1 × A2) (fun n s => W n s.1 s.2) (fun s => I s.1 s.2) (fun s => μ s.1 s.2) (fun n s hI hk => hs n s.1 s.2 hI (fun b1 b2 h9 hm => hk (b1, b2) h9 hm)) (a1, a2) h
theorem lp3 {A1 A2 A3 : Type} (W : Nat → A1 → A2 → A3 → Prop) (I : A1 → A2 → A3 → Prop) (μ : A1 → A2 → A3 → Nat) (hs : ∀ (n : Nat) (a1 : A1) (a2 : A2) (a3 : A3), I a1 a2 a3 → (∀ (b1 : A1) (b2 : A2) (b3 : A3), I b1 b2 b3 → μ b1 b2 b3 < μ a1 a2 a3 → W n b1 b2 b3) → W (n + 1) a1 a2 a3) (a1 : A1) (a2 : A2) (a3 : A3) (h : I a1 a2 a3) : ∃ n, W n a1 a2 a3 :=
  loop_m (σ := A1 × A2 × A3) (fun n s => W n s.1 s.2.1 s.2.2) (fun s => I s.1 s.2.1 s.2.2) (fun s => μ s.1 s.2.1 s.2.2) (fun n s hI hk => hs n s.1 s.2.1 s.2.2 hI (fun b1 b2 b3 h9 hm => hk (b1, b2, b3) h9 hm)) (a1, a2, a3) h
theorem lp4 {A1 A2 A3 A4 : Type} (W : Nat → A1 → A2 → A3 → A4 → Prop) (I : A1 → A2 → A3 → A4 → Prop) (μ : A1 → A2 → A3 → A4 → Nat) (hs : ∀ (n : Nat) (a1 : A1) (a2 : A2) (a3 : A3) (a4 : A4), I a1 a2 a3 a4 → (∀ (b1 : A1) (b2 : A2) (b3 : A3) (b4 : A4), I b1 b2 b3 b4 → μ b1 b2 b3 b4 < μ a1 a2 a3 a4 → W n b1 b2 b3 b4) → W (n + 1) a1 a2 a3 a4) (a1 : A1) (a2 : A2) (a3 : A3) (a4 : A4) (h : I a1 a2 a3 a4) : ∃ n, W n a1 a2 a3 a4 :=
  loop_m (σ := A1 × A2 × A3 × A4) (fun n s => W n s.1 s.2.1 s.2.2.1 s.2.2.2) (fun s => I s.1 s.2.1 s.2.2.1 s.2.2.2) (fun s => μ s.1 s.2.1 s.2.2.1 s.2.2.2) (fun n s hI hk => hs n s.1 s.2.1 s.2.2.1 s.2.2.2 hI (fun b1 b2 b3 b4 h9 hm => hk (b1, b2, b3, b4) h9 hm)) (a1, a2, a3, a4) h
theorem lp5 {A1 A2 A3 A4 A5 : Type} (W : Nat → A1 → A2 → A3 → A4 → A5 → Prop) (I : A1 → A2 → A3 → A4 → A5 → Prop) (μ : A1 → A2 → A3 → A4 → A5 → Nat) (hs : ∀ (n : Nat) (a1 : A1) (a2 : A2) (a3 : A3) (a4 : A4) (a5 : A5), I a1 a2 a3 a4 a5 → (∀ (b1 : A1) (b2 : A2) (b3 : A3) (b4 : A4) (b5 : A5), I b1 b2 b3 b4 b5 → μ b1 b2 b3 b4 b5 < μ a1 a2 a3 a4 a5 → W n b1 b2 b3 b4 b5) → W (n + 1) a1 a2 a3 a4 a5) (a1 : A1) (a2 : A2) (a3 : A3) (a4 : A4) (a5 : A5) (h : I a1 a2 a3 a4 a5) : ∃ n, W n a1 a2 a3 a4 a5 :=
  loop_m (σ := A1 × A2 × A3 × A4 × A5) (fun n s => W n s.1 s.2.1 s.2.2.1 s.2.2.2.1 s.2.2.2.2) (fun s => I s.1 s.2.1 s.2.2.1 s.2.2.2.1 s.2.2.2.2) (fun s => μ s.1 s.2.1 s.2.2.1 s.2.2.2.1 s.2.2.2.2) (fun n s hI hk => hs n s.1 s.2.1 s.2.2.1 s.2.2.2.1 s.2.2.2.2 hI (fun b1 b2 b3 b4 b5 h9 hm => hk (b1, b2, b3, b4, b5) h9 hm)) (a1, a2, a3, a4, a5) h
theorem lp6 {A1 A2 A3 A4 A5 A6 : Type} (W : Nat → A1 → A2 → A3 → A4 → A5 → A6 → Prop) (I : A1 → A2 → A3 → A4 → A5 → A6 → Prop) (μ : A1 → A2 → A3 → A4 → A5 → A6 → Nat) (hs : ∀ (n : Nat) (a1 : A1) (a2 : A2) (a3 : A3) (a4 : A4) (a5 : A5) (a6 : A6), I a1 a2 a3 a4 a5 a6 → (∀ (b1 : A1) (b2 : A2) (b3 : A3) (b4 : A4) (b5 : A5) (b6 : A6), I b1 b2 b3 b4 b5 b6 → μ b1 b2 b3 b4 b5 b6 < μ a1 a2 a3 a4 a5 a6 → W n b1 b2 b3 b4 b5 b6) → W (n + 1) a1 a2 a3 a4 a5 a6) (a1 : A1) (a2 : A2) (a3 : A3) (a4 : A4) (a5 : A5) (a6 : A6) (h : I a1 a2 a3 a4 a5 a6) : ∃ n, W n a1 a2 a3 a4 a5 a6 :=
  loop_m (σ := A1 × A2 × A3 × A4 × A5 × A6) (fun n s => W n s.1 s.2.1 s.2.2.1 s.2.2.2.1 s.2.2.2.2.1 s.2.2.2.2.2) (fun s => I s.1 s.2.1 s.2.2.1 s.2.2.2.1 s.2.2.2.2.1 s.2.2.2.2.2) (fun s => μ s.1 s.2.1 s.2.2.1 s.2.2.2.1 s.2.2.2.2.1 s.2.2.2.2.2) (fun n s hI hk => hs n s.1 s.2.1 s.2.2.1 s.2.2.2.1 s.2.2.2.2.1 s.2.2.2.2.2 hI (fun b1 b2 b3 b4 b5 b6 h9 hm => hk (b1, b2, b3, b4, b5, b6) h9 hm)) (a1, a2, a3, a4, a5, a6) h
theorem lp7 {A1 A2 A3 A4 A5 A6 A7 : Type} (W : Nat → A1 → A2 → A3 → A4 → A5 → A6 → A7 → Prop) (I : A1 → A2 → A3 → A4 → A5 → A6 → A7 → Prop) (μ : A1 → A2 → A3 → A4 → A5 → A6 → A7 → Nat) (hs : ∀ (n : Nat) (a1 : A1) (a2 : A2) (a3 : A3) (a4 : A4) (a5 : A5) (a6 : A6) (a7 : A7), I a1 a2 a3 a4 a5 a6 a7 → (∀ (b1 : A1) (b2 : A2) (b3 : A3) (b4 : A4) (b5 : A5) (b6 : A6) (b7 : A7), I b1 b2 b3 b4 b5 b6 b7 → μ b1 b2 b3 b4 b5 b6 b7 < μ a1 a2 a3 a4 a5 a6 a7 → W n b1 b2 b3 b4 b5 b6 b7) → W (n + 1) a1 a2 a3 a4 a5 a6 a7) (a1 : A1) (a2 : A2) (a3 : A3) (a4 : A4) (a5 : A5) (a6 : A6) (a7 : A7) (h : I a1 a2 a3 a4 a5 a6 a7) : ∃ n, W n a1 a2 a3 a4 a5 a6 a7 :=
  loop_m (σ := A1 × A2 × A3 × A4 × A5 × A6 × A7) (fun n s => W n s.1 s.2.1 s.2.2.1 s.2.2.2.1 s.2.2.2.2.1 s.2.2.2.2.2.1 s.2.2.2.2.2.2) (fun s => I s.1 s.2.1 s.2.2.1 s.2.2.2.1 s.2.2.2.2.1 s.2.2.2.2.2.1 s.2.2.2.2.2.2) (fun s => μ s.1 s.2.1 s.2.2.1 s.2.2.2.1 s.2.2.2.2.1 s.2.2.2.2.2.1 s.2.2.2.2.2.2) (fun n s hI hk => hs n s.1 s.2.1 s.2.2.1 s.2.2.2.1 s.2.2.2.2.1 s.2.2.2.2.2.1 s.2.2.2.2.2.2 hI (fun b1 b2 b3 b4 b5 b6 b7 h9 hm => hk (b1, b2, b3, b4, b5, b6, b7) h9 hm)) (a1, a2, a3, a4, a5, a6, a7) h
theorem lp8 {A1 A2 A3 A4 A5 A6 A7 A8 : Type} (W : Nat → A1 → A2 → A3 → A4 → A5 → A6 → A7 → A8 → Prop) (I : A1 → A2 → A3 → A4 → A5 → A6 → A7 → A8 → Prop) (μ : A1 → A2 → A3 → A4 → A5 → A6 → A7 → A8 → Nat) (hs : ∀ (n : Nat) (a1 : A1) (a2 : A2) (a3 : A3) (a4 : A4) (a5 : A5) (a6 : A6) (a7 : A7) (a8 : A8), I a1 a2 a3 a4 a5 a6 a7 a8 → (∀ (b1 : A1) (b2 : A2) (b3 : A3) (b4 : A4) (b5 : A5) (b6 : A6) (b7 : A7) (b8 : A8), I b1 b2 b3 b4 b5 b6 b7 b8 → μ b1 b2 b3 b4 b5 b6 b7 b8 < μ a1 a2 a3 a4 a5 a6 a7 a8 → W n b1 b2 b3 b4 b5 b6 b7 b8) → W (n + 1) a1 a2 a3 a4 a5 a6 a7 a8) (a1 : A1) (a2 : A2) (a3 : A3) (a4 : A4) (a5 : A5) (a6 : A6) (a7 : A7) (a8 : A8) (h : I a1 a2 a3 a4 a5 a6 a7 a8) : ∃ n, W n a1 a2 a3 a4 a5 a6 a7 a8 :=
  loop_m (σ := A1 × A2 × A3 × A4 × A5 × A6 × A7 × A8) (fun n s => W n s.1 s.2.1 s.2.2.1 s.2.2.2.1 s.2.2.2.2.1 s.2.2.2.2.2.1 s.2.2.2.2.2.2.1 s.2.2.2.2.2.2.2) (fun s => I s.1 s.2.1 s.2.2.1 s.2.2.2.1 s.2.2.2.2.1 s.2.2.2.2.2.1 s.2.2.2.2.2.2.1 s.2.2.2.2.2.2.2) (fun s => μ s.1 s.2.1 s.2.2.1 s.2.2.2.1 s.2.2.2.2.1 s.2.2.2.2.2.1 s.2.2.2.2.2.2.1 s.2.2.2.2.2.2.2) (fun n s hI hk => hs n s.1 s.2.1 s.2.2.1 s.2.2.2.1 s.2.2.2.2.1 s.2.2.2.2.2.1 s.2.2.2.2.2.2.1 s.2.2.2.2.2.2.2 hI (fun b1 b2 b3 b4 b5 b6 b7 b8 h9 hm => hk (b1, b2, b3, b4, b5, b6, b7, b8) h9 hm)) (a1, a2, a3, a4, a5, a6, a7, a8) h
theorem lp9 {A1 A2 A3 A4 A5 A6 A7 A8 A9 : Type} (W : Nat → A1 → A2 → A3 → A4 → A5 → A6 → A7 → A8 → A9 → Prop) (I : A1 → A2 → A3 → A4 → A5 → A6 → A7 → A8 → A9 → Prop) (μ : A1 → A2 → A3 → A4 → A5 → A6 → A7 → A8 → A9 → Nat) (hs : ∀ (n : Nat) (a1 : A1) (a2 : A2) (a3 : A3) (a4 : A4) (a5 : A5) (a6 : A6) (a7 : A7) (a8 : A8) (a9 : A9), I a1 a2 a3 a4 a5 a6 a7 a8 a9 → (∀ (b1 : A1) (b2 : A2) (b3 : A3) (b4 : A4) (b5 : A5) (b6 : A6) (b7 : A7) (b8 : A8) (b9 : A9), I b1 b2 b3 b4 b5 b6 b7 b8 b9 → μ b1 b2 b3 b4 b5 b6 b7 b8 b9 < μ a1 a2 a3 a4 a5 a6 a7 a8 a9 → W n b1 b2 b3 b4 b5 b6 b7 b8 b9) → W (n + 1) a1 a2 a3 a4 a5 a6 a7 a8 a9) (a1 : A1) (a2 : A2) (a3 : A3) (a4 : A4) (a5 : A5) (a6 : A6) (a7 : A7) (a8 : A8) (a9 : A9) (h : I a1 a2 a3 a4 a5 a6 a7 a8 a9) : ∃ n, W n a1 a2 a3 a4 a5 a6 a7 a8 a9 :=
  loop_m (σ := A1 × A2 × A3 × A4 × A5 × A6 × A7 × A8 × A9) (fun n s => W n s.1 s.2.1 s.2.2.1 s.2.2.2.1 s.2.2.2.2.1 s.2.2.2.2.2.1 s.2.2.2.2.2.2.1 s.2.2.2.2.2.2.2.1 s.2.2.2.2.2.2.2.2) (fun s => I s.1 s.2.1 s.2.2.1 s.2.2.2.1 s.2.2.2.2.1 s.2.2.2.2.2.1 s.2.2.2.2.2.2.1 s.2.2.2.2.2.2.2.1 s.2.2.2.2.2.2.2.2) (fun s => μ s.1 s.2.1 s.2.2.1 s.2.2.2.1 s.2.2.2.2.1 s.2.2.2.2.2.1 s.2.2.2.2.2.2.1 s.2.2.2.2.2.2.2.1 s.2.2.2.2.2.2.2.2) (fun n s hI hk => hs n s.1 s.2.1 s.2.2.1 s.2.2.2.1 s.2.2.2.2.1 s.2.2.2.2.2.1 s.2.2.2.2.2.2.1 s.2.2.2.2.2.2.2.1 s.2.2.2.2.2.2.2.2 hI (fun b1 b2 b3 b4 b5 b6 b7 b8 b9 h9 hm => hk (b1, b2, b3, b4, b5, b6, b7, b8, b9) h9 hm)) (a1, a2, a3, a4, a5, a6, a7, a8, a9) h
theorem lp10 {A1 A2 A3 A4 A5 A6 A7 A8 A9 A10 : Type} (W : Nat → A1 → A2 → A3 → A4 → A5 → A6 → A7 → A8 → A9 → A10 → Prop) (I : A1 → A2 → A3 → A4 → A5 → A6 → A7 → A8 → A9 → A10 → Prop) (μ : A1 → A2 → A3 → A4 → A5 → A6 → A7 → A8 → A9 → A10 → Nat) (hs : ∀ (n : Nat) (a1 : A1) (a2 : A2) (a3 : A3) (a4 : A4) (a5 : A5) (a6 : A6) (a7 : A7) (a8 : A8) (a9 : A9) (a10 : A10), I a1 a2 a3 a4 a5 a6 a7 a8 a9 a10 → (∀ (b1 : A1) (b2 : A2) (b3 : A3) (b4 : A4) (b5 : A5) (b6 : A6) (b7 : A7) (b8 : A8) (b9 : A9) (b10 : A10), I b1 b2 b3 b4 b5 b6 b7 b8 b9 b10 → μ b1 b2 b3 b4 b5 b6 b7 b8 b9 b10 < μ a1 a2 a3 a4 a5 a6 a7 a8 a9 a10 → W n b1 b2 b3 b4 b5 b6 b7 b8 b9 b10) → W (n + 1) a1 a2 a3 a4 a5 a6 a7 a8 a9 a10) (a1 : A1) (a2 : A2) (a3 : A3) (a4 : A4) (a5 : A5) (a6 : A6) (a7 : A7) (a8 : A8) (a9 : A9) (a10 : A10) (h : I a1 a2 a3 a4 a5 a6 a7 a8 a9 a10) : ∃ n, W n a1 a2 a3 a4 a5 a6 a7 a8 a9 a10 :=
  loop_m (σ := A1 × A2 × A3 × A4 × A5 × A6 × A7 × A8 × A9 × A10) (fun n s => W n s.1 s.2.1 s.2.2.1 s.2.2.2.1 s.2.2.2.2.1 s.2.2.2.2.2.1 s.2.2.2.2.2.2.1 s.2.2.2.2.2.2.2.1 s.2.2.2.2.2.2.2.2.1 s.2.2.2.2.2.2.2.2.2) (fun s => I s.1 s.2.1 s.2.2.1 s.2.2.2.1 s.2.2.2.2.1 s.2.2.2.2.2.1 s.2.2.2.2.2.2.1 s.2.2.2.2.2.2.2.1 s.2.2.2.2.2.2.2.2.1 s.2.2.2.2.2.2.2.2.2) (fun s => μ s.1 s.2.1 s.2.2.1 s.2.2.2.1 s.2.2.2.2.1 s.2.2.2.2.2.1 s.2.2.2.2.2.2.1 s.2.2.2.2.2.2.2.1 s.2.2.2.2.2.2.2.2.1 s.2.2.2.2.2.2.2.2.2) (fun n s hI hk => hs n s.1 s.2.1 s.2.2.1 s.2.2.2.1 s.2.2.2.2.1 s.2.2.2.2.2.1 s.2.2.2.2.2.2.1 s.2.2.2.2.2.2.2.1 s.2.2.2.2.2.2.2.2.1 s.2.2.2.2.2.2.2.2.2 hI (fun b1 b2 b3 b4 b5 b6 b7 b8 b9 b10 h9 hm => hk (b1, b2, b3, b4, b5, b6, b7, b8, b9, b10) h9 hm)) (a1, a2, a3, a4, a5, a6, a7, a8, a9, a10) h
theorem lp11 {A1 A2 A3 A4 A5 A6 A7 A8 A9 A10 A11 : Type} (W : Nat → A1 → A2 → A3 → A4 → A5 → A6 → A7 → A8 → A9 → A10 → A11 → Prop) (I : A1 → A2 → A3 → A4 → A5 → A6 → A7 → A8 → A9 → A10 → A11 → Prop) (μ : A1 → A2 → A3 → A4 → A5 → A6 → A7 → A8 → A9 → A10 → A11 → Nat) (hs : ∀ (n : Nat) (a1 : A1) (a2 : A2) (a3 : A3) (a4 : A4) (a5 : A5) (a6 : A6) (a7 : A7) (a8 : A8) (a9 : A9) (a10 : A10) (a11 : A11), I a1 a2 a3 a4 a5 a6 a7 a8 a9 a10 a11 → (∀ (b1 : A1) (b2 : A2) (b3 : A3) (b4 : A4) (b5 : A5) (b6 : A6) (b7 : A7) (b8 : A8) (b9 : A9) (b10 : A10) (b11 : A11), I b1 b2 b3 b4 b5 b6 b7 b8 b9 b10 b11 → μ b1 b2 b3 b4 b5 b6 b7 b8 b9 b10 b11 < μ a1 a2 a3 a4 a5 a6 a7 a8 a9 a10 a11 → W n b1 b2 b3 b4 b5 b6 b7 b8 b9 b10 b11) → W (n + 1) a1 a2 a3 a4 a5 a6 a7 a8 a9 a10 a11) (a1 : A1) (a2 : A2) (a3 : A3) (a4 : A4) (a5 : A5) (a6 : A6) (a7 : A7) (a8 : A8) (a9 : A9) (a10 : A10) (a11 : A11) (h : I a1 a2 a3 a4 a5 a6 a7 a8 a9 a10 a11) : ∃ n, W n a1 a2 a3 a4 a5 a6 a7 a8 a9 a10 a11 :=
  loop_m (σ := A1 × A2 × A3 × A4 × A5 × A6 × A7 × A8 × A9 × A10 × A11) (fun n s => W n s.1 s.2.1 s.2.2.1 s.2.2.2.1 s.2.2.2.2.1 s.2.2.2.2.2.1 s.2.2.2.2.2.2.1 s.2.2.2.2.2.2.2.1 s.2.2.2.2.2.2.2.2.1 s.2.2.2.2.2.2.2.2.2.1 s.2.2.2.2.2.2.2.2.2.2) (fun s => I s.1 s.2.1 s.2.2.1 s.2.2.2.1 s.2.2.2.2.1 s.2.2.2.2.2.1 s.2.2.2.2.2.2.1 s.2.2.2.2.2.2.2.1 s.2.2.2.2.2.2.2.2.1 s.2.2.2.2.2.2.2.2.2.1 s.2.2.2.2.2.2.2.2.2.2) (fun s => μ s.1 s.2.1 s.2.2.1 s.2.2.2.1 s.2.2.2.2.1 s.2.2.2.2.2.1 s.2.2.2.2.2.2.1 s.2.2.2.2.2.2.2.1 s.2.2.2.2.2.2.2.2.1 s.2.2.2.2.2.2.2.2.2.1 s.2.2.2.2.2.2.2.2.2.2) (fun n s hI hk => hs n s.1 s.2.1 s.2.2.1 s.2.2.2.1 s.2.2.2.2.1 s.2.2.2.2.2.1 s.2.2.2.2.2.2.1 s.2.2.2.2.2.2.2.1 s.2.2.2.2.2.2.2.2.1 s.2.2.2.2.2.2.2.2.2.1 s.2.2.2.2.2.2.2.2.2.2 hI (fun b1 b2 b3 b4 b5 b6 b7 b8 b9 b10 b11 h9 hm => hk (b1, b2, b3, b4, b5, b6, b7, b8, b9, b10, b11) h9 hm)) (a1, a2, a3, a4, a5, a6, a7, a8, a9, a10, a11) h
theorem lp12 {A1 A2 A3 A4 A5 A6 A7 A8 A9 A10 A11 A12 : Type} (W : Nat → A1 → A2 → A3 → A4 → A5 → A6 → A7 → A8 → A9 → A10 → A11 → A12 → Prop) (I : A1 → A2 → A3 → A4 → A5 → A6 → A7 → A8 → A9 → A10 → A11 → A12 → Prop) (μ : A1 → A2 → A3 → A4 → A5 → A6 → A7 → A8 → A9 → A10 → A11 → A12 → Nat) (hs : ∀ (n : Nat) (a1 : A1) (a2 : A2) (a3 : A3) (a4 : A4) (a5 : A5) (a6 : A6) (a7 : A7) (a8 : A8) (a9 : A9) (a10 : A10) (a11 : A11) (a12 : A12), I a1 a2 a3 a4 a5 a6 a7 a8 a9 a10 a11 a12 → (∀ (b1 : A1) (b2 : A2) (b3 : A3) (b4 : A4) (b5 : A5) (b6 : A6) (b7 : A7) (b8 : A8) (b9 : A9) (b10 : A10) (b11 : A11) (b12 : A12), I b1 b2 b3 b4 b5 b6 b7 b8 b9 b10 b11 b12 → μ b1 b2 b3 b4 b5 b6 b7 b8 b9 b10 b11 b12 < μ a1 a2 a3 a4 a5 a6 a7 a8 a9 a10 a11 a12 → W n b1 b2 b3 b4 b5 b6 b7 b8 b9 b10 b11 b12) → W (n + 1) a1 a2 a3 a4 a5 a6 a7 a8 a9 a10 a11 a12) (a1 : A1) (a2 : A2) (a3 : A3) (a4 : A4) (a5 : A5) (a6 : A6) (a7 : A7) (a8 : A8) (a9 : A9) (a10 : A10) (a11 : A11) (a12 : A12) (h : I a1 a2 a3 a4 a5 a6 a7 a8 a9 a10 a11 a12) : ∃ n, W n a1 a2 a3 a4 a5 a6 a7 a8 a9 a10 a11 a12 :=
  loop_m (σ := A1 × A2 × A3 × A4 × A5 × A6 × A7 × A8 × A9 × A10 × A11 × A12) (fun n s => W n s.1 s.2.1 s.2.2.1 s.2.2.2.1 s.2.2.2.2.1 s.2.2.2.2.2.1 s.2.2.2.2.2.2.1 s.2.2.2.2.2.2.2.1 s.2.2.2.2.2.2.2.2.1 s.2.2.2.2.2.2.2.2.2.1 s.2.2.2.2.2.2.2.2.2.2.1 s.2.2.2.2.2.2.2.2.2.2.2) (fun s => I s.1 s.2.1 s.2.2.1 s.2.2.2.1 s.2.2.2.2.1 s.2.2.2.2.2.1 s.2.2.2.2.2.2.1 s.2.2.2.2.2.2.2.1 s.2.2.2.2.2.2.2.2.1 s.2.2.2.2.2.2.2.2.2.1 s.2.2.2.2.2.2.2.2.2.2.1 s.2.2.2.2.2.2.2.2.2.2.2) (fun s => μ s.1 s.2.1 s.2.2.1 s.2.2.2.1 s.2.2.2.2.1 s.2.2.2.2.2.1 s.2.2.2.2.2.2.1 s.2.2.2.2.2.2.2.1 s.2.2.2.2.2.2.2.2.1 s.2.2.2.2.2.2.2.2.2.1 s.2.2.2.2.2.2.2.2.2.2.1 s.2.2.2.2.2.2.2.2.2.2.2) (fun n s hI hk => hs n s.1 s.2.1 s.2.2.1 s.2.2.2.1 s.2.2.2.2.1 s.2.2.2.2.2.1 s.2.2.2.2.2.2.1 s.2.2.2.2.2.2.2.1 s.2.2.2.2.2.2.2.2.1 s.2.2.2.2.2.2.2.2.2.1 s.2.2.2.2.2.2.2.2.2.2.1 s.2.2.2.2.2.2.2.2.2.2.2 hI (fun b1 b2 b3 b4 b5 b6 b7 b8 b9 b10 b11 b12 h9 hm => hk (b1, b2, b3, b4, b5, b6, b7, b8, b9, b10, b11, b12) h9 hm)) (a1, a2, a3, a4, a5, a6, a7, a8, a9, a10, a11, a12) h
theorem lp13 {A1 A2 A3 A4 A5 A6 A7 A8 A9 A10 A11 A12 A13 : Type} (W : Nat → A1 → A2 → A3 → A4 → A5 → A6 → A7 → A8 → A9 → A10 → A11 → A12 → A13 → Prop) (I : A1 → A2 → A3 → A4 → A5 → A6 → A7 → A8 → A9 → A10 → A11 → A12 → A13 → Prop) (μ : A1 → A2 → A3 → A4 → A5 → A6 → A7 → A8 → A9 → A10 → A11 → A12 → A13 → Nat) (hs : ∀ (n : Nat) (a1 : A1) (a2 : A2) (a3 : A3) (a4 : A4) (a5 : A5) (a6 : A6) (a7 : A7) (a8 : A8) (a9 : A9) (a10 : A10) (a11 : A11) (a12 : A12) (a13 : A13), I a1 a2 a3 a4 a5 a6 a7 a8 a9 a10 a11 a12 a13 → (∀ (b1 : A1) (b2 : A2) (b3 : A3) (b4 : A4) (b5 : A5) (b6 : A6) (b7 : A7) (b8 : A8) (b9 : A9) (b10 : A10) (b11 : A11) (b12 : A12) (b13 : A13), I b1 b2 b3 b4 b5 b6 b7 b8 b9 b10 b11 b12 b13 → μ b1 b2 b3 b4 b5 b6 b7 b8 b9 b10 b11 b12 b13 < μ a1 a2 a3 a4 a5 a6 a7 a8 a9 a10 a11 a12 a13 → W n b1 b2 b3 b4 b5 b6 b7 b8 b9 b10 b11 b12 b13) → W (n + 1) a1 a2 a3 a4 a5 a6 a7 a8 a9 a10 a11 a12 a13) (a1 : A1) (a2 : A2) (a3 : A3) (a4 : A4) (a5 : A5) (a6 : A6) (a7 : A7) (a8 : A8) (a9 : A9) (a10 : A10) (a11 : A11) (a12 : A12) (a13 : A13) (h : I a1 a2 a3 a4 a5 a6 a7 a8 a9 a10 a11 a12 a13) : ∃ n, W n a1 a2 a3 a4 a5 a6 a7 a8 a9 a10 a11 a12 a13 :=
  loop_m (σ := A1 × A2 × A3 × A4 × A5 × A6 × A7 × A8 × A9 × A10 × A11 × A12 × A13) (fun n s => W n s.1 s.2.1 s.2.2.1 s.2.2.2.1 s.2.2.2.2.1 s.2.2.2.2.2.1 s.2.2.2.2.2.2.1 s.2.2.2.2.2.2.2.1 s.2.2.2.2.2.2.2.2.1 s.2.2.2.2.2.2.2.2.2.1 s.2.2.2.2.2.2.2.2.2.2.1 s.2.2.2.2.2.2.2.2.2.2.2.1 s.2.2.2.2.2.2.2.2.2.2.2.2) (fun s => I s.1 s.2.1 s.2.2.1 s.2.2.2.1 s.2.2.2.2.1 s.2.2.2.2.2.1 s.2.2.2.2.2.2.1 s.2.2.2.2.2.2.2.1 s.2.2.2.2.2.2.2.2.1 s.2.2.2.2.2.2.2.2.2.1 s.2.2.2.2.2.2.2.2.2.2.1 s.2.2.2.2.2.2.2.2.2.2.2.1 s.2.2.2.2.2.2.2.2.2.2.2.2) (fun s => μ s.1 s.2.1 s.2.2.1 s.2.2.2.1 s.2.2.2.2.1 s.2.2.2.2.2.1 s.2.2.2.2.2.2.1 s.2.2.2.2.2.2.2.1 s.2.2.2.2.2.2.2.2.1 s.2.2.2.2.2.2.2.2.2.1 s.2.2.2.2.2.2.2.2.2.2.1 s.2.2.2.2.2.2.2.2.2.2.2.1 s.2.2.2.2.2.2.2.2.2.2.2.2) (fun n s hI hk => hs n s.1 s.2.1 s.2.2.1 s.2.2.2.1 s.2.2.2.2.1 s.2.2.2.2.2.1 s.2.2.2.2.2.2.1 s.2.2.2.2.2.2.2.1 s.2.2.2.2.2.2.2.2.1 s.2.2.2.2.2.2.2.2.2.1 s.2.2.2.2.2.2.2.2.2.2.1 s.2.2.2.2.2.2.2.2.2.2.2.1 s.2.2.2.2.2.2.2.2.2.2.2.2 hI (fun b1 b2 b3 b4 b5 b6 b7 b8 b9 b10 b11 b12 b13 h9 hm => hk (b1, b2, b3, b4, b5, b6, b7, b8, b9, b10, b11, b12, b13) h9 hm)) (a1, a2, a3, a4, a5, a6, a7, a8, a9, a10, a11, a12, a13) h
theorem lp14 {A1 A2 A3 A4 A5 A6 A7 A8 A9 A10 A11 A12 A13 A14 : Type} (W : Nat → A1 → A2 → A3 → A4 → A5 → A6 → A7 → A8 → A9 → A10 → A11 → A12 → A13 → A14 → Prop) (I : A1 → A2 → A3 → A4 → A5 → A6 → A7 → A8 → A9 → A10 → A11 → A12 → A13 → A14 → Prop) (μ : A1 → A2 → A3 → A4 → A5 → A6 → A7 → A8 → A9 → A10 → A11 → A12 → A13 → A14 → Nat) (hs : ∀ (n : Nat) (a1 : A1) (a2 : A2) (a3 : A3) (a4 : A4) (a5 : A5) (a6 : A6) (a7 : A7) (a8 : A8) (a9 : A9) (a10 : A10) (a11 : A11) (a12 : A12) (a13 : A13) (a14 : A14), I a1 a2 a3 a4 a5 a6 a7 a8 a9 a10 a11 a12 a13 a14 → (∀ (b1 : A1) (b2 : A2) (b3 : A3) (b4 : A4) (b5 : A5) (b6 : A6) (b7 : A7) (b8 : A8) (b9 : A9) (b10 : A10) (b11 : A11) (b12 : A12) (b13 : A13) (b14 : A14), I b1 b2 b3 b4 b5 b6 b7 b8 b9 b10 b11 b12 b13 b14 → μ b1 b2 b3 b4 b5 b6 b7 b8 b9 b10 b11 b12 b13 b14 < μ a1 a2 a3 a4 a5 a6 a7 a8 a9 a10 a11 a12 a13 a14 → W n b1 b2 b3 b4 b5 b6 b7 b8 b9 b10 b11 b12 b13 b14) → W (n + 1) a1 a2 a3 a4 a5 a6 a7 a8 a9 a10 a11 a12 a13 a14) (a1 : A1) (a2 : A2) (a3 : A3) (a4 : A4) (a5 : A5) (a6 : A6) (a7 : A7) (a8 : A8) (a9 : A9) (a10 : A10) (a11 : A11) (a12 : A12) (a13 : A13) (a14 : A14) (h : I a1 a2 a3 a4 a5 a6 a7 a8 a9 a10 a11 a12 a13 a14) : ∃ n, W n a1 a2 a3 a4 a5 a6 a7 a8 a9 a10 a11 a12 a13 a14 :=
  loop_m (σ := A1 × A2 × A3 × A4 × A5 × A6 × A7 × A8 × A9 × A10 × A11 × A12 × A13 × A14) (fun n s => W n s.1 s.2.1 s.2.2.1 s.2.2.2.1 s.2.2.2.2.1 s.2.2.2.2.2.1 s.2.2.2.2.2.2.1 s.2.2.2.2.2.2.2.1 s.2.2.2.2.2.2.2.2.1 s.2.2.2.2.2.2.2.2.2.1 s.2.2.2.2.2.2.2.2.2.2.1 s.2.2.2.2.2.2.2.2.2.2.2.1 s.2.2.2.2.2.2.2.2.2.2.2.2.1 s.2.2.2.2.2.2.2.2.2.2.2.2.2) (fun s => I s.1 s.2.1 s.2.2.1 s.2.2.2.1 s.2.2.2.2.1 s.2.2.2.2.2.1 s.2.2.2.2.2.2.1 s.2.2.2.2.2.2.2.1 s.2.2.2.2.2.2.2.2.1 s.2.2.2.2.2.2.2.2.2.1 s.2.2.2.2.2.2.2.2.2.2.1 s.2.2.2.2.2.2.2.2.2.2.2.1 s.2.2.2.2.2.2.2.2.2.2.2.2.1 s.2.2.2.2.2.2.2.2.2.2.2.2.2) (fun s => μ s.1 s.2.1 s.2.2.1 s.2.2.2.1 s.2.2.2.2.1 s.2.2.2.2.2.1 s.2.2.2.2.2.2.1 s.2.2.2.2.2.2.2.1 s.2.2.2.2.2.2.2.2.1 s.2.2.2.2.2.2.2.2.2.1 s.2.2.2.2.2.2.2.2.2.2.1 s.2.2.2.2.2.2.2.2.2.2.2.1 s.2.2.2.2.2.2.2.2.2.2.2.2.1 s.2.2.2.2.2.2.2.2.2.2.2.2.2) (fun n s hI hk => hs n s.1 s.2.1 s.2.2.1 s.2.2.2.1 s.2.2.2.2.1 s.2.2.2.2.2.1 s.2.2.2.2.2.2.1 s.2.2.2.2.2.2.2.1 s.2.2.2.2.2.2.2.2.1 s.2.2.2.2.2.2.2.2.2.1 s.2.2.2.2.2.2.2.2.2.2.1 s.2.2.2.2.2.2.2.2.2.2.2.1 s.2.2.2.2.2.2.2.2.2.2.2.2.1 s.2.2.2.2.2.2.2.2.2.2.2.2.2 hI (fun b1 b2 b3 b4 b5 b6 b7 b8 b9 b10 b11 b12 b13 b14 h9 hm => hk (b1, b2, b3, b4, b5, b6, b7, b8, b9, b10, b11, b12, b13, b14) h9 hm)) (a1, a2, a3, a4, a5, a6, a7, a8, a9, a10, a11, a12, a13, a14) h
theorem lp15 {A1 A2 A3 A4 A5 A6 A7 A8 A9 A10 A11 A12 A13 A14 A15 : Type} (W : Nat → A1 → A2 → A3 → A4 → A5 → A6 → A7 → A8 → A9 → A10 → A11 → A12 → A13 → A14 → A15 → Prop) (I : A1 → A2 → A3 → A4 → A5 → A6 → A7 → A8 → A9 → A10 → A11 → A12 → A13 → A14 → A15 → Prop) (μ : A1 → A2 → A3 → A4 → A5 → A6 → A7 → A8 → A9 → A10 → A11 → A12 → A13 → A14 → A15 → Nat) (hs : ∀ (n : Nat) (a1 : A1) (a2 : A2) (a3 : A3) (a4 : A4) (a5 : A5) (a6 : A6) (a7 : A7) (a8 : A8) (a9 : A9) (a10 : A10) (a11 : A11) (a12 : A12) (a13 : A13) (a14 : A14) (a15 : A15), I a1 a2 a3 a4 a5 a6 a7 a8 a9 a10 a11 a12 a13 a14 a15 → (∀ (b1 : A1) (b2 : A2) (b3 : A3) (b4 : A4) (b5 : A5) (b6 : A6) (b7 : A7) (b8 : A8) (b9 : A9) (b10 : A10) (b11 : A11) (b12 : A12) (b13 : A13) (b14 : A14) (b15 : A15), I b1 b2 b3 b4 b5 b6 b7 b8 b9 b10 b11 b12 b13 b14 b15 → μ b1 b2 b3 b4 b5 b6 b7 b8 b9 b10 b11 b12 b13 b14 b15 < μ a1 a2 a3 a4 a5 a6 a7 a8 a9 a10 a11 a12 a13 a14 a15 → W n b1 b2 b3 b4 b5 b6 b7 b8 b9 b10 b11 b12 b13 b14 b15) → W (n + 1) a1 a2 a3 a4 a5 a6 a7 a8 a9 a10 a11 a12 a13 a14 a15) (a1 : A1) (a2 : A2) (a3 : A3) (a4 : A4) (a5 : A5) (a6 : A6) (a7 : A7) (a8 : A8) (a9 : A9) (a10 : A10) (a11 : A11) (a12 : A12) (a13 : A13) (a14 : A14) (a15 : A15) (h : I a1 a2 a3 a4 a5 a6 a7 a8 a9 a10 a11 a12 a13 a14 a15) : ∃ n, W n a1 a2 a3 a4 a5 a6 a7 a8 a9 a10 a11 a12 a13 a14 a15 :=
  loop_m (σ := A1 × A2 × A3 × A4 × A5 × A6 × A7 × A8 × A9 × A10 × A11 × A12 × A13 × A14 × A15) (fun n s => W n s.1 s.2.1 s.2.2.1 s.2.2.2.1 s.2.2.2.2.1 s.2.2.2.2.2.1 s.2.2.2.2.2.2.1 s.2.2.2.2.2.2.2.1 s.2.2.2.2.2.2.2.2.1 s.2.2.2.2.2.2.2.2.2.1 s.2.2.2.2.2.2.2.2.2.2.1 s.2.2.2.2.2.2.2.2.2.2.2.1 s.2.2.2.2.2.2.2.2.2.2.2.2.1 s.2.2.2.2.2.2.2.2.2.2.2.2.2.1 s.2.2.2.2.2.2.2.2.2.2.2.2.2.2) (fun s => I s.1 s.2.1 s.2.2.1 s.2.2.2.1 s.2.2.2.2.1 s.2.2.2.2.2.1 s.2.2.2.2.2.2.1 s.2.2.2.2.2.2.2.1 s.2.2.2.2.2.2.2.2.1 s.2.2.2.2.2.2.2.2.2.1 s.2.2.2.2.2.2.2.2.2.2.1 s.2.2.2.2.2.2.2.2.2.2.2.1 s.2.2.2.2.2.2.2.2.2.2.2.2.1 s.2.2.2.2.2.2.2.2.2.2.2.2.2.1 s.2.2.2.2.2.2.2.2.2.2.2.2.2.2) (fun s => μ s.1 s.2.1 s.2.2.1 s.2.2.2.1 s.2.2.2.2.1 s.2.2.2.2.2.1 s.2.2.2.2.2.2.1 s.2.2.2.2.2.2.2.1 s.2.2.2.2.2.2.2.2.1 s.2.2.2.2.2.2.2.2.2.1 s.2.2.2.2.2.2.2.2.2.2.1 s.2.2.2.2.2.2.2.2.2.2.2.1 s.2.2.2.2.2.2.2.2.2.2.2.2.1 s.2.2.2.2.2.2.2.2.2.2.2.2.2.1 s.2.2.2.2.2.2.2.2.2.2.2.2.2.2) (fun n s hI hk => hs n s.1 s.2.1 s.2.2.1 s.2.2.2.1 s.2.2.2.2.1 s.2.2.2.2.2.1 s.2.2.2.2.2.2.1 s.2.2.2.2.2.2.2.1 s.2.2.2.2.2.2.2.2.1 s.2.2.2.2.2.2.2.2.2.1 s.2.2.2.2.2.2.2.2.2.2.1 s.2.2.2.2.2.2.2.2.2.2.2.1 s.2.2.2.2.2.2.2.2.2.2.2.2.1 s.2.2.2.2.2.2.2.2.2.2.2.2.2.1 s.2.2.2.2.2.2.2.2.2.2.2.2.2.2 hI (fun b1 b2 b3 b4 b5 b6 b7 b8 b9 b10 b11 b12 b13 b14 b15 h9 hm => hk (b1, b2, b3, b4, b5, b6, b7, b8, b9, b10, b11, b12, b13, b14, b15) h9 hm)) (a1, a2, a3, a4, a5, a6, a7, a8, a9, a10, a11, a12, a13, a14, a15) h
theorem lp16 {A1 A2 A3 A4 A5 A6 A7 A8 A9 A10 A11 A12 A13 A14 A15 A16 : Type} (W : Nat → A1 → A2 → A3 → A4 → A5 → A6 → A7 → A8 → A9 → A10 → A11 → A12 → A13 → A14 → A15 → A16 → Prop) (I : A1 → A2 → A3 → A4 → A5 → A6 → A7 → A8 → A9 → A10 → A11 → A12 → A13 → A14 → A15 → A16 → Prop) (μ : A1 → A2 → A3 → A4 → A5 → A6 → A7 → A8 → A9 → A10 → A11 → A12 → A13 → A14 → A15 → A16 → Nat) (hs : ∀ (n : Nat) (a1 : A1) (a2 : A2) (a3 : A3) (a4 : A4) (a5 : A5) (a6 : A6) (a7 : A7) (a8 : A8) (a9 : A9) (a10 : A10) (a11 : A11) (a12 : A12) (a13 : A13) (a14 : A14) (a15 : A15) (a16 : A16), I a1 a2 a3 a4 a5 a6 a7 a8 a9 a10 a11 a12 a13 a14 a15 a16 → (∀ (b1 : A1) (b2 : A2) (b3 : A3) (b4 : A4) (b5 : A5) (b6 : A6) (b7 : A7) (b8 : A8) (b9 : A9) (b10 : A10) (b11 : A11) (b12 : A12) (b13 : A13) (b14 : A14) (b15 : A15) (b16 : A16), I b1 b2 b3 b4 b5 b6 b7 b8 b9 b10 b11 b12 b13 b14 b15 b16 → μ b1 b2 b3 b4 b5 b6 b7 b8 b9 b10 b11 b12 b13 b14 b15 b16 < μ a1 a2 a3 a4 a5 a6 a7 a8 a9 a10 a11 a12 a13 a14 a15 a16 → W n b1 b2 b3 b4 b5 b6 b7 b8 b9 b10 b11 b12 b13 b14 b15 b16) → W (n + 1) a1 a2 a3 a4 a5 a6 a7 a8 a9 a10 a11 a12 a13 a14 a15 a16) (a1 : A1) (a2 : A2) (a3 : A3) (a4 : A4) (a5 : A5) (a6 : A6) (a7 : A7) (a8 : A8) (a9 : A9) (a10 : A10) (a11 : A11) (a12 : A12) (a13 : A13) (a14 : A14) (a15 : A15) (a16 : A16) (h : I a1 a2 a3 a4 a5 a6 a7 a8 a9 a10 a11 a12 a13 a14 a15 a16) : ∃ n, W n a1 a2 a3 a4 a5 a6 a7 a8 a9 a10 a11 a12 a13 a14 a15 a16 :=
  loop_m (σ := A1 × A2 × A3 × A4 × A5 × A6 × A7 × A8 × A9 × A10 × A11 × A12 × A13 × A14 × A15 × A16) (fun n s => W n s.1 s.2.1 s.2.2.1 s.2.2.2.1 s.2.2.2.2.1 s.2.2.2.2.2.1 s.2.2.2.2.2.2.1 s.2.2.2.2.2.2.2.1 s.2.2.2.2.2.2.2.2.1 s.2.2.2.2.2.2.2.2.2.1 s.2.2.2.2.2.2.2.2.2.2.1 s.2.2.2.2.2.2.2.2.2.2.2.1 s.2.2.2.2.2.2.2.2.2.2.2.2.1 s.2.2.2.2.2.2.2.2.2.2.2.2.2.1 s.2.2.2.2.2.2.2.2.2.2.2.2.2.2.1 s.2.2.2.2.2.2.2.2.2.2.2.2.2.2.2) (fun s => I s.1 s.2.1 s.2.2.1 s.2.2.2.1 s.2.2.2.2.1 s.2.2.2.2.2.1 s.2.2.2.2.2.2.1 s.2.2.2.2.2.2.2.1 s.2.2.2.2.2.2.2.2.1 s.2.2.2.2.2.2.2.2.2.1 s.2.2.2.2.2.2.2.2.2.2.1 s.2.2.2.2.2.2.2.2.2.2.2.1 s.2.2.2.2.2.2.2.2.2.2.2.2.1 s.2.2.2.2.2.2.2.2.2.2.2.2.2.1 s.2.2.2.2.2.2.2.2.2.2.2.2.2.2.1 s.2.2.2.2.2.2.2.2.2.2.2.2.2.2.2) (fun s => μ s.1 s.2.1 s.2.2.1 s.2.2.2.1 s.2.2.2.2.1 s.2.2.2.2.2.1 s.2.2.2.2.2.2.1 s.2.2.2.2.2.2.2.1 s.2.2.2.2.2.2.2.2.1 s.2.2.2.2.2.2.2.2.2.1 s.2.2.2.2.2.2.2.2.2.2.1 s.2.2.2.2.2.2.2.2.2.2.2.1 s.2.2.2.2.2.2.2.2.2.2.2.2.1 s.2.2.2.2.2.2.2.2.2.2.2.2.2.1 s.2.2.2.2.2.2.2.2.2.2.2.2.2.2.1 s.2.2.2.2.2.2.2.2.2.2.2.2.2.2.2) (fun n s hI hk => hs n s.1 s.2.1 s.2.2.1 s.2.2.2.1 s.2.2.2.2.1 s.2.2.2.2.2.1 s.2.2.2.2.2.2.1 s.2.2.2.2.2.2.2.1 s.2.2.2.2.2.2.2.2.1 s.2.2.2.2.2.2.2.2.2.1 s.2.2.2.2.2.2.2.2.2.2.1 s.2.2.2.2.2.2.2.2.2.2.2.1 s.2.2.2.2.2.2.2.2.2.2.2.2.1 s.2.2.2.2.2.2.2.2.2.2.2.2.2.1 s.2.2.2.2.2.2.2.2.2.2.2.2.2.2.1 s.2.2.2.2.2.2.2.2.2.2.2.2.2.2.2 hI (fun b1 b2 b3 b4 b5 b6 b7 b8 b9 b10 b11 b12 b13 b14 b15 b16 h9 hm => hk (b1, b2, b3, b4, b5, b6, b7, b8, b9, b10, b11, b12, b13, b14, b15, b16) h9 hm)) (a1, a2, a3, a4, a5, a6, a7, a8, a9, a10, a11, a12, a13, a14, a15, a16) h
theorem pk_least (P : Nat → Prop) (h : ∃ k, P k) : ∃ k, P k ∧ ∀ j, j < k → ¬ P j := by
  obtain ⟨k, hk⟩ := h
  induction k using Nat.strongRecOn with
  | ind k ih =>
    by_cases e : ∃ j, j < k ∧ P j
    · obtain ⟨j, hj, pj⟩ := e
      exact ih j hj pj
    · exact ⟨k, hk, fun j hj pj => e ⟨j, hj, pj⟩⟩
theorem rp1 {ρ A1 : Type} (W : Nat → (ρ → Prop) → A1 → Prop) (ok : A1 → Prop) (μ : A1 → Nat) (val : A1 → ρ)
    (hs : ∀ (d : Nat) (post : ρ → Prop) (a1 : A1), ok a1 → post (val a1) → (∀ (post' : ρ → Prop) (b1 : A1), ok b1 → μ b1 < μ a1 → post' (val b1) → W d post' b1) → W (d + 1) post a1) :
    ∀ (d : Nat) (post : ρ → Prop) (a1 : A1), ok a1 → μ a1 < d → post (val a1) → W d post a1 := by
  intro d
  induction d with
  | zero => intro post a1 _ h; omega
  | succ d ih =>
    intro post a1 ho hm hp
    exact hs d post a1 ho hp (fun post' b1 ho' hm' hp' => ih post' b1 ho' (by omega) hp')
theorem rp2 {ρ A1 A2 : Type} (W : Nat → (ρ → Prop) → A1 → A2 → Prop) (ok : A1 → A2 → Prop) (μ : A1 → A2 → Nat) (val : A1 → A2 → ρ)
    (hs : ∀ (d : Nat) (post : ρ → Prop) (a1 : A1) (a2 : A2), ok a1 a2 → post (val a1 a2) → (∀ (post' : ρ → Prop) (b1 : A1) (b2 : A2), ok b1 b2 → μ b1 b2 < μ a1 a2 → post' (val b1 b2) → W d post' b1 b2) → W (d + 1) post a1 a2) :
    ∀ (d : Nat) (post : ρ → Prop) (a1 : A1) (a2 : A2), ok a1 a2 → μ a1 a2 < d → post (val a1 a2) → W d post a1 a2 := by
  intro d
  induction d with
  | zero => intro post a1 a2 _ h; omega
  | succ d ih =>
    intro post a1 a2 ho hm hp
    exact hs d post a1 a2 ho hp (fun post' b1 b2 ho' hm' hp' => ih post' b1 b2 ho' (by omega) hp')
theorem rp3 {ρ A1 A2 A3 : Type} (W : Nat → (ρ → Prop) → A1 → A2 → A3 → Prop) (ok : A1 → A2 → A3 → Prop) (μ : A1 → A2 → A3 → Nat) (val : A1 → A2 → A3 → ρ)
    (hs : ∀ (d : Nat) (post : ρ → Prop) (a1 : A1) (a2 : A2) (a3 : A3), ok a1 a2 a3 → post (val a1 a2 a3) → (∀ (post' : ρ → Prop) (b1 : A1) (b2 : A2) (b3 : A3), ok b1 b2 b3 → μ b1 b2 b3 < μ a1 a2 a3 → post' (val b1 b2 b3) → W d post' b1 b2 b3) → W (d + 1) post a1 a2 a3) :
    ∀ (d : Nat) (post : ρ → Prop) (a1 : A1) (a2 : A2) (a3 : A3), ok a1 a2 a3 → μ a1 a2 a3 < d → post (val a1 a2 a3) → W d post a1 a2 a3 := by
  intro d
  induction d with
  | zero => intro post a1 a2 a3 _ h; omega
  | succ d ih =>
    intro post a1 a2 a3 ho hm hp
    exact hs d post a1 a2 a3 ho hp (fun post' b1 b2 b3 ho' hm' hp' => ih post' b1 b2 b3 ho' (by omega) hp')
theorem rp4 {ρ A1 A2 A3 A4 : Type} (W : Nat → (ρ → Prop) → A1 → A2 → A3 → A4 → Prop) (ok : A1 → A2 → A3 → A4 → Prop) (μ : A1 → A2 → A3 → A4 → Nat) (val : A1 → A2 → A3 → A4 → ρ)
    (hs : ∀ (d : Nat) (post : ρ → Prop) (a1 : A1) (a2 : A2) (a3 : A3) (a4 : A4), ok a1 a2 a3 a4 → post (val a1 a2 a3 a4) → (∀ (post' : ρ → Prop) (b1 : A1) (b2 : A2) (b3 : A3) (b4 : A4), ok b1 b2 b3 b4 → μ b1 b2 b3 b4 < μ a1 a2 a3 a4 → post' (val b1 b2 b3 b4) → W d post' b1 b2 b3 b4) → W (d + 1) post a1 a2 a3 a4) :
    ∀ (d : Nat) (post : ρ → Prop) (a1 : A1) (a2 : A2) (a3 : A3) (a4 : A4), ok a1 a2 a3 a4 → μ a1 a2 a3 a4 < d → post (val a1 a2 a3 a4) → W d post a1 a2 a3 a4 := by
  intro d
  induction d with
  | zero => intro post a1 a2 a3 a4 _ h; omega
  | succ d ih =>
    intro post a1 a2 a3 a4 ho hm hp
    exact hs d post a1 a2 a3 a4 ho hp (fun post' b1 b2 b3 b4 ho' hm' hp' => ih post' b1 b2 b3 b4 ho' (by omega) hp')
theorem rp5 {ρ A1 A2 A3 A4 A5 : Type} (W : Nat → (ρ → Prop) → A1 → A2 → A3 → A4 → A5 → Prop) (ok : A1 → A2 → A3 → A4 → A5 → Prop) (μ : A1 → A2 → A3 → A4 → A5 → Nat) (val : A1 → A2 → A3 → A4 → A5 → ρ)
    (hs : ∀ (d : Nat) (post : ρ → Prop) (a1 : A1) (a2 : A2) (a3 : A3) (a4 : A4) (a5 : A5), ok a1 a2 a3 a4 a5 → post (val a1 a2 a3 a4 a5) → (∀ (post' : ρ → Prop) (b1 : A1) (b2 : A2) (b3 : A3) (b4 : A4) (b5 : A5), ok b1 b2 b3 b4 b5 → μ b1 b2 b3 b4 b5 < μ a1 a2 a3 a4 a5 → post' (val b1 b2 b3 b4 b5) → W d post' b1 b2 b3 b4 b5) → W (d + 1) post a1 a2 a3 a4 a5) :
    ∀ (d : Nat) (post : ρ → Prop) (a1 : A1) (a2 : A2) (a3 : A3) (a4 : A4) (a5 : A5), ok a1 a2 a3 a4 a5 → μ a1 a2 a3 a4 a5 < d → post (val a1 a2 a3 a4 a5) → W d post a1 a2 a3 a4 a5 := by
  intro d
  induction d with
  | zero => intro post a1 a2 a3 a4 a5 _ h; omega
  | succ d ih =>
    intro post a1 a2 a3 a4 a5 ho hm hp
    exact hs d post a1 a2 a3 a4 a5 ho hp (fun post' b1 b2 b3 b4 b5 ho' hm' hp' => ih post' b1 b2 b3 b4 b5 ho' (by omega) hp')
theorem rp6 {ρ A1 A2 A3 A4 A5 A6 : Type} (W : Nat → (ρ → Prop) → A1 → A2 → A3 → A4 → A5 → A6 → Prop) (ok : A1 → A2 → A3 → A4 → A5 → A6 → Prop) (μ : A1 → A2 → A3 → A4 → A5 → A6 → Nat) (val : A1 → A2 → A3 → A4 → A5 → A6 → ρ)
    (hs : ∀ (d : Nat) (post : ρ → Prop) (a1 : A1) (a2 : A2) (a3 : A3) (a4 : A4) (a5 : A5) (a6 : A6), ok a1 a2 a3 a4 a5 a6 → post (val a1 a2 a3 a4 a5 a6) → (∀ (post' : ρ → Prop) (b1 : A1) (b2 : A2) (b3 : A3) (b4 : A4) (b5 : A5) (b6 : A6), ok b1 b2 b3 b4 b5 b6 → μ b1 b2 b3 b4 b5 b6 < μ a1 a2 a3 a4 a5 a6 → post' (val b1 b2 b3 b4 b5 b6) → W d post' b1 b2 b3 b4 b5 b6) → W (d + 1) post a1 a2 a3 a4 a5 a6) :
    ∀ (d : Nat) (post : ρ → Prop) (a1 : A1) (a2 : A2) (a3 : A3) (a4 : A4) (a5 : A5) (a6 : A6), ok a1 a2 a3 a4 a5 a6 → μ a1 a2 a3 a4 a5 a6 < d → post (val a1 a2 a3 a4 a5 a6) → W d post a1 a2 a3 a4 a5 a6 := by
  intro d
  induction d with
  | zero => intro post a1 a2 a3 a4 a5 a6 _ h; omega
  | succ d ih =>
    intro post a1 a2 a3 a4 a5 a6 ho hm hp
    exact hs d post a1 a2 a3 a4 a5 a6 ho hp (fun post' b1 b2 b3 b4 b5 b6 ho' hm' hp' => ih post' b1 b2 b3 b4 b5 b6 ho' (by omega) hp')
theorem rec_p {σ ρ : Type} (W : Nat → (ρ → Prop) → σ → Prop) (ok : σ → Prop) (μ : σ → Nat) (val : σ → ρ)
    (hs : ∀ d s post, ok s → post (val s) → (∀ s' post', ok s' → μ s' < μ s → post' (val s') → W d post' s') → W (d + 1) post s) :
    ∀ d s post, ok s → μ s < d → post (val s) → W d post s := by
  intro d
  induction d with
  | zero => intro s post _ h; omega
  | succ d ih =>
    intro s post ho hm hp
    exact hs d s post ho hp (fun s' post' ho' hm' hp' => ih s' post' ho' (by omega) hp')
theorem rec_q {σ ρ : Type} (W : Nat → (ρ → Prop) → σ → Prop) (ok : σ → Prop) (μ : σ → Nat) (Q : σ → ρ → Prop)
    (hs : ∀ d s post, ok s → (∀ r, Q s r → post r) → (∀ s' post', ok s' → μ s' < μ s → (∀ r, Q s' r → post' r) → W d post' s') → W (d + 1) post s) :
    ∀ d s post, ok s → μ s < d → (∀ r, Q s r → post r) → W d post s := by
  intro d
  induction d with
  | zero => intro s post _ h; omega
  | succ d ih =>
    intro s post ho hm hp
    exact hs d s post ho hp (fun s' post' ho' hm' hp' => ih s' post' ho' (by omega) hp')
def bx_sum (f : Nat → Int32) : Nat → Int32
  | 0 => 0
  | n + 1 => bx_sum f n + f n
theorem ek_u {A : Prop} {B : Nat → Prop} {k N : Nat} (hk : k < N) (h : B k) : (some k = none → A) ∧ (∀ y : Nat, some k = some y → (y < N ∧ B y)) :=
  ⟨fun z => absurd z (Option.some_ne_none k), fun _ e => (by cases e; exact ⟨hk, h⟩)⟩
theorem ek_nu {A : Prop} {B : Nat → Prop} (h : A) : ((none : Option Nat) = none → A) ∧ (∀ y : Nat, (none : Option Nat) = some y → B y) :=
  ⟨fun _ => h, fun _ e => (by cases e)⟩
theorem ek_if {c d A B : Prop} (e : c ↔ d) (f : d → A) (g : ¬ d → B) : (c → A) ∧ (¬ c → B) :=
  ⟨fun z => f (e.mp z), fun z => g (fun y => z (e.mpr y))⟩
theorem ek_v {α : Sort _} {P : α → Prop} {a b : α} (e : a = b) (h : P b) : P a := e ▸ h
theorem co_some {x : Option Nat} {A : Prop} {B : Nat → Prop} (i : Nat) (h : B i) (hx : x = some i := by rfl) : (x = none → A) ∧ (∀ y : Nat, x = some y → B y) := by
  subst hx
  exact ⟨fun e => (nomatch e), fun y e => Option.some.inj e ▸ h⟩
theorem co_none {x : Option Nat} {A : Prop} {B : Nat → Prop} (h : A) (hx : x = none := by rfl) : (x = none → A) ∧ (∀ y : Nat, x = some y → B y) := by
  subst hx
  exact ⟨fun _ => h, fun y e => (nomatch e)⟩
theorem co_any {x : Option Nat} {A : Prop} {B : Nat → Prop} (hn : x = none → A) (hs : ∀ i : Nat, x = some i → B i) : (x = none → A) ∧ (∀ y : Nat, x = some y → B y) := ⟨hn, hs⟩
theorem co_2 {P : Nat → Prop} (h0 : P 0) (h1 : P 1) {i : Nat} (hi : i < 2) : P i :=
  match i, hi with
  | 0, _ => h0
  | 1, _ => h1
theorem co_3 {P : Nat → Prop} (h0 : P 0) (h1 : P 1) (h2 : P 2) {i : Nat} (hi : i < 3) : P i :=
  match i, hi with
  | 0, _ => h0
  | 1, _ => h1
  | 2, _ => h2
theorem co_4 {P : Nat → Prop} (h0 : P 0) (h1 : P 1) (h2 : P 2) (h3 : P 3) {i : Nat} (hi : i < 4) : P i :=
  match i, hi with
  | 0, _ => h0
  | 1, _ => h1
  | 2, _ => h2
  | 3, _ => h3
theorem co_dec {N : Nat} {P : Nat → Prop} [DecidablePred P] (h : (List.range N).all (fun i => decide (P i)) = true) {i : Nat} (hi : i < N) : P i := by
  have := List.all_eq_true.mp h i (List.mem_range.mpr hi)
  exact of_decide_eq_true this
theorem co_tab {α : Type} {l : List α} {d : α} {P : α → Prop} (h : ∀ a, a ∈ l → P a) {i : Nat} (hi : i < l.length) : P (l.getD i d) := by
  rw [List.getD_eq_getElem?_getD, List.getElem?_eq_getElem hi]
  exact h _ (List.getElem_mem hi)
theorem pk_mu {x : Int32} {L : Nat} (h0 : ¬ x < 0) (h : ¬ nI L ≤ x) (hL : L < 2 ^ 31) : ∃ j : Nat, j < L ∧ x = nI j ∧ x + 1 = nI (j + 1) ∧ x.toNatClampNeg = j ∧ L - (x + 1).toNatClampNeg < L - x.toNatClampNeg := by
  obtain ⟨j, hj, rfl⟩ := nI_of h0
  have hl : j < L := Nat.not_le.mp fun q => h (nI_le q hj)
  refine ⟨j, hl, rfl, nI_1 j, nI_clamp hj, ?_⟩
  rw [nI_1, nI_clamp (by omega), nI_clamp hj]
  omega
theorem op_s {α : Type} {r : Option α} {A : Prop} {B : α → Prop} {y : α} (h : r = some y) (b : B y) : (r = none → A) ∧ ∀ z, r = some z → B z :=
  ⟨fun e => (by rw [h] at e; cases e), fun z e => (by rw [h] at e; cases e; exact b)⟩
def l_holds {α : Type} (a : Nat → Option Nat) (LP : List Nat) (p : Nat → α) (c : Nat) (b : Nat → α) : Prop :=
  ∀ j, j < c → ∃ y, a j = some y ∧ y ∈ LP ∧ p y = b j
theorem l_holds_0 {α : Type} {a : Nat → Option Nat} {LP : List Nat} {p b : Nat → α} : l_holds a LP p 0 b := fun j h => absurd h (Nat.not_lt_zero j)
theorem l_in_new (LP : List Nat) (q : Nat) : q ∈ LP ++ [q] := List.mem_append.mpr (Or.inr (List.mem_singleton.mpr rfl))
def l_sum (b : Nat → Int32) : Nat → Int32
  | 0 => 0
  | k + 1 => l_sum b k + b k
theorem sb_shr0 (x : Int32) : x >>> ((0 : Int32) &&& 31) = x := by
  rw [show ((0 : Int32) &&& 31) = 0 by decide]
  simp
theorem sb_shl0 (x : Int32) : x <<< ((0 : Int32) &&& 31) = x := by
  rw [show ((0 : Int32) &&& 31) = 0 by decide]
  simp
theorem sb_cl0 : (0 : Int32).toNatClampNeg = 0 := by decide
theorem sb_m1 {p : Nat} (h : 0 < p) : nI p + (-1) = nI (p - 1) := by
  obtain ⟨q, rfl⟩ : ∃ q, p = q + 1 := ⟨p - 1, by omega⟩
  exact pk_m1 q
def sb_b (c : Nat) : Int32 := (nI c).toInt8.toInt32
theorem sb_byte : ∀ c, c < 256 → sb_b c &&& 255 = nI c ∧ ((nI c).toUInt32 % 65536).toInt32 = nI c ∧ nI c ≤ 255 := by decide +kernel
def sb_Fit (a : Nat → Int32) : Prop := ∀ j, fits .byte (.int (a j)) = true
def sb_Lat (t : Nat → Nat) (n : Nat) (a : Nat → Int32) : Prop := ∀ j, j < n → t j < 256 ∧ a j = sb_b (t j)
theorem sb_fitB (c : Nat) : fits .byte (.int (sb_b c)) = true := pk_fb _
theorem sb_fit0 : sb_Fit (fun _ => 0) := fun _ => by
  show fits .byte (.int 0) = true
  decide
theorem sb_fitU {a : Nat → Int32} {k : Nat} {x : Int32} (h : sb_Fit a) (hx : fits .byte (.int x) = true) : sb_Fit (upd a k x) := by
  intro j
  by_cases e : j = k
  · subst e
    rw [pk_us]
    exact hx
  · rw [pk_un e]
    exact h j
def sb_cat (t : Nat → Nat) (n : Nat) (s : Nat → Nat) : Nat → Nat := fun j => if j < n then t j else s (j - n)
theorem sb_cat_lo {t s : Nat → Nat} {n j : Nat} (h : j < n) : sb_cat t n s j = t j := if_pos h
theorem sb_cat_hi {t s : Nat → Nat} {n j : Nat} : sb_cat t n s (n + j) = s j := by
  show (if n + j < n then t (n + j) else s (n + j - n)) = s j
  rw [if_neg (by omega), Nat.add_sub_cancel_left]
theorem sb_latPut {t s : Nat → Nat} {n w : Nat} {a a' : Nat → Int32} (h : sb_Lat t n a) (hk : ∀ j, j < n → a' j = a j) (hs : ∀ i, i < w → s i < 256 ∧ a' (n + i) = sb_b (s i)) : sb_Lat (sb_cat t n s) (n + w) a' := by
  intro j hj
  by_cases e : j < n
  · rw [sb_cat_lo e, hk j e]
    exact h j e
  · obtain ⟨i, rfl⟩ : ∃ i, j = n + i := ⟨j - n, by omega⟩
    rw [sb_cat_hi]
    exact hs i (by omega)
theorem sb_latKeep {t : Nat → Nat} {n : Nat} {a a' : Nat → Int32} (h : sb_Lat t n a) (hk : ∀ j, j < n → a' j = a j) : sb_Lat t n a' := fun j hj => by
  rw [hk j hj]
  exact h j hj
def sb_cap (q m : Nat) : Nat := if q ≤ m then m else if 2 * m + 2 < q then q else 2 * m + 2
def sb_Room (q m mc ms : Nat) : Prop := q ≤ m ∨ (1 ≤ mc ∧ sb_cap q m ≤ ms ∧ sb_cap q m ≤ 65536)
theorem sb_cap_ge (q m : Nat) : q ≤ sb_cap q m := by
  unfold sb_cap
  split
  · omega
  · split <;> omega
theorem sb_cap_gem (q m : Nat) : m ≤ sb_cap q m := by
  unfold sb_cap
  split
  · omega
  · split <;> omega
theorem sb_cap_le {q m mc ms : Nat} (hm : m ≤ 65536) (hr : sb_Room q m mc ms) : sb_cap q m ≤ 65536 := by
  rcases hr with h | h
  · rw [sb_cap, if_pos h]
    exact hm
  · exact h.2.2
theorem sb_at {P : Int32 → Prop} {x y : Int32} (e : x = y) (h : P y) : P x := e ▸ h
def sb_dg (w : Nat) : Nat := if w < 10 then 1 else if w < 100 then 2 else if w < 1000 then 3 else if w < 10000 then 4 else if w < 100000 then 5 else if w < 1000000 then 6 else if w < 10000000 then 7 else if w < 100000000 then 8 else if w < 1000000000 then 9 else 10
def sb_dec (v : Nat) : Nat → Nat := fun i => 48 + v / 10 ^ (sb_dg v - 1 - i) % 10
theorem sb_dg_in (w : Nat) : 1 ≤ sb_dg w ∧ sb_dg w ≤ 10 := by
  unfold sb_dg
  constructor <;> (repeat' split) <;> omega
theorem sb_dg100 {w : Nat} (h : 100 ≤ w) (hw : w < 2 ^ 31) : sb_dg w = sb_dg (w / 100) + 2 := by
  rw [sb_dg, sb_dg, if_neg (show ¬ w < 10 by omega), if_neg (show ¬ w < 100 by omega)]
  by_cases h3 : w < 1000
  · rw [if_pos h3, if_pos (show w / 100 < 10 by omega)]
  rw [if_neg h3, if_neg (show ¬ w / 100 < 10 by omega)]
  by_cases h4 : w < 10000
  · rw [if_pos h4, if_pos (show w / 100 < 100 by omega)]
  rw [if_neg h4, if_neg (show ¬ w / 100 < 100 by omega)]
  by_cases h5 : w < 100000
  · rw [if_pos h5, if_pos (show w / 100 < 1000 by omega)]
  rw [if_neg h5, if_neg (show ¬ w / 100 < 1000 by omega)]
  by_cases h6 : w < 1000000
  · rw [if_pos h6, if_pos (show w / 100 < 10000 by omega)]
  rw [if_neg h6, if_neg (show ¬ w / 100 < 10000 by omega)]
  by_cases h7 : w < 10000000
  · rw [if_pos h7, if_pos (show w / 100 < 100000 by omega)]
  rw [if_neg h7, if_neg (show ¬ w / 100 < 100000 by omega)]
  by_cases h8 : w < 100000000
  · rw [if_pos h8, if_pos (show w / 100 < 1000000 by omega)]
  rw [if_neg h8, if_neg (show ¬ w / 100 < 1000000 by omega)]
  by_cases h9 : w < 1000000000
  · rw [if_pos h9, if_pos (show w / 100 < 10000000 by omega)]
  rw [if_neg h9, if_neg (show ¬ w / 100 < 10000000 by omega)]
  rw [if_pos (show w / 100 < 100000000 by omega)]
theorem sb_negT {w : Nat} (h : w < 2 ^ 31) : (-nI w).toInt = -(w : Int) := by
  rw [Int32.toInt_neg, nI_toInt h]
  exact Int.bmod_eq_of_le (by omega) (by omega)
theorem sb_nle {a b : Nat} (ha : a < 2 ^ 31) (hb : b < 2 ^ 31) : -nI a ≤ -nI b ↔ b ≤ a := by
  rw [Int32.le_iff_toInt_le, sb_negT ha, sb_negT hb]
  omega
theorem sb_nlt {a b : Nat} (ha : a < 2 ^ 31) (hb : b < 2 ^ 31) : -nI a < -nI b ↔ b < a := by
  rw [Int32.lt_iff_toInt_lt, sb_negT ha, sb_negT hb]
  omega
theorem sb_cmp {A B : Prop} {x : Int32} (v c : Nat) (f : c ≤ v → A) (g : v < c → B) (hv : v < 2 ^ 31) (hx : x = -nI c := by rfl) (hc : c < 2 ^ 31 := by omega) : (-nI v ≤ x → A) ∧ (¬ -nI v ≤ x → B) := by
  subst hx
  rw [sb_nle hv hc]
  exact ⟨f, fun z => g (by omega)⟩
theorem sb_ndiv {w : Nat} (hw : w < 2 ^ 31) : (-nI w) / 100 = -nI (w / 100) := by
  apply Int32.toInt_inj.mp
  have h100 : (100 : Int32).toInt = 100 := by decide
  rw [Int32.toInt_div, sb_negT hw, h100, sb_negT (by omega), Int.neg_tdiv, Int.tdiv_eq_ediv_of_nonneg (by omega), Int.bmod_eq_of_le (by omega) (by omega)]
  omega
theorem sb_nrem {w : Nat} (hw : w < 2 ^ 31) : (-nI (w / 100)) * 100 - (-nI w) = nI (w % 100) := by
  have h := pk_rem (a := w) (d := 100) hw (by decide) (by decide)
  rw [pk_div hw (by decide) (by decide)] at h
  rw [← h]
  show (-nI (w / 100)) * nI 100 - (-nI w) = nI w - nI (w / 100) * nI 100
  rw [Int32.neg_mul, Int32.sub_neg, Int32.add_comm, ← Int32.sub_eq_add_neg]
end
section
/-! counting: how many i below n; pigeonhole -/
def ic_cnt (P : Nat → Bool) : Nat → Nat
  | 0 => 0
  | n + 1 => ic_cnt P n + (if P n = true then 1 else 0)
theorem ic_cnt_s (P : Nat → Bool) (n : Nat) : ic_cnt P (n + 1) = ic_cnt P n + (if P n = true then 1 else 0) := rfl
theorem ic_cnt_congr {P Q : Nat → Bool} : ∀ {n : Nat}, (∀ i, i < n → Q i = P i) → ic_cnt Q n = ic_cnt P n := by
  intro n
  induction n with
  | zero => intro _; rfl
  | succ n ih =>
    intro h
    rw [ic_cnt_s, ic_cnt_s, ih (fun i hi => h i (by omega)), h n (by omega)]
theorem ic_cnt_le (P : Nat → Bool) : ∀ n : Nat, ic_cnt P n ≤ n := by
  intro n
  induction n with
  | zero => exact Nat.le_refl _
  | succ n ih =>
    rw [ic_cnt_s]
    by_cases h : P n = true
    · rw [if_pos h]; omega
    · rw [if_neg h]; omega
theorem ic_cnt_zero {P : Nat → Bool} : ∀ {n : Nat}, (∀ i, i < n → P i = false) → ic_cnt P n = 0 := by
  intro n
  induction n with
  | zero => intro _; rfl
  | succ n ih =>
    intro h
    rw [ic_cnt_s, ih (fun i hi => h i (by omega)), h n (by omega)]
    rfl
theorem ic_cnt_pos {P : Nat → Bool} : ∀ {n a : Nat}, a < n → P a = true → 0 < ic_cnt P n := by
  intro n
  induction n with
  | zero => intro a h; omega
  | succ n ih =>
    intro a h hp
    rw [ic_cnt_s]
    by_cases e : a = n
    · subst e
      rw [if_pos hp]; omega
    · have := ih (a := a) (by omega) hp
      omega
theorem ic_cnt_ex {P : Nat → Bool} : ∀ {n : Nat}, 0 < ic_cnt P n → ∃ i, i < n ∧ P i = true := by
  intro n
  induction n with
  | zero => intro h; exact absurd h (Nat.lt_irrefl 0)
  | succ n ih =>
    intro h
    by_cases hp : P n = true
    · exact ⟨n, by omega, hp⟩
    · rw [ic_cnt_s, if_neg hp] at h
      obtain ⟨i, hi, e⟩ := ih (by omega)
      exact ⟨i, by omega, e⟩
/-- one index changes -/
theorem ic_cnt_upd {P Q : Nat → Bool} {a : Nat} : ∀ {n : Nat}, a < n → (∀ i, i < n → i ≠ a → Q i = P i) →
    ic_cnt Q n + (if P a = true then 1 else 0) = ic_cnt P n + (if Q a = true then 1 else 0) := by
  intro n
  induction n with
  | zero => intro h; omega
  | succ n ih =>
    intro h ho
    rw [ic_cnt_s, ic_cnt_s]
    by_cases e : a = n
    · subst e
      rw [ic_cnt_congr (P := P) (Q := Q) (n := a) (fun i hi => ho i (by omega) (by omega))]
      omega
    · have := ih (by omega) (fun i hi hne => ho i (by omega) hne)
      rw [ho n (by omega) (by omega)]
      omega
theorem ic_cnt_one {P : Nat → Bool} {n a b : Nat} (h : ic_cnt P n = 1) (ha : a < n) (hb : b < n) (pa : P a = true) (pb : P b = true) : a = b := by
  refine Classical.byContradiction fun ne => ?_
  have h1 := ic_cnt_upd (P := P) (Q := fun i => if i = a then false else P i) (a := a) (n := n) ha (fun i _ hne => if_neg hne)
  have h2 : 0 < ic_cnt (fun i => if i = a then false else P i) n := by
    refine ic_cnt_pos (a := b) hb ?_
    show (if b = a then false else P b) = true
    rw [if_neg (fun z => ne z.symm)]; exact pb
  have h3 : (if (if a = a then false else P a) = true then 1 else 0) = 0 := by
    rw [if_pos rfl]; rfl
  rw [if_pos pa] at h1
  have h4 : (if (fun i => if i = a then false else P i) a = true then 1 else 0) = 0 := h3
  rw [h4] at h1
  omega
/-- beyond b nothing is counted -/
theorem ic_cnt_cut {P : Nat → Bool} {b : Nat} : ∀ {n : Nat}, b ≤ n → (∀ i, b ≤ i → i < n → P i = false) → ic_cnt P n = ic_cnt P b := by
  intro n
  induction n with
  | zero => intro h _; rw [show b = 0 by omega]
  | succ n ih =>
    intro h hz
    by_cases e : b = n + 1
    · rw [e]
    · rw [ic_cnt_s, ih (by omega) (fun i h1 h2 => hz i h1 (by omega)), hz n (by omega) (by omega)]
      rfl
theorem ic_pig : ∀ (n m : Nat) (g : Nat → Nat), (∀ p, p < m → ∃ i, i < n ∧ g i = p) → m ≤ n := by
  intro n
  induction n with
  | zero =>
    intro m g h
    cases m with
    | zero => exact Nat.le_refl _
    | succ m =>
      obtain ⟨i, hi, _⟩ := h 0 (by omega)
      omega
  | succ n ih =>
    intro m g h
    cases m with
    | zero => omega
    | succ m =>
      refine Nat.succ_le_succ (ih m (fun i => if g i = m then g n else g i) ?_)
      intro p hp
      obtain ⟨i, hi, e⟩ := h p (by omega)
      by_cases hin : i < n
      · refine ⟨i, hin, ?_⟩
        show (if g i = m then g n else g i) = p
        rw [if_neg (by omega)]; exact e
      · have ein : i = n := by omega
        subst ein
        obtain ⟨i', hi', e'⟩ := h m (by omega)
        have hne : i' ≠ i := by
          intro z
          subst z
          omega
        refine ⟨i', by omega, ?_⟩
        show (if g i' = m then g i else g i') = p
        rw [if_pos e']; exact e
end
section
/-! X's five arrays: the uses of tables and places, and what they say -/
def ic_Tn (F : Nat → Int32) (t : Nat) : Nat := ic_cnt (fun k => decide (F k = nI t)) 32
def ic_Sn (L : Nat → Bool) (S : Nat → Int32) (p : Nat) : Nat := ic_cnt (fun i => L i && decide (S i = nI p)) 144
def ic_lv (F : Nat → Int32) : Nat → Bool := fun i => decide (0 < ic_Tn F (i / 4))
def ic_VE (x : Int32) : Prop := x = -1 ∨ x = -2 ∨ ∃ p, p < 132 ∧ x = nI p
def ic_en (F S : Nat → Int32) (i : Nat) : Int32 := if F (i / 4) < 0 then -1 else S (4 * (F (i / 4)).toNatClampNeg + i % 4)
def ic_wd (ST : Nat → Int32) (x : Int32) : Int32 := if x < 0 then 0 else ST x.toNatClampNeg
def ic_ab (ST : Nat → Int32) (x : Int32) : Option Int32 := if x = -1 then none else some (ic_wd ST x)
def ic_SC (L : Nat → Bool) (S SU : Nat → Int32) : Prop := ∀ p, p < 132 → SU p = nI (ic_Sn L S p)
def ic_FV (F S : Nat → Int32) : Prop := ∀ k, k < 32 → F k = -1 ∨ ∃ t, t < 36 ∧ F k = nI t ∧ ∀ j, j < 4 → ic_VE (S (4 * t + j))
def ic_G (A : Nat → Option Int32) (Z : Nat → Prop) (F S TU ST SU : Nat → Int32) : Prop :=
  ic_FV F S ∧ (∀ k, k < 32 → Z k → F k = -1) ∧ (∀ t, t < 36 → TU t = nI (ic_Tn F t)) ∧ ic_SC (ic_lv F) S SU ∧ ∀ i, i < 128 → A i = ic_ab ST (ic_en F S i)
def ic_uA (A : Nat → Option Int32) (i : Nat) (v : Option Int32) : Nat → Option Int32 := fun j => if j = i then v else A j
def ic_cl (A : Nat → Option Int32) (k : Nat) : Nat → Option Int32 := fun i => if i / 4 = k then none else A i
def ic_sl (A : Nat → Option Int32) (b a : Nat) : Nat → Option Int32 := fun i => if i / 4 = b then A (4 * a + i % 4) else A i

section
variable {A A' : Nat → Option Int32} {Z Z' : Nat → Prop} {F F' S S' TU TU' ST ST' SU SU' : Nat → Int32} {L L' : Nat → Bool}

theorem ic_uA_s {i : Nat} {v : Option Int32} : ic_uA A i v i = v := if_pos rfl
theorem ic_uA_n {i j : Nat} {v : Option Int32} (h : j ≠ i) : ic_uA A i v j = A j := if_neg h
theorem ic_neg {x : Int32} {p : Nat} (hx : x < 0) (hp : p < 2 ^ 31) : x ≠ nI p := fun e => nI_pos hp (e ▸ hx)
theorem ic_Tn_upd {k x : Nat} {v : Int32} (hk : k < 32) :
    ic_Tn (upd F k v) x + (if F k = nI x then 1 else 0) = ic_Tn F x + (if v = nI x then 1 else 0) := by
  have h := ic_cnt_upd (P := fun j => decide (F j = nI x)) (Q := fun j => decide (upd F k v j = nI x)) (a := k) (n := 32) hk
    (fun i _ hne => by show decide (upd F k v i = nI x) = decide (F i = nI x); rw [pk_un hne])
  simp only [pk_us, decide_eq_true_eq] at h
  exact h
theorem ic_Tn_pos {k t : Nat} (hk : k < 32) (h : F k = nI t) : 0 < ic_Tn F t :=
  ic_cnt_pos (P := fun k => decide (F k = nI t)) hk (decide_eq_true h)
theorem ic_Tn_ex {t : Nat} (h : 0 < ic_Tn F t) : ∃ k, k < 32 ∧ F k = nI t := by
  obtain ⟨i, hi, e⟩ := ic_cnt_ex h
  exact ⟨i, hi, of_decide_eq_true e⟩
theorem ic_Tn_0 {k t : Nat} (h : ic_Tn F t = 0) (hk : k < 32) : F k ≠ nI t := by
  intro e
  have := ic_Tn_pos hk e
  omega
theorem ic_Tn_le (t : Nat) : ic_Tn F t ≤ 32 := ic_cnt_le _ _
theorem ic_Tn_one {k k' t : Nat} (h : ic_Tn F t = 1) (hk : k < 32) (hk' : k' < 32) (e : F k = nI t) (e' : F k' = nI t) : k = k' :=
  ic_cnt_one (P := fun k => decide (F k = nI t)) h hk hk' (decide_eq_true e) (decide_eq_true e')
theorem ic_Sn_le (p : Nat) : ic_Sn L S p ≤ 144 := ic_cnt_le _ _
theorem ic_Sn_chg {a p : Nat} (ha : a < 144) (ho : ∀ i, i < 144 → i ≠ a → L' i = L i ∧ (L i = true → S' i = S i)) :
    ic_Sn L' S' p + (if L a = true ∧ S a = nI p then 1 else 0) = ic_Sn L S p + (if L' a = true ∧ S' a = nI p then 1 else 0) := by
  have h := ic_cnt_upd (P := fun i => L i && decide (S i = nI p)) (Q := fun i => L' i && decide (S' i = nI p)) (a := a) (n := 144) ha
    (fun i hi hne => by
      obtain ⟨e1, e2⟩ := ho i hi hne
      show (L' i && decide (S' i = nI p)) = (L i && decide (S i = nI p))
      rw [e1]
      cases hL : L i with
      | false => rfl
      | true => rw [e2 hL])
  simp only [Bool.and_eq_true, decide_eq_true_eq] at h
  exact h
theorem ic_SC_congr (h : ic_SC L S SU) (ho : ∀ i, i < 144 → L' i = L i ∧ (L i = true → S' i = S i)) : ic_SC L' S' SU := by
  intro p hp
  rw [h p hp]
  refine congrArg nI (ic_cnt_congr fun i hi => ?_)
  obtain ⟨e1, e2⟩ := ho i hi
  show (L i && decide (S i = nI p)) = (L' i && decide (S' i = nI p))
  rw [e1]
  cases hL : L i with
  | false => rfl
  | true => rw [e2 hL]
theorem ic_SC_addN {a : Nat} (h : ic_SC L S SU) (ha : a < 144) (hL : L a = false)
    (ho : ∀ i, i < 144 → i ≠ a → L' i = L i ∧ (L i = true → S' i = S i)) (hv : S' a < 0) : ic_SC L' S' SU := by
  intro p hp
  have e := ic_Sn_chg (p := p) ha ho
  rw [if_neg (fun z => absurd (hL.symm.trans z.1) Bool.false_ne_true), if_neg (fun z => ic_neg hv (by omega) z.2)] at e
  rw [h p hp]
  exact congrArg nI (by omega)
theorem ic_SC_addP {a q : Nat} (h : ic_SC L S SU) (ha : a < 144) (hL : L a = false) (hL' : L' a = true)
    (ho : ∀ i, i < 144 → i ≠ a → L' i = L i ∧ (L i = true → S' i = S i)) (hv : S' a = nI q) (hq : q < 132) : ic_SC L' S' (upd SU q (SU q + 1)) := by
  intro p hp
  have e := ic_Sn_chg (p := p) ha ho
  rw [if_neg (fun z => absurd (hL.symm.trans z.1) Bool.false_ne_true)] at e
  by_cases hpq : p = q
  · subst hpq
    rw [if_pos ⟨hL', hv⟩] at e
    rw [pk_us, h p hp, nI_1]
    exact congrArg nI (by omega)
  · rw [if_neg (fun z => hpq ((nI_eq (by omega) (by omega)).mp (z.2.symm.trans hv)))] at e
    rw [pk_un hpq, h p hp]
    exact congrArg nI (by omega)
theorem ic_SC_subN {a : Nat} (h : ic_SC L S SU) (ha : a < 144) (hL' : L' a = false)
    (ho : ∀ i, i < 144 → i ≠ a → L' i = L i ∧ (L i = true → S' i = S i)) (hv : S a < 0) : ic_SC L' S' SU := by
  intro p hp
  have e := ic_Sn_chg (p := p) ha ho
  rw [if_neg (fun z => ic_neg hv (by omega) z.2), if_neg (fun z => absurd (hL'.symm.trans z.1) Bool.false_ne_true)] at e
  rw [h p hp]
  exact congrArg nI (by omega)
theorem ic_SC_subP {a q : Nat} (h : ic_SC L S SU) (ha : a < 144) (hL : L a = true) (hL' : L' a = false)
    (ho : ∀ i, i < 144 → i ≠ a → L' i = L i ∧ (L i = true → S' i = S i)) (hv : S a = nI q) (hq : q < 132) : ic_SC L' S' (upd SU q (SU q - 1)) := by
  intro p hp
  have e := ic_Sn_chg (p := p) ha ho
  rw [if_neg (c := L' a = true ∧ S' a = nI p) (fun z => absurd (hL'.symm.trans z.1) Bool.false_ne_true)] at e
  by_cases hpq : p = q
  · subst hpq
    rw [if_pos ⟨hL, hv⟩] at e
    rw [pk_us, h p hp, show ic_Sn L S p = ic_Sn L' S' p + 1 by omega, nI_pred]
  · rw [if_neg (fun z => hpq ((nI_eq (by omega) (by omega)).mp (z.2.symm.trans hv)))] at e
    rw [pk_un hpq, h p hp]
    exact congrArg nI (by omega)
/-- 36 tables, 32 slots: one is free -/
theorem ic_freeT (h : ∀ t, t < 36 → TU t = nI (ic_Tn F t)) : ∃ t, t < 36 ∧ TU t = 0 := by
  refine Classical.byContradiction fun hn => ?_
  have hall : ∀ p, p < 36 → ∃ x, x < 32 ∧ (fun x => (F x).toNatClampNeg) x = p := by
    intro p hp
    have h1 : 0 < ic_Tn F p := by
      refine Nat.pos_of_ne_zero fun z => hn ⟨p, hp, ?_⟩
      rw [h p hp, z]
      exact nI_0
    obtain ⟨k, hk, ek⟩ := ic_Tn_ex h1
    refine ⟨k, hk, ?_⟩
    show (F k).toNatClampNeg = p
    rw [ek, nI_clamp (by omega)]
  have := ic_pig 32 36 _ hall
  omega
/-- 132 places, at most 128 live entries: one is free -/
theorem ic_freeP (h : ic_SC L S SU) (hL : ∀ i, i < 144 → L i = true → ic_lv F i = true) : ∃ p, p < 132 ∧ SU p = 0 := by
  refine Classical.byContradiction fun hn => ?_
  have hall : ∀ p, p < 132 → ∃ x, x < 128 ∧ (fun x => (S (4 * (F (x / 4)).toNatClampNeg + x % 4)).toNatClampNeg) x = p := by
    intro p hp
    have h1 : 0 < ic_Sn L S p := by
      refine Nat.pos_of_ne_zero fun z => hn ⟨p, hp, ?_⟩
      rw [h p hp, z]
      exact nI_0
    obtain ⟨i, hi, e⟩ := ic_cnt_ex h1
    have e' : L i = true ∧ S i = nI p := by
      simp only [Bool.and_eq_true, decide_eq_true_eq] at e
      exact e
    obtain ⟨k, hk, ek⟩ := ic_Tn_ex (of_decide_eq_true (hL i hi e'.1))
    refine ⟨4 * k + i % 4, by omega, ?_⟩
    show (S (4 * (F ((4 * k + i % 4) / 4)).toNatClampNeg + (4 * k + i % 4) % 4)).toNatClampNeg = p
    rw [show (4 * k + i % 4) / 4 = k by omega, show (4 * k + i % 4) % 4 = i % 4 by omega, ek, nI_clamp (by omega),
      show 4 * (i / 4) + i % 4 = i by omega, e'.2, nI_clamp (by omega)]
  have := ic_pig 128 132 _ hall
  omega
theorem ic_en_neg {i : Nat} (h : F (i / 4) = -1) : ic_en F S i = -1 := if_pos (by rw [h]; decide)
theorem ic_en_pos {i t : Nat} (h : F (i / 4) = nI t) (ht : t < 36) : ic_en F S i = S (4 * t + i % 4) := by
  unfold ic_en
  rw [h, if_neg (nI_pos (by omega)), nI_clamp (by omega)]
theorem ic_en_congr {i : Nat} (h : F' (i / 4) = F (i / 4)) : ic_en F' S i = ic_en F S i := by
  unfold ic_en
  rw [h]
theorem ic_en_VE (h : ic_FV F S) {i : Nat} (hi : i < 128) : ic_VE (ic_en F S i) := by
  rcases h (i / 4) (by omega) with e | ⟨t, ht, e, hv⟩
  · rw [ic_en_neg e]
    exact Or.inl rfl
  · rw [ic_en_pos e ht]
    exact hv _ (by omega)
theorem ic_ab_m1 : ic_ab ST (-1) = none := if_pos rfl
theorem ic_ab_m2 : ic_ab ST (-2) = some 0 := by
  unfold ic_ab ic_wd
  rw [if_neg (by decide), if_pos (by decide)]
theorem ic_wd_p {p : Nat} (hp : p < 132) : ic_wd ST (nI p) = ST p := by
  unfold ic_wd
  rw [if_neg (nI_pos (by omega)), nI_clamp (by omega)]
theorem ic_nIm1 {p : Nat} (hp : p < 2 ^ 31) : nI p ≠ -1 := fun e => ic_neg (show (-1 : Int32) < 0 by decide) hp e.symm
theorem ic_ab_p {p : Nat} (hp : p < 132) : ic_ab ST (nI p) = some (ST p) := by
  unfold ic_ab
  rw [if_neg (ic_nIm1 (by omega)), ic_wd_p hp]
theorem ic_ab_n {x : Int32} (h : x ≠ -1) : ic_ab ST x = some (ic_wd ST x) := if_neg h
theorem ic_G_congr (G : ic_G A Z F S TU ST SU) (hA : ∀ i, i < 128 → A' i = A i) (hZ : ∀ k, k < 32 → Z' k → Z k) : ic_G A' Z' F S TU ST SU :=
  ⟨G.1, fun k hk z => G.2.1 k hk (hZ k hk z), G.2.2.1, G.2.2.2.1, fun i hi => (hA i hi).trans (G.2.2.2.2 i hi)⟩
/-- an entry of a table that one slot alone uses -/
theorem ic_G_put {k0 t j : Nat} {v : Int32} (G : ic_G A Z F S TU ST SU) (hk : k0 < 32) (ht : t < 36) (hj : j < 4) (hF : F k0 = nI t)
    (hu : ∀ k, k < 32 → F k = nI t → k = k0) (hv : ic_VE v) (hC : ic_SC (ic_lv F) (upd S (4 * t + j) v) SU')
    (hS : ∀ i, i < 144 → i ≠ 4 * t + j → ic_lv F i = true → ∀ p, p < 132 → S i = nI p → ST' p = ST p) :
    ic_G (ic_uA A (4 * k0 + j) (ic_ab ST' v)) Z F (upd S (4 * t + j) v) TU ST' SU' := by
  obtain ⟨g1, g2, g3, g4, g5⟩ := G
  refine ⟨?_, g2, g3, hC, ?_⟩
  · intro k hk'
    rcases g1 k hk' with h | ⟨t', ht', e', hv'⟩
    · exact Or.inl h
    · refine Or.inr ⟨t', ht', e', fun j' hj' => ?_⟩
      by_cases z : 4 * t' + j' = 4 * t + j
      · rw [z, pk_us]; exact hv
      · rw [pk_un z]; exact hv' j' hj'
  · intro i hi
    by_cases z : i = 4 * k0 + j
    · subst z
      rw [ic_uA_s, ic_en_pos (t := t) (by rw [show (4 * k0 + j) / 4 = k0 by omega]; exact hF) ht, show (4 * k0 + j) % 4 = j by omega, pk_us]
    · rw [ic_uA_n z, g5 i hi]
      rcases g1 (i / 4) (by omega) with h | ⟨t', ht', e', hv'⟩
      · rw [ic_en_neg h, ic_en_neg h, ic_ab_m1, ic_ab_m1]
      · rw [ic_en_pos e' ht', ic_en_pos e' ht']
        have hne : 4 * t' + i % 4 ≠ 4 * t + j := by
          intro y
          have e1 : t' = t := by omega
          subst e1
          have := hu (i / 4) (by omega) e'
          omega
        rw [pk_un hne]
        have hlv : ic_lv F (4 * t' + i % 4) = true :=
          decide_eq_true (by rw [show (4 * t' + i % 4) / 4 = t' by omega]; exact ic_Tn_pos (by omega) e')
        rcases hv' (i % 4) (by omega) with y | y | ⟨p, hp, y⟩
        · rw [y, ic_ab_m1, ic_ab_m1]
        · rw [y, ic_ab_m2, ic_ab_m2]
        · rw [y, ic_ab_p hp, ic_ab_p hp, hS _ (by omega) hne hlv p hp y]
/-- slot k0 gets a new table m of its own with the entries that it had -/
theorem ic_G_own {k0 m : Nat} (G : ic_G A Z F S TU ST SU) (hk : k0 < 32) (hz : ¬ Z k0) (hm : m < 36) (hm0 : ic_Tn F m = 0)
    (hne : F k0 = -1 ∨ ∃ t, t < 36 ∧ F k0 = nI t ∧ 2 ≤ ic_Tn F t)
    (hTU : ∀ x, x < 36 → TU' x = nI (ic_Tn (upd F k0 (nI m)) x))
    (hS : ∀ i, i < 144 → i / 4 ≠ m → S' i = S i) (hS' : ∀ j, j < 4 → S' (4 * m + j) = ic_en F S (4 * k0 + j))
    (hC : ic_SC (fun i => ic_lv F i || decide (i / 4 = m)) S' SU') :
    ic_G A Z (upd F k0 (nI m)) S' TU' ST SU' ∧ (∀ k, k < 32 → upd F k0 (nI m) k = nI m → k = k0) ∧
      ∀ i, i < 128 → ic_en (upd F k0 (nI m)) S' i = ic_en F S i := by
  obtain ⟨g1, g2, g3, g4, g5⟩ := G
  have hen : ∀ i, i < 128 → ic_en (upd F k0 (nI m)) S' i = ic_en F S i := by
    intro i hi
    by_cases z : i / 4 = k0
    · rw [ic_en_pos (F := upd F k0 (nI m)) (t := m) (by rw [z, pk_us]) hm, hS' _ (by omega)]
      rw [show 4 * k0 + i % 4 = i by omega]
    · have e : upd F k0 (nI m) (i / 4) = F (i / 4) := pk_un z
      rw [ic_en_congr e]
      rcases g1 (i / 4) (by omega) with h | ⟨t', ht', e', _⟩
      · rw [ic_en_neg h, ic_en_neg h]
      · have hne' : t' ≠ m := by
          intro y
          subst y
          exact ic_Tn_0 hm0 (by omega) e'
        rw [ic_en_pos e' ht', ic_en_pos e' ht', hS _ (by omega) (by omega)]
  have hlv : ∀ x, x < 36 → (0 < ic_Tn (upd F k0 (nI m)) x ↔ (0 < ic_Tn F x ∨ x = m)) := by
    intro x hx
    have h := ic_Tn_upd (F := F) (k := k0) (x := x) (v := nI m) hk
    by_cases y : x = m
    · subst y
      rw [if_neg (ic_Tn_0 hm0 hk), if_pos rfl] at h
      omega
    · rw [if_neg (c := nI m = nI x) (fun z => y ((nI_eq (by omega) (by omega)).mp z).symm)] at h
      by_cases w : F k0 = nI x
      · rw [if_pos w] at h
        rcases hne with n1 | ⟨t, ht, et, h2⟩
        · exact absurd (w.symm.trans n1) (ic_nIm1 (by omega))
        · have : x = t := (nI_eq (by omega) (by omega)).mp (w.symm.trans et)
          subst this
          omega
      · rw [if_neg w] at h
        omega
  refine ⟨⟨?_, ?_, hTU, ?_, ?_⟩, ?_, hen⟩
  · intro k hk'
    by_cases z : k = k0
    · subst z
      refine Or.inr ⟨m, hm, pk_us, fun j hj => ?_⟩
      rw [hS' j hj]
      exact ic_en_VE g1 (by omega)
    · rw [pk_un z]
      rcases g1 k hk' with h | ⟨t', ht', e', hv'⟩
      · exact Or.inl h
      · refine Or.inr ⟨t', ht', e', fun j hj => ?_⟩
        have hne' : t' ≠ m := by
          intro y
          subst y
          exact ic_Tn_0 hm0 hk' e'
        rw [hS _ (by omega) (by omega)]
        exact hv' j hj
  · intro k hk' z
    have : k ≠ k0 := fun y => hz (y ▸ z)
    rw [pk_un this]
    exact g2 k hk' z
  · refine ic_SC_congr hC fun i hi => ⟨?_, fun _ => rfl⟩
    show decide (0 < ic_Tn (upd F k0 (nI m)) (i / 4)) = (decide (0 < ic_Tn F (i / 4)) || decide (i / 4 = m))
    rw [Bool.eq_iff_iff]
    simp only [Bool.or_eq_true, decide_eq_true_eq]
    exact hlv _ (by omega)
  · intro i hi
    rw [hen i hi]
    exact g5 i hi
  · intro k hk' e
    refine Classical.byContradiction fun z => ?_
    rw [pk_un z] at e
    exact ic_Tn_0 hm0 hk' e
/-- a slot is cleared -/
theorem ic_G_clr {k : Nat} (G : ic_G A Z F S TU ST SU) (hk : k < 32) (hTU : ∀ x, x < 36 → TU' x = nI (ic_Tn (upd F k (-1)) x))
    (hC : ic_SC (ic_lv (upd F k (-1))) S SU') : ic_G (ic_cl A k) (fun x => x = k ∨ Z x) (upd F k (-1)) S TU' ST SU' := by
  obtain ⟨g1, g2, g3, g4, g5⟩ := G
  refine ⟨?_, ?_, hTU, hC, ?_⟩
  · intro k' hk'
    by_cases z : k' = k
    · subst z
      exact Or.inl pk_us
    · rw [pk_un z]
      exact g1 k' hk'
  · intro k' hk' z
    by_cases y : k' = k
    · subst y
      exact pk_us
    · rw [pk_un y]
      rcases z with z | z
      · exact absurd z y
      · exact g2 k' hk' z
  · intro i hi
    by_cases z : i / 4 = k
    · rw [ic_en_neg (by rw [z]; exact pk_us), ic_ab_m1]
      exact if_pos z
    · rw [ic_en_congr (F := F) (pk_un z), ← g5 i hi]
      exact if_neg z
/-- slot b, cleared before, shares the table of slot a -/
theorem ic_G_sl {a b : Nat} (G : ic_G A Z F S TU ST SU) (hb : b < 32) (ha : a < 32) (hab : a ≠ b) (hFb : F b = -1)
    (hTU : ∀ x, x < 36 → TU' x = nI (ic_Tn (upd F b (F a)) x)) : ic_G (ic_sl A b a) (fun x => x ≠ b ∧ Z x) (upd F b (F a)) S TU' ST SU := by
  obtain ⟨g1, g2, g3, g4, g5⟩ := G
  refine ⟨?_, ?_, hTU, ?_, ?_⟩
  · intro k' hk'
    by_cases z : k' = b
    · subst z
      rw [pk_us]
      exact g1 a ha
    · rw [pk_un z]
      exact g1 k' hk'
  · intro k' hk' z
    rw [pk_un z.1]
    exact g2 k' hk' z.2
  · refine ic_SC_congr g4 fun i hi => ⟨?_, fun _ => rfl⟩
    show decide (0 < ic_Tn (upd F b (F a)) (i / 4)) = decide (0 < ic_Tn F (i / 4))
    have h := ic_Tn_upd (F := F) (k := b) (x := i / 4) (v := F a) hb
    rw [if_neg (c := F b = nI (i / 4)) (fun z => ic_nIm1 (p := i / 4) (by omega) (z.symm.trans hFb))] at h
    rw [Bool.eq_iff_iff]
    simp only [decide_eq_true_eq]
    by_cases w : F a = nI (i / 4)
    · rw [if_pos w] at h
      have := ic_Tn_pos ha w
      omega
    · rw [if_neg w] at h
      omega
  · intro i hi
    by_cases z : i / 4 = b
    · have e : ic_sl A b a i = A (4 * a + i % 4) := if_pos z
      rw [e, g5 _ (by omega)]
      unfold ic_en
      rw [z, pk_us, show (4 * a + i % 4) / 4 = a by omega, show (4 * a + i % 4) % 4 = i % 4 by omega]
    · rw [ic_en_congr (F := F) (pk_un z), ← g5 i hi]
      exact if_neg z
/-- the table of slot a moves to slot b, which was cleared before -/
theorem ic_G_mv {a b : Nat} (G : ic_G A Z F S TU ST SU) (hb : b < 32) (ha : a < 32) (hab : a ≠ b) (hFb : F b = -1) :
    ic_G (ic_cl (ic_sl A b a) a) (fun x => x = a ∨ (x ≠ b ∧ Z x)) (upd (upd F b (F a)) a (-1)) S TU ST SU := by
  have G1 := ic_G_sl (TU' := fun x => nI (ic_Tn (upd F b (F a)) x)) G hb ha hab hFb (fun x _ => rfl)
  have hT : ∀ x, x < 36 → ic_Tn (upd (upd F b (F a)) a (-1)) x = ic_Tn F x := by
    intro x hx
    have h1 := ic_Tn_upd (F := F) (k := b) (x := x) (v := F a) hb
    have h2 := ic_Tn_upd (F := upd F b (F a)) (k := a) (x := x) (v := -1) ha
    rw [pk_un hab, if_neg (c := (-1 : Int32) = nI x) (fun z => ic_nIm1 (p := x) (by omega) z.symm)] at h2
    rw [if_neg (c := F b = nI x) (fun z => ic_nIm1 (p := x) (by omega) (z.symm.trans hFb))] at h1
    omega
  refine ic_G_clr G1 ha (fun x hx => ?_) (ic_SC_congr G.2.2.2.1 fun i hi => ⟨?_, fun _ => rfl⟩)
  · rw [hT x hx]
    exact G.2.2.1 x hx
  · show decide (0 < ic_Tn (upd (upd F b (F a)) a (-1)) (i / 4)) = decide (0 < ic_Tn F (i / 4))
    rw [hT _ (by omega)]
end
end
section
/-! X's inner methods over tables and places -/
theorem ic_ix : ∀ f, f < 8 → ∀ c, c < 16 → nI f * 4 + (nI c >>> ((2 : Int32) &&& 31)) = nI (4 * f + c / 4) := by decide +kernel
theorem ic_a3 : ∀ c, c < 16 → nI c &&& 3 = nI (c % 4) := by decide +kernel
theorem ic_q4 (t j : Nat) : nI t * 4 + nI j = nI (4 * t + j) := by
  have e : nI t * 4 = nI (t * 4) := pk_mul t 4
  rw [e, nI_add, Nat.mul_comm]
theorem ic_q16 (t j : Nat) : 16 * nI t + nI j = nI (16 * t + j) := by
  have e : 16 * nI t = nI (16 * t) := pk_mul 16 t
  rw [e, nI_add]

section
variable {A : Nat → Option Int32} {Z : Nat → Prop} {fi fs : Int32} {F S TU ST SU MK CP BF : Nat → Int32}

theorem ic_xft {post : Int32 → SX → Prop} (h : ∀ t, t < 36 → TU t = 0 → post (nI t) (fi, fs, F, S, upd TU t 1, ST, SU, MK, CP, BF)) :
    ∀ k t, k ≤ 36 → t < 36 → (TU t = 0 ∨ ∃ i, i < k ∧ TU i = 0) → wX_freshTable_5 post fi fs F S TU ST SU MK CP BF (k + 1) (nI t) (nI k + (-1)) := by
  intro k
  induction k with
  | zero =>
    intro t _ ht hz
    have hz' : TU t = 0 := by
      rcases hz with z | ⟨i, hi, _⟩
      · exact z
      · omega
    refine br_t (show nI 0 + (-1) < 0 by decide) ⟨vp_in_nI ht (by decide), nm_r (e' := upd TU t 1) (by rw [nI_clamp (by omega)]) ?_⟩
    exact h t ht hz'
  | succ k ih =>
    intro t hk ht hz
    rw [pk_m1]
    refine br_f (nI_pos (by omega)) ⟨vp_in_nI (by omega) (by decide), ?_⟩
    rw [nI_clamp (by omega)]
    by_cases z : TU k = 0
    · exact br_t z (nm_e (ih k (by omega) (by omega) (Or.inl z)))
    · refine br_f z (nm_e (ih t (by omega) ht ?_))
      rcases hz with z' | ⟨i, hi, zi⟩
      · exact Or.inl z'
      · by_cases e : i = k
        · exact absurd (e ▸ zi) z
        · exact Or.inr ⟨i, by omega, zi⟩
theorem ic_xfreshT {post : Int32 → SX → Prop} (hz : ∃ t, t < 36 ∧ TU t = 0)
    (h : ∀ t, t < 36 → TU t = 0 → post (nI t) (fi, fs, F, S, upd TU t 1, ST, SU, MK, CP, BF)) :
    wpX_freshTable post (fi, fs, F, S, TU, ST, SU, MK, CP, BF) := by
  obtain ⟨t, ht, z⟩ := hz
  have k := ic_xft h 36 0 (by omega) (by omega) (Or.inr ⟨t, ht, z⟩)
  rw [show nI 36 + (-1) = 35 by decide, nI_0] at k
  exact ⟨37, k⟩
theorem ic_xfp {post : Int32 → SX → Prop} {w : Int32} (h : ∀ p, p < 132 → SU p = 0 → post (nI p) (fi, fs, F, S, TU, upd ST p w, upd SU p 1, MK, CP, BF)) :
    ∀ k p, k ≤ 132 → p < 132 → (SU p = 0 ∨ ∃ i, i < k ∧ SU i = 0) → wX_freshPlace_6 post w fi fs F S TU ST SU MK CP BF (k + 1) (nI p) (nI k + (-1)) := by
  intro k
  induction k with
  | zero =>
    intro t _ ht hz
    have hz' : SU t = 0 := by
      rcases hz with z | ⟨i, hi, _⟩
      · exact z
      · omega
    refine br_t (show nI 0 + (-1) < 0 by decide) ⟨vp_in_nI ht (by decide), nm_r (e' := upd SU t 1) (by rw [nI_clamp (by omega)])
      ⟨vp_in_nI ht (by decide), nm_r (e' := upd ST t w) (by rw [nI_clamp (by omega)]) ?_⟩⟩
    exact h t ht hz'
  | succ k ih =>
    intro t hk ht hz
    rw [pk_m1]
    refine br_f (nI_pos (by omega)) ⟨vp_in_nI (by omega) (by decide), ?_⟩
    rw [nI_clamp (by omega)]
    by_cases z : SU k = 0
    · exact br_t z (nm_e (ih k (by omega) (by omega) (Or.inl z)))
    · refine br_f z (nm_e (ih t (by omega) ht ?_))
      rcases hz with z' | ⟨i, hi, zi⟩
      · exact Or.inl z'
      · by_cases e : i = k
        · exact absurd (e ▸ zi) z
        · exact Or.inr ⟨i, by omega, zi⟩
theorem ic_xfreshP {post : Int32 → SX → Prop} {w : Int32} (hz : ∃ t, t < 132 ∧ SU t = 0)
    (h : ∀ p, p < 132 → SU p = 0 → post (nI p) (fi, fs, F, S, TU, upd ST p w, upd SU p 1, MK, CP, BF)) :
    wpX_freshPlace post (fi, fs, F, S, TU, ST, SU, MK, CP, BF) w := by
  obtain ⟨t, ht, z⟩ := hz
  have k := ic_xfp h 132 0 (by omega) (by omega) (Or.inr ⟨t, ht, z⟩)
  rw [show nI 132 + (-1) = 131 by decide, nI_0] at k
  exact ⟨133, k⟩
theorem ic_xlp {post : SX → Prop} {L L' : Nat → Bool} {a : Nat} (hC : ic_SC L S SU) (ha : a < 144) (hL : L a = true) (hL' : L' a = false)
    (ho : ∀ i, i < 144 → i ≠ a → L' i = L i) (hv : ic_VE (S a)) (h : ∀ SU', ic_SC L' S SU' → post (fi, fs, F, S, TU, ST, SU', MK, CP, BF)) :
    wpX_leavePlace post (fi, fs, F, S, TU, ST, SU, MK, CP, BF) (S a) := by
  have ho' : ∀ i, i < 144 → i ≠ a → L' i = L i ∧ (L i = true → S i = S i) := fun i hi hne => ⟨ho i hi hne, fun _ => rfl⟩
  rcases hv with e | e | ⟨p, hp, e⟩
  · have hn : S a < 0 := by rw [e]; decide
    exact br_t hn (h _ (ic_SC_subN hC ha hL' ho' hn))
  · have hn : S a < 0 := by rw [e]; decide
    exact br_t hn (h _ (ic_SC_subN hC ha hL' ho' hn))
  · have k := h _ (ic_SC_subP hC ha hL hL' ho' e hp)
    rw [e]
    refine br_f (nI_pos (by omega)) ⟨vp_in_nI hp (by decide), vp_in_nI hp (by decide), nm_r (e' := upd SU p (SU p - 1)) (by rw [nI_clamp (by omega)]) ?_⟩
    exact k
theorem ic_xlt30 {post : SX → Prop} {t : Nat} {L0 : Nat → Bool} (ht : t < 36) (hL : ∀ j, j < 4 → L0 (4 * t + j) = true) (hv : ∀ j, j < 4 → ic_VE (S (4 * t + j)))
    (h : ∀ SU', ic_SC (fun i => L0 i && !decide (i / 4 = t)) S SU' → post (fi, fs, F, S, TU, ST, SU', MK, CP, BF)) :
    ∀ d j, j + d = 4 → ∀ SU, ic_SC (fun i => L0 i && !decide (i / 4 = t ∧ i % 4 < j)) S SU → wX_leaveTable_30 post (nI t) (d + 1) (nI j) fi fs F S TU ST SU MK CP BF := by
  intro d
  induction d with
  | zero =>
    intro j hj SU hC
    have e : j = 4 := by omega
    subst e
    refine br_t (show (4 : Int32) ≤ nI 4 by decide) (h SU (ic_SC_congr hC fun i hi => ⟨?_, fun _ => rfl⟩))
    show (L0 i && !decide (i / 4 = t)) = (L0 i && !decide (i / 4 = t ∧ i % 4 < 4))
    have : (i / 4 = t) ↔ (i / 4 = t ∧ i % 4 < 4) := by omega
    rw [decide_eq_decide.mpr this]
  | succ d ih =>
    intro j hj SU hC
    refine br_f (nI_ge (b := 4) (by omega) (by decide)) ⟨?_, ?_⟩
    · rw [ic_q4]
      exact vp_in_nI (by omega) (by decide)
    · rw [ic_q4, nI_clamp (by omega)]
      refine ic_xlp (a := 4 * t + j) (L' := fun i => L0 i && !decide (i / 4 = t ∧ i % 4 < j + 1)) hC (by omega) ?_ ?_ ?_ (hv j (by omega)) ?_
      · show (L0 (4 * t + j) && !decide ((4 * t + j) / 4 = t ∧ (4 * t + j) % 4 < j)) = true
        rw [hL j (by omega), decide_eq_false (by omega)]
        rfl
      · show (L0 (4 * t + j) && !decide ((4 * t + j) / 4 = t ∧ (4 * t + j) % 4 < j + 1)) = false
        rw [hL j (by omega), decide_eq_true (by omega)]
        rfl
      · intro i hi hne
        show (L0 i && !decide (i / 4 = t ∧ i % 4 < j + 1)) = (L0 i && !decide (i / 4 = t ∧ i % 4 < j))
        have : (i / 4 = t ∧ i % 4 < j + 1) ↔ (i / 4 = t ∧ i % 4 < j) := by omega
        rw [decide_eq_decide.mpr this]
      · intro SU' hC'
        exact nm_r (nI_1 j) (ih (j + 1) (by omega) SU' hC')
/-- leaving slot k's table: the slot counts as cleared from now on -/
theorem ic_xlt {post : SX → Prop} {k : Nat} (G : ic_G A Z F S TU ST SU) (hk : k < 32)
    (h : ∀ TU' SU', ic_G (ic_cl A k) (fun x => x = k ∨ Z x) (upd F k (-1)) S TU' ST SU' → post (fi, fs, F, S, TU', ST, SU', MK, CP, BF)) :
    wpX_leaveTable post (fi, fs, F, S, TU, ST, SU, MK, CP, BF) (F k) := by
  rcases G.1 k hk with e | ⟨t, ht, e, hv⟩
  · have eF : upd F k (-1) = F := by
      funext x
      by_cases z : x = k
      · rw [z, pk_us, e]
      · rw [pk_un z]
    have k1 := h TU SU (ic_G_clr (TU' := TU) (SU' := SU) G hk (by rw [eF]; exact G.2.2.1) (by rw [eF]; exact G.2.2.2.1))
    rw [e]
    exact br_f (by decide) k1
  · have hTn : ∀ x, x < 36 → ic_Tn (upd F k (-1)) x + (if F k = nI x then 1 else 0) = ic_Tn F x := by
      intro x hx
      have h1 := ic_Tn_upd (F := F) (k := k) (x := x) (v := -1) hk
      rw [if_neg (c := (-1 : Int32) = nI x) (fun z => ic_nIm1 (p := x) (by omega) z.symm)] at h1
      exact h1
    have hTt : ic_Tn (upd F k (-1)) t + 1 = ic_Tn F t := by
      have h1 := hTn t ht
      rw [if_pos e] at h1
      exact h1
    have hTx : ∀ x, x < 36 → x ≠ t → ic_Tn (upd F k (-1)) x = ic_Tn F x := by
      intro x hx hne
      have h1 := hTn x hx
      rw [if_neg (fun z => hne ((nI_eq (by omega) (by omega)).mp (z.symm.trans e)))] at h1
      exact h1
    have hTUt : upd TU t (TU t - 1) t = nI (ic_Tn (upd F k (-1)) t) := by
      rw [pk_us, G.2.2.1 t ht, ← hTt, nI_pred]
    have hTU : ∀ x, x < 36 → upd TU t (TU t - 1) x = nI (ic_Tn (upd F k (-1)) x) := by
      intro x hx
      by_cases z : x = t
      · rw [z]
        exact hTUt
      · rw [pk_un z, hTx x hx z]
        exact G.2.2.1 x hx
    have hle := ic_Tn_le (F := F) t
    have hlive : ∀ j, j < 4 → ic_lv F (4 * t + j) = true := fun j hj =>
      decide_eq_true (by rw [show (4 * t + j) / 4 = t by omega]; omega)
    rw [e]
    refine br_t (nI_pos' (by omega)) ⟨vp_in_nI ht (by decide), vp_in_nI ht (by decide), nm_r (e' := upd TU t (TU t - 1)) (by rw [nI_clamp (by omega)])
      ⟨vp_in_nI ht (by decide), ?_⟩⟩
    rw [nI_clamp (by omega)]
    by_cases z : ic_Tn (upd F k (-1)) t = 0
    · refine br_t (by rw [hTUt, z]; exact nI_0) ⟨5, ?_⟩
      refine ic_xlt30 (L0 := ic_lv F) ht hlive hv ?_ 4 0 rfl SU (ic_SC_congr G.2.2.2.1 fun i hi => ⟨?_, fun _ => rfl⟩)
      · intro SU' hC'
        refine h _ _ (ic_G_clr G hk hTU (ic_SC_congr hC' fun i hi => ⟨?_, fun _ => rfl⟩))
        show decide (0 < ic_Tn (upd F k (-1)) (i / 4)) = (decide (0 < ic_Tn F (i / 4)) && !decide (i / 4 = t))
        by_cases y : i / 4 = t
        · rw [y, z, decide_eq_true (p := t = t) rfl, Bool.not_true, Bool.and_false]
          rfl
        · rw [hTx _ (by omega) y, decide_eq_false y, Bool.not_false, Bool.and_true]
      · show (ic_lv F i && !decide (i / 4 = t ∧ i % 4 < 0)) = ic_lv F i
        rw [decide_eq_false (by omega), Bool.not_false, Bool.and_true]
    · refine br_f (by rw [hTUt]; exact nI_ne0 (by omega) (by omega)) (h _ _ (ic_G_clr G hk hTU (ic_SC_congr G.2.2.2.1 fun i hi => ⟨?_, fun _ => rfl⟩)))
      show decide (0 < ic_Tn (upd F k (-1)) (i / 4)) = decide (0 < ic_Tn F (i / 4))
      by_cases y : i / 4 = t
      · rw [y]
        exact decide_eq_decide.mpr ⟨fun _ => by omega, fun _ => by omega⟩
      · rw [hTx _ (by omega) y]
end
end
section
/-! X: ownTable -/
section
variable {A : Nat → Option Int32} {Z : Nat → Prop} {fi fs : Int32} {F S TU ST SU MK CP BF : Nat → Int32}

theorem ic_x71 {post : Int32 → SX → Prop}
    {J : Int32 → (Nat → Int32) → (Nat → Int32) → (Nat → Int32) → (Nat → Int32) → (Nat → Int32) → (Nat → Int32) → (Nat → Int32) → (Nat → Int32) → Prop}
    {x3 x4 z : Int32} {m j : Nat} {L L' : Nat → Bool} (hm : m < 36) (hj : j < 4) (hz : ic_VE z) (hC : ic_SC L S SU) (hL : L (4 * m + j) = false)
    (hL' : L' (4 * m + j) = true) (ho : ∀ i, i < 144 → i ≠ 4 * m + j → L' i = L i)
    (h : ∀ SU', ic_SC L' (upd S (4 * m + j) z) SU' → J (nI (j + 1)) F (upd S (4 * m + j) z) TU ST SU' MK CP BF) :
    wX_ownTable_71 post J x3 x4 (nI m) (nI j) z fi fs F S TU ST SU MK CP BF := by
  have ho' : ∀ i, i < 144 → i ≠ 4 * m + j → L' i = L i ∧ (L i = true → upd S (4 * m + j) z i = S i) := fun i hi hne => ⟨ho i hi hne, fun _ => pk_un hne⟩
  unfold wX_ownTable_71
  rw [ic_q4]
  refine ⟨vp_in_nI (by omega) (by decide), nm_r (e' := upd S (4 * m + j) z) (by rw [nI_clamp (by omega)]) ?_⟩
  rcases hz with e | e | ⟨p, hp, e⟩
  · have hn : z < 0 := by rw [e]; decide
    exact br_t hn (nm_r (nI_1 j) (h _ (ic_SC_addN hC (by omega) hL ho' (by rw [pk_us]; exact hn))))
  · have hn : z < 0 := by rw [e]; decide
    exact br_t hn (nm_r (nI_1 j) (h _ (ic_SC_addN hC (by omega) hL ho' (by rw [pk_us]; exact hn))))
  · subst e
    refine br_f (nI_pos (by omega)) ⟨vp_in_nI hp (by decide), vp_in_nI hp (by decide), nm_r (e' := upd SU p (SU p + 1)) (by rw [nI_clamp (by omega)])
      (nm_r (nI_1 j) (h _ (ic_SC_addP hC (by omega) hL hL' ho' pk_us hp)))⟩
theorem ic_x44 {post : Int32 → SX → Prop} {k0 m : Nat} {x4 : Int32} (G : ic_G A Z F S TU ST SU) (hk : k0 < 32) (hz : ¬ Z k0) (hm : m < 36) (hm0 : ic_Tn F m = 0)
    (hx : (x4 = -1 ∧ F k0 = -1) ∨ ∃ t, t < 36 ∧ x4 = nI t ∧ F k0 = nI t ∧ 2 ≤ ic_Tn F t)
    (h : ∀ F' S' TU' SU', ic_G A Z F' S' TU' ST SU' → F' k0 = nI m → (∀ k, k < 32 → F' k = nI m → k = k0) →
      (∀ i, i < 128 → ic_en F' S' i = ic_en F S i) → post (nI m) (fi, fs, F', S', TU', ST, SU', MK, CP, BF)) :
    ∀ d j, j + d = 4 → ∀ S' SU', (∀ i, i < 144 → i / 4 ≠ m → S' i = S i) → (∀ j', j' < j → S' (4 * m + j') = ic_en F S (4 * k0 + j')) →
      ic_SC (fun i => ic_lv F i || decide (i / 4 = m ∧ i % 4 < j)) S' SU' →
      wX_ownTable_44 post (nI k0) x4 (nI m) fi fs (d + 1) (nI j) F S' (upd TU m 1) ST SU' MK CP BF := by
  have hT := fun x => ic_Tn_upd (F := F) (k := k0) (x := x) (v := nI m) hk
  have hle := fun x => ic_Tn_le (F := F) x
  have hTm : ic_Tn (upd F k0 (nI m)) m = 1 := by
    have h1 := hT m
    rw [if_neg (ic_Tn_0 hm0 hk), if_pos rfl] at h1
    omega
  intro d
  induction d with
  | zero =>
    intro j hj S' SU' hS hS' hC
    have e : j = 4 := by omega
    subst e
    have fin : ∀ TU', (∀ x, x < 36 → TU' x = nI (ic_Tn (upd F k0 (nI m)) x)) → post (nI m) (fi, fs, upd F k0 (nI m), S', TU', ST, SU', MK, CP, BF) := by
      intro TU' hTU
      obtain ⟨g, u, en⟩ := ic_G_own (TU' := TU') (S' := S') (SU' := SU') G hk hz hm hm0
        (by
          rcases hx with ⟨_, y⟩ | ⟨t, ht, _, y, y2⟩
          · exact Or.inl y
          · exact Or.inr ⟨t, ht, y, y2⟩) hTU hS hS'
        (ic_SC_congr hC fun i hi => ⟨by
          show (ic_lv F i || decide (i / 4 = m)) = (ic_lv F i || decide (i / 4 = m ∧ i % 4 < 4))
          have : (i / 4 = m) ↔ (i / 4 = m ∧ i % 4 < 4) := by omega
          rw [decide_eq_decide.mpr this], fun _ => rfl⟩)
      exact h _ _ _ _ g pk_us u en
    refine br_t (show (4 : Int32) ≤ nI 4 by decide) ?_
    rcases hx with ⟨rfl, y⟩ | ⟨t, ht, rfl, y, y2⟩
    · refine br_f (by decide) ⟨vp_in_nI hk (by decide), nm_r (e' := upd F k0 (nI m)) (by rw [nI_clamp (by omega)]) (fin _ ?_)⟩
      intro x hx
      by_cases z : x = m
      · rw [z, pk_us, hTm]
        rfl
      · have h1 := hT x
        rw [if_neg (c := nI m = nI x) (fun w => z ((nI_eq (by omega) (by omega)).mp w).symm), if_neg (fun w => ic_nIm1 (p := x) (by omega) (w.symm.trans y))] at h1
        rw [pk_un z, G.2.2.1 x hx]
        exact congrArg nI (by omega)
    · have htm : t ≠ m := by
        intro w
        subst w
        omega
      have hTt : ic_Tn (upd F k0 (nI m)) t + 1 = ic_Tn F t := by
        have h1 := hT t
        rw [if_neg (c := nI m = nI t) (fun w => htm ((nI_eq (by omega) (by omega)).mp w).symm), if_pos y] at h1
        omega
      have hv : upd TU m 1 t - 1 = nI (ic_Tn (upd F k0 (nI m)) t) := by
        rw [pk_un htm, G.2.2.1 t ht, ← hTt, nI_pred]
      have hlt := hle t
      refine br_t (nI_pos' (by omega)) ⟨vp_in_nI ht (by decide), vp_in_nI ht (by decide),
        nm_r (e' := upd (upd TU m 1) t (upd TU m 1 t - 1)) (by rw [nI_clamp (by omega)]) ⟨vp_in_nI ht (by decide), ?_⟩⟩
      rw [nI_clamp (by omega)]
      refine br_f (by rw [pk_us, hv]; exact nI_ne0 (by omega) (by omega)) ⟨vp_in_nI hk (by decide), nm_r (e' := upd F k0 (nI m)) (by rw [nI_clamp (by omega)]) (fin _ ?_)⟩
      intro x hx
      by_cases w : x = t
      · rw [w, pk_us]
        exact hv
      · rw [pk_un w]
        by_cases z : x = m
        · rw [z, pk_us, hTm]
          rfl
        · have h1 := hT x
          rw [if_neg (c := nI m = nI x) (fun v => z ((nI_eq (by omega) (by omega)).mp v).symm), if_neg (fun v => w ((nI_eq (by omega) (by omega)).mp (v.symm.trans y)))] at h1
          rw [pk_un z, G.2.2.1 x hx]
          exact congrArg nI (by omega)
  | succ d ih =>
    intro j hj S' SU' hS hS' hC
    have hve : ic_VE (ic_en F S (4 * k0 + j)) := ic_en_VE G.1 (by omega)
    have H : wX_ownTable_71 post (wX_ownTable_44 post (nI k0) x4 (nI m) fi fs (d + 1)) (nI k0) x4 (nI m) (nI j) (ic_en F S (4 * k0 + j)) fi fs F S' (upd TU m 1) ST SU' MK CP BF := by
      refine ic_x71 (L' := fun i => ic_lv F i || decide (i / 4 = m ∧ i % 4 < j + 1)) hm (by omega) hve hC ?_ ?_ ?_ ?_
      · show (decide (0 < ic_Tn F ((4 * m + j) / 4)) || decide ((4 * m + j) / 4 = m ∧ (4 * m + j) % 4 < j)) = false
        rw [show (4 * m + j) / 4 = m by omega, hm0, decide_eq_false (by omega), decide_eq_false (by omega)]
        rfl
      · show (ic_lv F (4 * m + j) || decide ((4 * m + j) / 4 = m ∧ (4 * m + j) % 4 < j + 1)) = true
        rw [decide_eq_true (p := (4 * m + j) / 4 = m ∧ (4 * m + j) % 4 < j + 1) (by omega), Bool.or_true]
      · intro i hi hne
        show (ic_lv F i || decide (i / 4 = m ∧ i % 4 < j + 1)) = (ic_lv F i || decide (i / 4 = m ∧ i % 4 < j))
        have : (i / 4 = m ∧ i % 4 < j + 1) ↔ (i / 4 = m ∧ i % 4 < j) := by omega
        rw [decide_eq_decide.mpr this]
      · intro SU'' hC'
        refine ih (j + 1) (by omega) _ SU'' ?_ ?_ hC'
        · intro i hi hne
          rw [pk_un (by omega)]
          exact hS i hi hne
        · intro j' hj'
          by_cases z : j' = j
          · rw [z, pk_us]
          · rw [pk_un (by omega)]
            exact hS' j' (by omega)
    refine br_f (nI_ge (b := 4) (by omega) (by decide)) ?_
    rcases hx with ⟨rfl, y⟩ | ⟨t, ht, rfl, y, y2⟩
    · have e : ic_en F S (4 * k0 + j) = -1 := ic_en_neg (by rw [show (4 * k0 + j) / 4 = k0 by omega]; exact y)
      rw [e] at H
      exact br_f (by decide) H
    · have e : ic_en F S (4 * k0 + j) = S' (4 * t + j) := by
        rw [ic_en_pos (by rw [show (4 * k0 + j) / 4 = k0 by omega]; exact y) ht, show (4 * k0 + j) % 4 = j by omega]
        refine (hS _ (by omega) ?_).symm
        intro w
        have : t = m := by omega
        subst this
        omega
      rw [e] at H
      refine br_t (nI_pos' (by omega)) ?_
      rw [ic_q4, nI_clamp (by omega)]
      exact ⟨vp_in_nI (by omega) (by decide), H⟩
theorem ic_x35 {post : Int32 → SX → Prop} {k0 : Nat} {x4 : Int32} (G : ic_G A Z F S TU ST SU) (hk : k0 < 32) (hz : ¬ Z k0)
    (hx : (x4 = -1 ∧ F k0 = -1) ∨ ∃ t, t < 36 ∧ x4 = nI t ∧ F k0 = nI t ∧ 2 ≤ ic_Tn F t)
    (h : ∀ t F' S' TU' SU', t < 36 → ic_G A Z F' S' TU' ST SU' → F' k0 = nI t → (∀ k, k < 32 → F' k = nI t → k = k0) →
      (∀ i, i < 128 → ic_en F' S' i = ic_en F S i) → post (nI t) (fi, fs, F', S', TU', ST, SU', MK, CP, BF)) :
    wX_ownTable_35 post (nI k0) x4 fi fs F S TU ST SU MK CP BF := by
  unfold wX_ownTable_35
  refine ic_xfreshT (ic_freeT G.2.2.1) ?_
  intro m hm h0
  have hm0 : ic_Tn F m = 0 := by
    have h1 := G.2.2.1 m hm
    rw [h0] at h1
    have hle := ic_Tn_le (F := F) m
    exact ((nI_eq (a := 0) (by omega) (by omega)).mp h1).symm
  refine ⟨5, ?_⟩
  refine ic_x44 G hk hz hm hm0 hx (fun F' S' TU' SU' => h m F' S' TU' SU' hm) 4 0 rfl S SU (fun _ _ _ => rfl) (fun j' hj' => absurd hj' (Nat.not_lt_zero _))
    (ic_SC_congr G.2.2.2.1 fun i hi => ⟨?_, fun _ => rfl⟩)
  show (ic_lv F i || decide (i / 4 = m ∧ i % 4 < 0)) = ic_lv F i
  rw [decide_eq_false (by omega), Bool.or_false]
theorem ic_xown {post : Int32 → SX → Prop} {f c : Nat} (G : ic_G A Z F S TU ST SU) (hf : f < 8) (hc : c < 16) (hz : ¬ Z (4 * f + c / 4))
    (h : ∀ t F' S' TU' SU', t < 36 → ic_G A Z F' S' TU' ST SU' → F' (4 * f + c / 4) = nI t → (∀ k, k < 32 → F' k = nI t → k = 4 * f + c / 4) →
      (∀ i, i < 128 → ic_en F' S' i = ic_en F S i) → post (nI t) (fi, fs, F', S', TU', ST, SU', MK, CP, BF)) :
    wpX_ownTable post (fi, fs, F, S, TU, ST, SU, MK, CP, BF) (nI f) (nI c) := by
  have hk : 4 * f + c / 4 < 32 := by omega
  refine nm_r (ic_ix f hf c hc) ⟨vp_in_nI hk (by decide), nm_r (e' := F (4 * f + c / 4)) (by rw [nI_clamp (by omega)]) ?_⟩
  rcases G.1 _ hk with e | ⟨t, ht, e, hv⟩
  · refine br_t (by rw [e]; decide) ?_
    exact ic_x35 G hk hz (Or.inl ⟨e, e⟩) h
  · rw [e]
    refine br_f (nI_pos (by omega)) ⟨vp_in_nI ht (by decide), ?_⟩
    rw [nI_clamp (by omega)]
    have hle := ic_Tn_le (F := F) t
    have hp := ic_Tn_pos hk e
    by_cases z : TU t = 1
    · refine br_t z (h t F S TU SU ht G e ?_ (fun _ _ => rfl))
      rw [G.2.2.1 t ht] at z
      have z1 : ic_Tn F t = 1 := (nI_eq (b := 1) (by omega) (by omega)).mp z
      intro k hk' e'
      exact ic_Tn_one z1 hk' hk e' e
    · refine br_f z (ic_x35 G hk hz (Or.inr ⟨t, ht, rfl, e, ?_⟩) h)
      refine Nat.lt_of_le_of_ne hp fun y => z ?_
      rw [G.2.2.1 t ht, ← y]
      rfl
end
end
section
/-! X: entry, wordOf, say, sayNothing -/
section
variable {A : Nat → Option Int32} {Z : Nat → Prop} {fi fs : Int32} {F S TU ST SU MK CP BF : Nat → Int32}

theorem ic_xen {post : Int32 → Prop} {f c : Nat} (hF : ic_FV F S) (hf : f < 8) (hc : c < 16) (h : post (ic_en F S (16 * f + c))) :
    wpX_entry post (fi, fs, F, S, TU, ST, SU, MK, CP, BF) (nI f) (nI c) := by
  have e1 : (16 * f + c) / 4 = 4 * f + c / 4 := by omega
  have e2 : (16 * f + c) % 4 = c % 4 := by omega
  refine And.intro (by rw [ic_ix f hf c hc]; exact vp_in_nI (by omega) (by decide)) (nm_r (e' := F (4 * f + c / 4)) (by rw [ic_ix f hf c hc, nI_clamp (by omega)]) ?_)
  rcases hF (4 * f + c / 4) (by omega) with e | ⟨t, ht, e, hv⟩
  · rw [ic_en_neg (by rw [e1]; exact e)] at h
    rw [e]
    exact br_f (by decide) h
  · rw [ic_en_pos (t := t) (by rw [e1]; exact e) ht, e2] at h
    rw [e, ic_a3 c hc, ic_q4, nI_clamp (by omega)]
    exact br_t (nI_pos' (by omega)) ⟨vp_in_nI (by omega) (by decide), h⟩
theorem ic_xwo {post : Int32 → Prop} {x : Int32} (hv : ic_VE x) (h : post (ic_wd ST x)) : wpX_wordOf post (fi, fs, F, S, TU, ST, SU, MK, CP, BF) x := by
  rcases hv with e | e | ⟨p, hp, e⟩
  · subst e
    have e0 : ic_wd ST (-1) = 0 := if_pos (by decide)
    rw [e0] at h
    exact br_f (by decide) h
  · subst e
    have e0 : ic_wd ST (-2) = 0 := if_pos (by decide)
    rw [e0] at h
    exact br_f (by decide) h
  · subst e
    rw [ic_wd_p hp] at h
    refine br_t (nI_pos' (by omega)) ⟨vp_in_nI hp (by decide), ?_⟩
    rw [nI_clamp (by omega)]
    exact h
theorem ic_own_VE {k0 t : Nat} (hV : ic_FV F S) (hk : k0 < 32) (ht : t < 36) (hF : F k0 = nI t) : ∀ j, j < 4 → ic_VE (S (4 * t + j)) := by
  rcases hV k0 hk with e | ⟨t', ht', e, hv⟩
  · exact absurd (hF.symm.trans e) (ic_nIm1 (by omega))
  · have : t' = t := (nI_eq (by omega) (by omega)).mp (e.symm.trans hF)
    subst this
    exact hv
theorem ic_own_lv {k0 t : Nat} (hk : k0 < 32) (hF : F k0 = nI t) : ∀ j, j < 4 → ic_lv F (4 * t + j) = true := by
  intro j hj
  refine decide_eq_true ?_
  rw [show (4 * t + j) / 4 = t by omega]
  exact ic_Tn_pos hk hF
theorem ic_SC_0 {L : Nat → Bool} {p i : Nat} (hC : ic_SC L S SU) (hp : p < 132) (h0 : SU p = 0) (hi : i < 144) (hl : L i = true) : S i ≠ nI p := by
  intro e
  have h1 : 0 < ic_Sn L S p := by
    refine ic_cnt_pos (P := fun i => L i && decide (S i = nI p)) hi ?_
    show (L i && decide (S i = nI p)) = true
    rw [hl, decide_eq_true e]
    rfl
  have h2 := hC p hp
  rw [h0] at h2
  have hle := ic_Sn_le (L := L) (S := S) p
  have h3 := (nI_eq (a := 0) (by omega) (by omega)).mp h2
  omega
theorem ic_x56 {post : SX → Prop} {k0 t j : Nat} {w : Int32} (G : ic_G A Z F S TU ST SU) (hk : k0 < 32) (ht : t < 36) (hj : j < 4) (hF : F k0 = nI t)
    (hu : ∀ k, k < 32 → F k = nI t → k = k0)
    (h : ∀ S' ST' SU', ic_G (ic_uA A (4 * k0 + j) (some w)) Z F S' TU ST' SU' → post (fi, fs, F, S', TU, ST', SU', MK, CP, BF)) :
    wX_say_56 post w (nI (4 * t + j)) (S (4 * t + j)) fi fs F S TU ST SU MK CP BF := by
  have hva := ic_own_VE G.1 hk ht hF j hj
  have hla := ic_own_lv hk hF j hj
  have hLa : (ic_lv F (4 * t + j) && !decide (4 * t + j = 4 * t + j)) = false := by
    rw [decide_eq_true (p := 4 * t + j = 4 * t + j) rfl, Bool.not_true, Bool.and_false]
  have hLo : ∀ i, i < 144 → i ≠ 4 * t + j → (ic_lv F i && !decide (i = 4 * t + j)) = ic_lv F i := by
    intro i _ hne
    rw [decide_eq_false hne, Bool.not_false, Bool.and_true]
  unfold wX_say_56
  refine ic_xlp (a := 4 * t + j) (L' := fun i => ic_lv F i && !decide (i = 4 * t + j)) G.2.2.2.1 (by omega) hla hLa hLo hva ?_
  intro SU1 hC1
  by_cases hw : w = 0
  · subst hw
    refine br_t rfl ⟨vp_in_nI (by omega) (by decide), nm_r (e' := upd S (4 * t + j) (-2)) (by rw [nI_clamp (by omega)]) (h _ ST _ ?_)⟩
    have g := ic_G_put (ST' := ST) (SU' := SU1) (v := -2) G hk ht hj hF hu (Or.inr (Or.inl rfl))
      (ic_SC_addN (a := 4 * t + j) hC1 (by omega) hLa (fun i hi hne => ⟨(hLo i hi hne).symm, fun _ => pk_un hne⟩) (by rw [pk_us]; decide))
      (fun _ _ _ _ _ _ _ => rfl)
    rw [ic_ab_m2] at g
    exact g
  · refine br_f hw ?_
    refine ic_xfreshP (ic_freeP (F := F) hC1 ?_) ?_
    · intro i hi hl
      by_cases y : i = 4 * t + j
      · rw [y]
        exact hla
      · exact (hLo i hi y).symm.trans hl
    · intro p hp h0
      refine ⟨vp_in_nI (by omega) (by decide), nm_r (e' := upd S (4 * t + j) (nI p)) (by rw [nI_clamp (by omega)]) (h _ _ _ ?_)⟩
      have hC2 := ic_SC_addP (a := 4 * t + j) (q := p) (L' := ic_lv F) (S' := upd S (4 * t + j) (nI p)) hC1 (by omega) hLa hla
        (fun i hi hne => ⟨(hLo i hi hne).symm, fun _ => pk_un hne⟩) pk_us hp
      rw [h0, show (0 : Int32) + 1 = 1 by decide] at hC2
      have g := ic_G_put (ST' := upd ST p w) (v := nI p) G hk ht hj hF hu (Or.inr (Or.inr ⟨p, hp, rfl⟩)) hC2
        (fun i hi hne hl q hq e => pk_un (fun y => ic_SC_0 hC1 hp h0 hi ((hLo i hi hne).trans hl) (y ▸ e)))
      rw [ic_ab_p hp, pk_us] at g
      exact g
theorem ic_xsay {post : SX → Prop} {f c : Nat} {w : Int32} (G : ic_G A Z F S TU ST SU) (hf : f < 8) (hc : c < 16) (hz : ¬ Z (4 * f + c / 4))
    (h : ∀ F' S' TU' ST' SU', ic_G (ic_uA A (16 * f + c) (some w)) Z F' S' TU' ST' SU' → post (fi, fs, F', S', TU', ST', SU', MK, CP, BF)) :
    wpX_say post (fi, fs, F, S, TU, ST, SU, MK, CP, BF) (nI f) (nI c) w := by
  have ei : 4 * (4 * f + c / 4) + c % 4 = 16 * f + c := by omega
  unfold wpX_say
  refine ic_xown G hf hc hz ?_
  intro t F' S' TU' SU' ht G' hF' hu hen
  refine nm_r (e' := nI (4 * t + c % 4)) (by rw [ic_a3 c hc, ic_q4]) ⟨vp_in_nI (by omega) (by decide), nm_r (e' := S' (4 * t + c % 4)) (by rw [nI_clamp (by omega)]) ?_⟩
  have h56 : wX_say_56 post w (nI (4 * t + c % 4)) (S' (4 * t + c % 4)) fi fs F' S' TU' ST SU' MK CP BF :=
    ic_x56 G' (by omega) ht (by omega) hF' hu (fun S'' ST' SU'' g => h F' S'' TU' ST' SU'' (by rw [ei] at g; exact g))
  by_cases hw : w = 0
  · exact br_t hw h56
  · refine br_f hw ?_
    rcases ic_own_VE G'.1 (by omega) ht hF' (c % 4) (by omega) with e | e | ⟨p, hp, e⟩
    · exact br_t (by rw [e]; decide) h56
    · exact br_t (by rw [e]; decide) h56
    · rw [e] at h56
      rw [e]
      refine br_f (nI_pos (by omega)) ⟨vp_in_nI hp (by decide), ?_⟩
      rw [nI_clamp (by omega)]
      by_cases z : SU' p = 1
      · refine br_t z ⟨vp_in_nI hp (by decide), nm_r (e' := upd ST p w) rfl (h F' S' TU' (upd ST p w) SU' ?_)⟩
        have eS : upd S' (4 * t + c % 4) (nI p) = S' := by
          funext x
          by_cases y : x = 4 * t + c % 4
          · rw [y, pk_us, e]
          · rw [pk_un y]
        have hla := ic_own_lv (t := t) (show 4 * f + c / 4 < 32 by omega) hF' (c % 4) (by omega)
        have hone : ic_Sn (ic_lv F') S' p = 1 := by
          have h2 := G'.2.2.2.1 p hp
          rw [z] at h2
          have hle := ic_Sn_le (L := ic_lv F') (S := S') p
          exact ((nI_eq (a := 1) (by omega) (by omega)).mp h2).symm
        have g := ic_G_put (ST' := upd ST p w) (SU' := SU') (v := nI p) (j := c % 4) G' (by omega) ht (by omega) hF' hu (Or.inr (Or.inr ⟨p, hp, rfl⟩))
          (by rw [eS]; exact G'.2.2.2.1)
          (fun i hi hne hl q hq e' => pk_un (fun y => hne (by
            subst y
            refine ic_cnt_one (P := fun i => ic_lv F' i && decide (S' i = nI q)) hone hi (by omega) ?_ ?_
            · show (ic_lv F' i && decide (S' i = nI q)) = true
              rw [hl, decide_eq_true e']
              rfl
            · show (ic_lv F' (4 * t + c % 4) && decide (S' (4 * t + c % 4) = nI q)) = true
              rw [hla, decide_eq_true e]
              rfl)))
        rw [eS, ic_ab_p hp, pk_us, ei] at g
        exact g
      · exact br_f z h56
theorem ic_xsn {post : SX → Prop} {f c : Nat} (G : ic_G A Z F S TU ST SU) (hf : f < 8) (hc : c < 16) (hz : ¬ Z (4 * f + c / 4))
    (h : ∀ F' S' TU' SU', ic_G (ic_uA A (16 * f + c) none) Z F' S' TU' ST SU' → post (fi, fs, F', S', TU', ST, SU', MK, CP, BF)) :
    wpX_sayNothing post (fi, fs, F, S, TU, ST, SU, MK, CP, BF) (nI f) (nI c) := by
  have ei : 4 * (4 * f + c / 4) + c % 4 = 16 * f + c := by omega
  unfold wpX_sayNothing
  refine ic_xen G.1 hf hc ?_
  by_cases z : ic_en F S (16 * f + c) = -1
  · refine br_t z (h F S TU SU (ic_G_congr G ?_ (fun _ _ y => y)))
    intro i hi
    by_cases y : i = 16 * f + c
    · subst y
      rw [ic_uA_s, G.2.2.2.2 _ hi, z, ic_ab_m1]
    · rw [ic_uA_n y]
  · refine br_f z ?_
    refine ic_xown G hf hc hz ?_
    intro t F' S' TU' SU' ht G' hF' hu hen
    have ee : ic_en F S (16 * f + c) = S' (4 * t + c % 4) := by
      rw [← hen _ (by omega), ic_en_pos (t := t) (by rw [show (16 * f + c) / 4 = 4 * f + c / 4 by omega]; exact hF') ht, show (16 * f + c) % 4 = c % 4 by omega]
    rw [ee]
    have hla := ic_own_lv (t := t) (show 4 * f + c / 4 < 32 by omega) hF' (c % 4) (by omega)
    have hLa : (ic_lv F' (4 * t + c % 4) && !decide (4 * t + c % 4 = 4 * t + c % 4)) = false := by
      rw [decide_eq_true (p := 4 * t + c % 4 = 4 * t + c % 4) rfl, Bool.not_true, Bool.and_false]
    have hLo : ∀ i, i < 144 → i ≠ 4 * t + c % 4 → (ic_lv F' i && !decide (i = 4 * t + c % 4)) = ic_lv F' i := by
      intro i _ hne
      rw [decide_eq_false hne, Bool.not_false, Bool.and_true]
    refine ic_xlp (a := 4 * t + c % 4) (L' := fun i => ic_lv F' i && !decide (i = 4 * t + c % 4)) G'.2.2.2.1 (by omega) hla hLa hLo
      (ic_own_VE G'.1 (by omega) ht hF' (c % 4) (by omega)) ?_
    intro SU1 hC1
    refine ⟨by rw [ic_a3 c hc, ic_q4]; exact vp_in_nI (by omega) (by decide), nm_r (e' := upd S' (4 * t + c % 4) (-1)) (by rw [ic_a3 c hc, ic_q4, nI_clamp (by omega)]) (h _ _ _ _ ?_)⟩
    have g := ic_G_put (ST' := ST) (SU' := SU1) (v := -1) (j := c % 4) G' (by omega) ht (by omega) hF' hu (Or.inl rfl)
      (ic_SC_addN (a := 4 * t + c % 4) hC1 (by omega) hLa (fun i hi hne => ⟨(hLo i hi hne).symm, fun _ => pk_un hne⟩) (by rw [pk_us]; decide))
      (fun _ _ _ _ _ _ _ => rfl)
    rw [ic_ab_m1, ei] at g
    exact g
end
end
section
/-! X: clearTable, share, lookUp, word, keepWords, markChanges -/
def ic_lk (A : Nat → Option Int32) : Nat → Nat → Int32
  | 0, _ => 0
  | n + 1, c => (A (16 * n + c)).getD (ic_lk A n c)
theorem ic_lk_s (A : Nat → Option Int32) (n c : Nat) : ic_lk A (n + 1) c = (A (16 * n + c)).getD (ic_lk A n c) := rfl
theorem ic_lk_congr {A B : Nat → Option Int32} {c : Nat} : ∀ {n : Nat}, (∀ m, m < n → A (16 * m + c) = B (16 * m + c)) → ic_lk A n c = ic_lk B n c := by
  intro n
  induction n with
  | zero => intro _; rfl
  | succ n ih =>
    intro h
    rw [ic_lk_s, ic_lk_s, ih (fun m hm => h m (by omega)), h n (by omega)]
def ic_mk (D : Nat → Bool) (M : Nat → Int32) (k : Nat) : Nat → Int32 := fun i => if i < k ∧ D i = true then 1 else M i
def ic_df (w0 w1 : Nat → Int32) : Nat → Bool := fun i => decide (w0 i ≠ w1 i)
theorem ic_mk_0 (D : Nat → Bool) (M : Nat → Int32) : ic_mk D M 0 = M := by
  funext i
  exact if_neg (fun z => absurd z.1 (Nat.not_lt_zero _))
theorem ic_mk_t {D : Nat → Bool} {M : Nat → Int32} {k : Nat} (h : D k = true) : upd (ic_mk D M k) k 1 = ic_mk D M (k + 1) := by
  funext i
  unfold ic_mk
  by_cases z : i = k
  · subst z
    rw [pk_us, if_pos ⟨by omega, h⟩]
  · rw [pk_un z]
    by_cases y : i < k ∧ D i = true
    · rw [if_pos y, if_pos ⟨by omega, y.2⟩]
    · rw [if_neg y, if_neg (fun w => y ⟨by omega, w.2⟩)]
theorem ic_mk_f {D : Nat → Bool} {M : Nat → Int32} {k : Nat} (h : D k = false) : ic_mk D M (k + 1) = ic_mk D M k := by
  funext i
  unfold ic_mk
  by_cases y : i < k ∧ D i = true
  · rw [if_pos y, if_pos ⟨by omega, y.2⟩]
  · rw [if_neg y, if_neg]
    intro w
    by_cases z : i = k
    · subst z
      exact absurd (h.symm.trans w.2) Bool.false_ne_true
    · exact y ⟨by omega, w.2⟩
theorem ic_nb1 : vp_nar .boolean 1 = 1 := rfl
theorem ic_nb0 : vp_nar .boolean 0 = 0 := rfl
theorem ic_m2 : ∀ n, n < 4 → nI (n + 1) - 2 = nI n + (-1) := by decide +kernel

section
variable {A : Nat → Option Int32} {Z : Nat → Prop} {fi fs : Int32} {F S TU ST SU MK CP BF : Nat → Int32}

theorem ic_xclr2 {post : SX → Prop} {f : Nat} (hf : f < 8) : ∀ d j, j + d = 4 → ∀ (A : Nat → Option Int32) (Z : Nat → Prop) (F TU SU : Nat → Int32), ic_G A Z F S TU ST SU →
    (∀ F' TU' SU', ic_G (fun i => if 4 * f + j ≤ i / 4 ∧ i / 4 < 4 * f + 4 then none else A i) (fun x => (4 * f + j ≤ x ∧ x < 4 * f + 4) ∨ Z x) F' S TU' ST SU' →
      post (fi, fs, F', S, TU', ST, SU', MK, CP, BF)) →
    wX_clearTable_2 post (nI f) (d + 1) (nI j) fi fs F S TU ST SU MK CP BF := by
  intro d
  induction d with
  | zero =>
    intro j hj A Z F TU SU G h
    have e : j = 4 := by omega
    subst e
    refine br_t (show (4 : Int32) ≤ nI 4 by decide) (h F TU SU (ic_G_congr G ?_ ?_))
    · intro i hi
      exact if_neg (by omega)
    · intro k hk z
      rcases z with z | z
      · omega
      · exact z
  | succ d ih =>
    intro j hj A Z F TU SU G h
    refine br_f (nI_ge (b := 4) (by omega) (by decide)) ?_
    rw [ic_q4, nI_clamp (by omega)]
    refine ⟨vp_in_nI (by omega) (by decide), ?_⟩
    refine ic_xlt G (by omega) ?_
    intro TU' SU' G1
    refine ⟨vp_in_nI (by omega) (by decide), nm_r (e' := upd F (4 * f + j) (-1)) rfl (nm_r (nI_1 j) ?_)⟩
    refine ih (j + 1) (by omega) _ _ _ _ _ G1 ?_
    intro F' TU'' SU'' G2
    refine h F' TU'' SU'' (ic_G_congr G2 ?_ ?_)
    · intro i hi
      show (if 4 * f + j ≤ i / 4 ∧ i / 4 < 4 * f + 4 then none else A i) = (if 4 * f + (j + 1) ≤ i / 4 ∧ i / 4 < 4 * f + 4 then none else (if i / 4 = 4 * f + j then none else A i))
      by_cases y : i / 4 = 4 * f + j
      · rw [if_pos (by omega), if_neg (by omega), if_pos y]
      · rw [if_neg (c := i / 4 = 4 * f + j) y]
        by_cases w : 4 * f + j ≤ i / 4 ∧ i / 4 < 4 * f + 4
        · rw [if_pos w, if_pos (by omega)]
        · rw [if_neg w, if_neg (by omega)]
    · intro k hk z
      show (4 * f + (j + 1) ≤ k ∧ k < 4 * f + 4) ∨ (k = 4 * f + j ∨ Z k)
      rcases z with z | z
      · by_cases y : k = 4 * f + j
        · exact Or.inr (Or.inl y)
        · exact Or.inl (by omega)
      · exact Or.inr (Or.inr z)
theorem ic_xclr {post : SX → Prop} {f : Nat} (G : ic_G A Z F S TU ST SU) (hf : f < 8)
    (h : ∀ F' TU' SU', ic_G (fun i => if i / 16 = f then none else A i) (fun x => x / 4 = f ∨ Z x) F' S TU' ST SU' → post (fi, fs, F', S, TU', ST, SU', MK, CP, BF)) :
    wpX_clearTable post (fi, fs, F, S, TU, ST, SU, MK, CP, BF) (nI f) := by
  refine ⟨5, ic_xclr2 hf 4 0 rfl A Z F TU SU G ?_⟩
  intro F' TU' SU' g
  refine h F' TU' SU' (ic_G_congr g ?_ ?_)
  · intro i hi
    show (if i / 16 = f then none else A i) = (if 4 * f + 0 ≤ i / 4 ∧ i / 4 < 4 * f + 4 then none else A i)
    by_cases y : i / 16 = f
    · rw [if_pos y, if_pos (by omega)]
    · rw [if_neg y, if_neg (by omega)]
  · intro k hk z
    rcases z with z | z
    · exact Or.inl (by omega)
    · exact Or.inr z
theorem ic_xsh2 {post : SX → Prop} {f g : Nat} (hf : f < 8) (hg : g < 8) (hne : f ≠ g) : ∀ d j, j + d = 4 → ∀ (A : Nat → Option Int32) (Z : Nat → Prop) (F TU : Nat → Int32), ic_G A Z F S TU ST SU →
    (∀ j', j ≤ j' → j' < 4 → F (4 * f + j') = -1) →
    (∀ F' TU', ic_G (fun i => if 4 * f + j ≤ i / 4 ∧ i / 4 < 4 * f + 4 then A (16 * g + i % 16) else A i) (fun x => ¬ (4 * f + j ≤ x ∧ x < 4 * f + 4) ∧ Z x) F' S TU' ST SU →
      post (fi, fs, F', S, TU', ST, SU, MK, CP, BF)) →
    wX_share_2 post (nI f) (nI g) fi fs (d + 1) (nI j) F S TU ST SU MK CP BF := by
  intro d
  induction d with
  | zero =>
    intro j hj A Z F TU G hZ h
    have e : j = 4 := by omega
    subst e
    refine br_t (show (4 : Int32) ≤ nI 4 by decide) (h F TU (ic_G_congr G ?_ ?_))
    · intro i hi
      exact if_neg (by omega)
    · intro k hk z
      exact z.2
  | succ d ih =>
    intro j hj A Z F TU G hZ h
    have hb : F (4 * f + j) = -1 := hZ j (by omega) (by omega)
    have nxt : ∀ TU', (∀ x, x < 36 → TU' x = nI (ic_Tn (upd F (4 * f + j) (F (4 * g + j))) x)) →
        wX_share_40 post (wX_share_2 post (nI f) (nI g) fi fs (d + 1)) (nI f) (nI g) (nI j) (F (4 * g + j)) fi fs F S TU' ST SU MK CP BF := by
      intro TU' hTU
      have G1 := ic_G_sl G (b := 4 * f + j) (a := 4 * g + j) (by omega) (by omega) (by omega) hb hTU
      unfold wX_share_40
      rw [ic_q4]
      refine ⟨vp_in_nI (by omega) (by decide), nm_r (e' := upd F (4 * f + j) (F (4 * g + j))) (by rw [nI_clamp (by omega)]) (nm_r (nI_1 j) ?_)⟩
      refine ih (j + 1) (by omega) _ _ _ _ G1 ?_ ?_
      · intro j' h1 h2
        rw [pk_un (by omega)]
        exact hZ j' (by omega) h2
      · intro F' TU'' G2
        refine h F' TU'' (ic_G_congr G2 ?_ ?_)
        · intro i hi
          show (if 4 * f + j ≤ i / 4 ∧ i / 4 < 4 * f + 4 then A (16 * g + i % 16) else A i)
            = (if 4 * f + (j + 1) ≤ i / 4 ∧ i / 4 < 4 * f + 4 then (if (16 * g + i % 16) / 4 = 4 * f + j then A (4 * (4 * g + j) + (16 * g + i % 16) % 4) else A (16 * g + i % 16))
              else (if i / 4 = 4 * f + j then A (4 * (4 * g + j) + i % 4) else A i))
          by_cases y : i / 4 = 4 * f + j
          · rw [if_pos (by omega), if_neg (by omega), if_pos y]
            exact congrArg A (by omega)
          · rw [if_neg (c := i / 4 = 4 * f + j) y, if_neg (c := (16 * g + i % 16) / 4 = 4 * f + j) (by omega)]
            by_cases w : 4 * f + j ≤ i / 4 ∧ i / 4 < 4 * f + 4
            · rw [if_pos w, if_pos (by omega)]
            · rw [if_neg w, if_neg (by omega)]
        · intro k hk z
          have z1 : ¬ (4 * f + j ≤ k ∧ k < 4 * f + 4) := z.1
          refine ⟨by omega, ?_, z.2⟩
          show k ≠ 4 * f + j
          omega
    refine br_f (nI_ge (b := 4) (by omega) (by decide)) ?_
    rw [ic_q4, nI_clamp (by omega)]
    refine ⟨vp_in_nI (by omega) (by decide), nm_e ?_⟩
    have hT := fun x => ic_Tn_upd (F := F) (k := 4 * f + j) (x := x) (v := F (4 * g + j)) (by omega)
    have hT0 : ∀ x, x < 36 → ic_Tn (upd F (4 * f + j) (F (4 * g + j))) x = ic_Tn F x + (if F (4 * g + j) = nI x then 1 else 0) := by
      intro x hx
      have h1 := hT x
      rw [if_neg (c := F (4 * f + j) = nI x) (fun z => ic_nIm1 (p := x) (by omega) (z.symm.trans hb))] at h1
      exact h1
    rcases G.1 (4 * g + j) (by omega) with e | ⟨t, ht, e, hv⟩
    · refine br_t (by rw [e]; decide) (nxt TU ?_)
      intro x hx
      rw [hT0 x hx, if_neg (c := F (4 * g + j) = nI x) (fun z => ic_nIm1 (p := x) (by omega) (z.symm.trans e))]
      exact G.2.2.1 x hx
    · have k1 := nxt (upd TU t (TU t + 1)) (by
        intro x hx
        by_cases y : x = t
        · rw [y, pk_us, hT0 t ht, if_pos e, G.2.2.1 t ht, nI_1]
        · rw [pk_un y, hT0 x hx, if_neg (fun z => y ((nI_eq (by omega) (by omega)).mp (z.symm.trans e)))]
          exact G.2.2.1 x hx)
      rw [e] at k1
      rw [e]
      refine br_f (nI_pos (by omega)) ⟨vp_in_nI ht (by decide), vp_in_nI ht (by decide), nm_r (e' := upd TU t (TU t + 1)) (by rw [nI_clamp (by omega)]) ?_⟩
      exact k1
theorem ic_xsh {post : SX → Prop} {f g : Nat} (G : ic_G A Z F S TU ST SU) (hf : f < 8) (hg : g < 8) (hne : f ≠ g) (hz : ∀ k, k < 32 → k / 4 = f → Z k)
    (h : ∀ F' TU', ic_G (fun i => if i / 16 = f then A (16 * g + i % 16) else A i) (fun x => x / 4 ≠ f ∧ Z x) F' S TU' ST SU → post (fi, fs, F', S, TU', ST, SU, MK, CP, BF)) :
    wpX_share post (fi, fs, F, S, TU, ST, SU, MK, CP, BF) (nI f) (nI g) := by
  refine ⟨5, ic_xsh2 hf hg hne 4 0 rfl A Z F TU G (fun j' _ hj' => G.2.1 _ (by omega) (hz _ (by omega) (by omega))) ?_⟩
  intro F' TU' g1
  refine h F' TU' (ic_G_congr g1 ?_ ?_)
  · intro i hi
    show (if i / 16 = f then A (16 * g + i % 16) else A i) = (if 4 * f + 0 ≤ i / 4 ∧ i / 4 < 4 * f + 4 then A (16 * g + i % 16) else A i)
    by_cases y : i / 16 = f
    · rw [if_pos y, if_pos (by omega)]
    · rw [if_neg y, if_neg (by omega)]
  · intro k hk z
    have z1 : k / 4 ≠ f := z.1
    exact ⟨by omega, z.2⟩
theorem ic_ab_get0 (x : Int32) : (ic_ab ST x).getD 0 = ic_wd ST x := by
  by_cases z : x = -1
  · subst z
    rw [ic_ab_m1]
    exact (if_pos (by decide)).symm
  · rw [ic_ab_n z]
    rfl
theorem ic_xlk15 {post : Int32 → Prop} {c : Nat} (G : ic_G A Z F S TU ST SU) (hc : c < 16) : ∀ m e, m ≤ 4 → ic_VE e → post ((ic_ab ST e).getD (ic_lk A m c)) →
    wX_lookUp_15 post (nI c) fi fs F S TU ST SU MK CP BF (m + 1) e (nI m + (-1)) := by
  intro m
  induction m with
  | zero =>
    intro e _ hv h
    refine br_t (show nI 0 + (-1) < 0 by decide) ?_
    have h' : post ((ic_ab ST e).getD 0) := h
    rw [ic_ab_get0] at h'
    exact ic_xwo hv h'
  | succ m ih =>
    intro e hm hv h
    rw [pk_m1]
    refine br_f (nI_pos (by omega)) ?_
    by_cases z : e = -1
    · refine br_t z ?_
      refine ic_xen G.1 (by omega) hc ?_
      refine nm_e (ih _ (by omega) (ic_en_VE G.1 (by omega)) ?_)
      rw [← G.2.2.2.2 _ (by omega)]
      rw [z, ic_ab_m1] at h
      exact h
    · refine br_f z ?_
      rw [ic_ab_n z] at h
      exact ic_xwo hv h
theorem ic_xlk {post : Int32 → Prop} {n f c : Nat} (G : ic_G A Z F S TU ST SU) (hn : n < 4) (hf : f < 8) (hc : c < 16) (h : post ((A (16 * f + c)).getD (ic_lk A n c))) :
    wpX_lookUp post (nI (n + 1), fs, F, S, TU, ST, SU, MK, CP, BF) (nI f) (nI c) := by
  unfold wpX_lookUp
  refine ic_xen G.1 hf hc ?_
  refine nm_r (ic_m2 n hn) ⟨n + 1, ic_xlk15 G hc n _ (by omega) (ic_en_VE G.1 (by omega)) ?_⟩
  rw [← G.2.2.2.2 _ (by omega)]
  exact h
theorem ic_xtop {post : Int32 → Prop} {n : Nat} (h : post (nI n)) : wpX_top post (nI (n + 1), fs, F, S, TU, ST, SU, MK, CP, BF) := by
  show post (nI (n + 1) - 1)
  rw [nI_pred]
  exact h
theorem ic_xword {post : Int32 → Prop} {n c : Nat} (G : ic_G A Z F S TU ST SU) (hn : n < 4) (hc : c < 16) (h : post (ic_lk A (n + 1) c)) :
    wpX_word post (nI (n + 1), fs, F, S, TU, ST, SU, MK, CP, BF) (nI c) := by
  unfold wpX_word
  refine ic_xtop ?_
  exact ic_xlk G hn (by omega) hc h
theorem ic_xkw2 {post : SX → Prop} {n : Nat} (G : ic_G A Z F S TU ST SU) (hn : n < 4)
    (h : ∀ BF', (∀ i, i < 16 → BF' i = ic_lk A (n + 1) i) → post (nI (n + 1), fs, F, S, TU, ST, SU, MK, CP, BF')) :
    ∀ d j, j + d = 16 → ∀ BF, (∀ i, i < j → BF i = ic_lk A (n + 1) i) → wX_keepWords_2 post (nI (n + 1)) fs (d + 1) (nI j) F S TU ST SU MK CP BF := by
  intro d
  induction d with
  | zero =>
    intro j hj BF hB
    have e : j = 16 := by omega
    subst e
    exact br_t (show (16 : Int32) ≤ nI 16 by decide) (h BF hB)
  | succ d ih =>
    intro j hj BF hB
    refine br_f (nI_ge (b := 16) (by omega) (by decide)) ?_
    refine ic_xword G hn (by omega) ?_
    refine ⟨vp_in_nI (by omega) (by decide), nm_r (e' := upd BF j (ic_lk A (n + 1) j)) (by rw [nI_clamp (by omega)]) (nm_r (nI_1 j) (ih (j + 1) (by omega) _ ?_))⟩
    intro i hi
    by_cases z : i = j
    · rw [z, pk_us]
    · rw [pk_un z]
      exact hB i (by omega)
theorem ic_xkw {post : SX → Prop} {n : Nat} (G : ic_G A Z F S TU ST SU) (hn : n < 4)
    (h : ∀ BF', (∀ i, i < 16 → BF' i = ic_lk A (n + 1) i) → post (nI (n + 1), fs, F, S, TU, ST, SU, MK, CP, BF')) :
    wpX_keepWords post (nI (n + 1), fs, F, S, TU, ST, SU, MK, CP, BF) :=
  ⟨17, ic_xkw2 G hn h 16 0 rfl BF (fun i hi => absurd hi (Nat.not_lt_zero _))⟩
theorem ic_xmc4 {post : Int32 → SX → Prop} {n : Nat} {w0 w1 : Nat → Int32} (G : ic_G A Z F S TU ST SU) (hn : n < 4)
    (hb : ∀ i, i < 16 → BF i = w0 i) (hw : ∀ i, i < 16 → ic_lk A (n + 1) i = w1 i)
    (h : post (nI (ic_cnt (ic_df w0 w1) 16)) (nI (n + 1), fs, F, S, TU, ST, SU, ic_mk (ic_df w0 w1) MK 16, CP, BF)) :
    ∀ d j, j + d = 16 → wX_markChanges_4 post (nI (n + 1)) fs (d + 1) (nI (ic_cnt (ic_df w0 w1) j)) (nI j) F S TU ST SU (ic_mk (ic_df w0 w1) MK j) CP BF := by
  intro d
  induction d with
  | zero =>
    intro j hj
    have e : j = 16 := by omega
    subst e
    exact br_t (show (16 : Int32) ≤ nI 16 by decide) h
  | succ d ih =>
    intro j hj
    have k := ih (j + 1) (by omega)
    refine br_f (nI_ge (b := 16) (by omega) (by decide)) ?_
    refine ic_xword G hn (by omega) ?_
    refine ⟨vp_in_nI (by omega) (by decide), ?_⟩
    rw [nI_clamp (by omega), hw j (by omega), hb j (by omega)]
    by_cases z : w1 j = w0 j
    · have hD : ic_df w0 w1 j = false := decide_eq_false (fun y => y z.symm)
      rw [ic_mk_f hD, ic_cnt_s, hD] at k
      exact br_t z (nm_r (nI_1 j) k)
    · have hD : ic_df w0 w1 j = true := decide_eq_true (fun y => z y.symm)
      rw [← ic_mk_t hD, ic_cnt_s, if_pos hD] at k
      exact br_f z ⟨vp_in_nI (by omega) (by decide), nm_e (nm_r (nI_1 _) (nm_r (nI_1 j) k))⟩
theorem ic_xmc {post : Int32 → SX → Prop} {n : Nat} {w0 w1 : Nat → Int32} (G : ic_G A Z F S TU ST SU) (hn : n < 4)
    (hb : ∀ i, i < 16 → BF i = w0 i) (hw : ∀ i, i < 16 → ic_lk A (n + 1) i = w1 i)
    (h : post (nI (ic_cnt (ic_df w0 w1) 16)) (nI (n + 1), fs, F, S, TU, ST, SU, ic_mk (ic_df w0 w1) MK 16, CP, BF)) :
    wpX_markChanges post (nI (n + 1), fs, F, S, TU, ST, SU, MK, CP, BF) := by
  have k := ic_xmc4 G hn hb hw h 16 0 rfl
  rw [ic_mk_0] at k
  exact ⟨17, k⟩
end
end
section
/-! Y: its lists, and its inner methods -/
def ic_RB (B : Nat → Option Int32) (sy wo : Nat → Int32) : Prop := ∀ i, i < 128 → (sy i = 0 ∧ B i = none) ∨ (sy i = 1 ∧ B i = some (wo i))
section
variable {B : Nat → Option Int32} {ln tk : Int32} {sy wo ma sa bf : Nat → Int32}

theorem ic_RB_congr {B' : Nat → Option Int32} (R : ic_RB B sy wo) (h : ∀ i, i < 128 → B' i = B i) : ic_RB B' sy wo := by
  intro i hi
  rw [h i hi]
  exact R i hi
theorem ic_RB_1 {i : Nat} {w : Int32} (R : ic_RB B sy wo) : ic_RB (ic_uA B i (some w)) (upd sy i 1) (upd wo i w) := by
  intro j hj
  by_cases z : j = i
  · subst z
    rw [pk_us, ic_uA_s, pk_us]
    exact Or.inr ⟨rfl, rfl⟩
  · rw [pk_un z, ic_uA_n z, pk_un z]
    exact R j hj
theorem ic_RB_0 {i : Nat} (R : ic_RB B sy wo) : ic_RB (ic_uA B i none) (upd sy i 0) wo := by
  intro j hj
  by_cases z : j = i
  · subst z
    rw [pk_us, ic_uA_s]
    exact Or.inl ⟨rfl, rfl⟩
  · rw [pk_un z, ic_uA_n z]
    exact R j hj
theorem ic_RB_cp {i a : Nat} (R : ic_RB B sy wo) (ha : a < 128) : ic_RB (ic_uA B i (B a)) (upd sy i (vp_nar .boolean (sy a))) (upd wo i (wo a)) := by
  intro j hj
  by_cases z : j = i
  · subst z
    rw [pk_us, ic_uA_s, pk_us]
    rcases R a ha with ⟨e, e'⟩ | ⟨e, e'⟩
    · rw [e, e']
      exact Or.inl ⟨rfl, rfl⟩
    · rw [e, e']
      exact Or.inr ⟨rfl, rfl⟩
  · rw [pk_un z, ic_uA_n z, pk_un z]
    exact R j hj
theorem ic_ywi4 {post : Int32 → Prop} {c : Nat} (R : ic_RB B sy wo) (hc : c < 16) : ∀ m, m ≤ 8 → post (ic_lk B m c) →
    wY_wordIn_4 post (nI c) ln tk sy wo ma sa bf (m + 1) (nI m + (-1)) := by
  intro m
  induction m with
  | zero =>
    intro _ h
    exact br_t (show nI 0 + (-1) < 0 by decide) h
  | succ m ih =>
    intro hm h
    rw [pk_m1]
    refine br_f (nI_pos (by omega)) ?_
    rw [ic_q16, nI_clamp (by omega)]
    refine ⟨vp_in_nI (by omega) (by decide), ?_⟩
    rw [ic_lk_s] at h
    rcases R (16 * m + c) (by omega) with ⟨e, e'⟩ | ⟨e, e'⟩
    · rw [e'] at h
      exact br_t e (nm_e (ih (by omega) h))
    · rw [e'] at h
      exact br_f (by rw [e]; decide) ⟨vp_in_nI (by omega) (by decide), h⟩
theorem ic_ywi {post : Int32 → Prop} {m c : Nat} (R : ic_RB B sy wo) (hm : m ≤ 8) (hc : c < 16) (h : post (ic_lk B m c)) :
    wpY_wordIn post (ln, tk, sy, wo, ma, sa, bf) (nI m) (nI c) := by
  refine nm_r (Int32.sub_eq_add_neg (nI m) 1) ⟨m + 1, ?_⟩
  exact ic_ywi4 R hc m hm h
theorem ic_ynw2 {post : SY → Prop} {m : Nat} (R : ic_RB B sy wo) (hm : m ≤ 8)
    (h : ∀ bf', (∀ i, i < 16 → bf' i = ic_lk B m i) → post (nI m, tk, sy, wo, ma, sa, bf')) :
    ∀ d j, j + d = 16 → ∀ bf, (∀ i, i < j → bf i = ic_lk B m i) → wY_noteWords_2 post (nI m) tk (d + 1) (nI j) sy wo ma sa bf := by
  intro d
  induction d with
  | zero =>
    intro j hj bf hB
    have e : j = 16 := by omega
    subst e
    exact br_t (show (16 : Int32) ≤ nI 16 by decide) (h bf hB)
  | succ d ih =>
    intro j hj bf hB
    refine br_f (nI_ge (b := 16) (by omega) (by decide)) ?_
    refine ic_ywi R hm (by omega) ?_
    refine ⟨vp_in_nI (by omega) (by decide), nm_r (e' := upd bf j (ic_lk B m j)) (by rw [nI_clamp (by omega)]) (nm_r (nI_1 j) (ih (j + 1) (by omega) _ ?_))⟩
    intro i hi
    by_cases z : i = j
    · rw [z, pk_us]
    · rw [pk_un z]
      exact hB i (by omega)
theorem ic_ynw {post : SY → Prop} {m : Nat} (R : ic_RB B sy wo) (hm : m ≤ 8)
    (h : ∀ bf', (∀ i, i < 16 → bf' i = ic_lk B m i) → post (nI m, tk, sy, wo, ma, sa, bf')) :
    wpY_noteWords post (nI m, tk, sy, wo, ma, sa, bf) :=
  ⟨17, ic_ynw2 R hm h 16 0 rfl bf (fun i hi => absurd hi (Nat.not_lt_zero _))⟩
theorem ic_ymc4 {post : Int32 → SY → Prop} {m : Nat} {w0 w1 : Nat → Int32} (R : ic_RB B sy wo) (hm : m ≤ 8)
    (hb : ∀ i, i < 16 → bf i = w0 i) (hw : ∀ i, i < 16 → ic_lk B m i = w1 i)
    (h : post (nI (ic_cnt (ic_df w0 w1) 16)) (nI m, tk, sy, wo, ic_mk (ic_df w0 w1) ma 16, sa, bf)) :
    ∀ d j, j + d = 16 → wY_markChanges_4 post (nI m) tk (d + 1) (nI (ic_cnt (ic_df w0 w1) j)) (nI j) sy wo (ic_mk (ic_df w0 w1) ma j) sa bf := by
  intro d
  induction d with
  | zero =>
    intro j hj
    have e : j = 16 := by omega
    subst e
    exact br_t (show (16 : Int32) ≤ nI 16 by decide) h
  | succ d ih =>
    intro j hj
    have k := ih (j + 1) (by omega)
    refine br_f (nI_ge (b := 16) (by omega) (by decide)) ⟨vp_in_nI (by omega) (by decide), ?_⟩
    refine ic_ywi R hm (by omega) ?_
    rw [nI_clamp (by omega), hw j (by omega), hb j (by omega)]
    by_cases z : w0 j = w1 j
    · have hD : ic_df w0 w1 j = false := decide_eq_false (fun y => y z)
      rw [ic_mk_f hD, ic_cnt_s, hD] at k
      exact br_t z (nm_r (nI_1 j) k)
    · have hD : ic_df w0 w1 j = true := decide_eq_true z
      rw [← ic_mk_t hD, ic_cnt_s, if_pos hD] at k
      exact br_f z ⟨vp_in_nI (by omega) (by decide), nm_e (nm_r (nI_1 _) (nm_r (nI_1 j) k))⟩
theorem ic_ymc {post : Int32 → SY → Prop} {m : Nat} {w0 w1 : Nat → Int32} (R : ic_RB B sy wo) (hm : m ≤ 8)
    (hb : ∀ i, i < 16 → bf i = w0 i) (hw : ∀ i, i < 16 → ic_lk B m i = w1 i)
    (h : post (nI (ic_cnt (ic_df w0 w1) 16)) (nI m, tk, sy, wo, ic_mk (ic_df w0 w1) ma 16, sa, bf)) :
    wpY_markChanges post (nI m, tk, sy, wo, ma, sa, bf) := by
  have k := ic_ymc4 R hm hb hw h 16 0 rfl
  rw [ic_mk_0] at k
  exact ⟨17, k⟩
theorem ic_ycl2 {post : SY → Prop} {f g : Nat} (hf : f < 8) (hg : g < 8) (hne : f ≠ g) : ∀ d j, j + d = 16 → ∀ (B : Nat → Option Int32) (sy wo : Nat → Int32), ic_RB B sy wo →
    (∀ sy' wo', ic_RB (fun i => if 16 * f + j ≤ i ∧ i < 16 * f + 16 then B (16 * g + i % 16) else B i) sy' wo' → post (ln, tk, sy', wo', ma, sa, bf)) →
    wY_copyList_2 post (nI g) (nI f) ln tk (d + 1) (nI j) sy wo ma sa bf := by
  intro d
  induction d with
  | zero =>
    intro j hj B sy wo R h
    have e : j = 16 := by omega
    subst e
    refine br_t (show (16 : Int32) ≤ nI 16 by decide) (h sy wo (ic_RB_congr R ?_))
    intro i hi
    exact if_neg (by omega)
  | succ d ih =>
    intro j hj B sy wo R h
    refine br_f (nI_ge (b := 16) (by omega) (by decide)) ?_
    rw [ic_q16, ic_q16, nI_clamp (n := 16 * g + j) (by omega), nI_clamp (n := 16 * f + j) (by omega)]
    refine ⟨vp_in_nI (by omega) (by decide), vp_in_nI (by omega) (by decide), nm_e ⟨vp_in_nI (by omega) (by decide), vp_in_nI (by omega) (by decide), nm_e (nm_r (nI_1 j) ?_)⟩⟩
    refine ih (j + 1) (by omega) _ _ _ (ic_RB_cp R (i := 16 * f + j) (a := 16 * g + j) (by omega)) ?_
    intro sy' wo' R'
    refine h sy' wo' (ic_RB_congr R' ?_)
    intro i hi
    show (if 16 * f + j ≤ i ∧ i < 16 * f + 16 then B (16 * g + i % 16) else B i)
      = (if 16 * f + (j + 1) ≤ i ∧ i < 16 * f + 16 then (if 16 * g + i % 16 = 16 * f + j then B (16 * g + j) else B (16 * g + i % 16)) else (if i = 16 * f + j then B (16 * g + j) else B i))
    by_cases y : i = 16 * f + j
    · rw [if_pos (by omega), if_neg (by omega), if_pos y]
      exact congrArg B (by omega)
    · rw [if_neg (c := i = 16 * f + j) y, if_neg (c := 16 * g + i % 16 = 16 * f + j) (by omega)]
      by_cases w : 16 * f + j ≤ i ∧ i < 16 * f + 16
      · rw [if_pos w, if_pos (by omega)]
      · rw [if_neg w, if_neg (by omega)]
theorem ic_ycl {post : SY → Prop} {f g : Nat} (R : ic_RB B sy wo) (hf : f < 8) (hg : g < 8) (hne : f ≠ g)
    (h : ∀ sy' wo', ic_RB (fun i => if i / 16 = f then B (16 * g + i % 16) else B i) sy' wo' → post (ln, tk, sy', wo', ma, sa, bf)) :
    wpY_copyList post (ln, tk, sy, wo, ma, sa, bf) (nI g) (nI f) := by
  refine ⟨17, ic_ycl2 hf hg hne 16 0 rfl B sy wo R ?_⟩
  intro sy' wo' R'
  refine h sy' wo' (ic_RB_congr R' ?_)
  intro i hi
  show (if i / 16 = f then B (16 * g + i % 16) else B i) = (if 16 * f + 0 ≤ i ∧ i < 16 * f + 16 then B (16 * g + i % 16) else B i)
  by_cases y : i / 16 = f
  · rw [if_pos y, if_pos (by omega)]
  · rw [if_neg y, if_neg (by omega)]
theorem ic_ycs4 {post : Int32 → Prop} {f : Nat} (R : ic_RB B sy wo) (hf : f < 8) (h : post (nI (ic_cnt (fun c => (B (16 * f + c)).isSome) 16))) :
    ∀ d j, j + d = 16 → wY_countSaid_4 post (nI f) ln tk sy wo ma sa bf (d + 1) (nI (ic_cnt (fun c => (B (16 * f + c)).isSome) j)) (nI j) := by
  intro d
  induction d with
  | zero =>
    intro j hj
    have e : j = 16 := by omega
    subst e
    exact br_t (show (16 : Int32) ≤ nI 16 by decide) h
  | succ d ih =>
    intro j hj
    have k := ih (j + 1) (by omega)
    refine br_f (nI_ge (b := 16) (by omega) (by decide)) ?_
    rw [ic_q16, nI_clamp (n := 16 * f + j) (by omega)]
    refine ⟨vp_in_nI (by omega) (by decide), ?_⟩
    rcases R (16 * f + j) (by omega) with ⟨e, e'⟩ | ⟨e, e'⟩
    · rw [ic_cnt_s, e'] at k
      exact br_t e (nm_r (nI_1 j) k)
    · rw [ic_cnt_s, e'] at k
      exact br_f (by rw [e]; decide) (nm_r (nI_1 _) (nm_r (nI_1 j) k))
theorem ic_ycs {post : Int32 → Prop} {f : Nat} (R : ic_RB B sy wo) (hf : f < 8) (h : post (nI (ic_cnt (fun c => (B (16 * f + c)).isSome) 16))) :
    wpY_countSaid post (ln, tk, sy, wo, ma, sa, bf) (nI f) :=
  ⟨17, ic_ycs4 R hf h 16 0 rfl⟩
end
end
section
/-! the relation; arguments -/
def ic_Z (n s : Nat) : Nat → Prop := fun k => (n < k / 4 ∧ k / 4 < 4) ∨ 4 + s ≤ k / 4
def ic_AB (n s : Nat) (A B : Nat → Option Int32) : Prop := ∀ i, i < 128 → ¬ ic_Z n s (i / 4) → A i = B i
def ic_MC (n : Nat) (A : Nat → Option Int32) (M C : Nat → Int32) : Prop := ∀ c, c < 16 → M c = 0 → C c = ic_lk A (n + 1) c
def ic_R (n s : Nat) (F S TU ST SU M C sy wo : Nat → Int32) : Prop := ∃ A B : Nat → Option Int32,
  n < 4 ∧ s ≤ 4 ∧ ic_G A (ic_Z n s) F S TU ST SU ∧ ic_RB B sy wo ∧ ic_AB n s A B ∧ ic_MC n A M C
/-- the relation at the head of a turn: n + 1 images, s snapshots; X's arrays say what Y's lists say, wherever a list is in use -/
def i_Rel (k : Nat) (u : SX) (v : SY) : Prop := ∃ (n s : Nat) (F S TU ST SU M C bx sy wo b : Nat → Int32),
  u = (nI (n + 1), nI s, F, S, TU, ST, SU, M, C, bx) ∧ v = (nI (n + 1), nI s, sy, wo, M, C, b) ∧ ic_R n s F S TU ST SU M C sy wo
theorem i_up {k : Nat} {u : SX} {v : SY} (h : i_Rel k u v) : i_Rel (k + 4) u v := h
theorem ic_el {P : SX → SY → Prop} {k : Nat} {u : SX} {v : SY} (I : i_Rel k u v)
    (h : ∀ (n s : Nat) (F S TU ST SU M C bx sy wo b : Nat → Int32) (A B : Nat → Option Int32), n < 4 → s ≤ 4 → ic_G A (ic_Z n s) F S TU ST SU → ic_RB B sy wo → ic_AB n s A B → ic_MC n A M C →
      i_Rel (k + 4) (nI (n + 1), nI s, F, S, TU, ST, SU, M, C, bx) (nI (n + 1), nI s, sy, wo, M, C, b) →
      P (nI (n + 1), nI s, F, S, TU, ST, SU, M, C, bx) (nI (n + 1), nI s, sy, wo, M, C, b)) : P u v := by
  obtain ⟨n, s, F, S, TU, ST, SU, M, C, bx, sy, wo, b, rfl, rfl, A, B, h1, h2, h3, h4, h5, h6⟩ := I
  exact h n s F S TU ST SU M C bx sy wo b A B h1 h2 h3 h4 h5 h6 ⟨n, s, F, S, TU, ST, SU, M, C, bx, sy, wo, b, rfl, rfl, A, B, h1, h2, h3, h4, h5, h6⟩
theorem ic_in {k n s : Nat} {F S TU ST SU M C bx sy wo b : Nat → Int32} {A B : Nat → Option Int32} (h1 : n < 4) (h2 : s ≤ 4) (h3 : ic_G A (ic_Z n s) F S TU ST SU)
    (h4 : ic_RB B sy wo) (h5 : ic_AB n s A B) (h6 : ic_MC n A M C) :
    i_Rel k (nI (n + 1), nI s, F, S, TU, ST, SU, M, C, bx) (nI (n + 1), nI s, sy, wo, M, C, b) :=
  ⟨n, s, F, S, TU, ST, SU, M, C, bx, sy, wo, b, rfl, rfl, A, B, h1, h2, h3, h4, h5, h6⟩
theorem ic_nZ {n s m c : Nat} (hm : m ≤ n) (hn : n < 4) (hc : c < 16) : ¬ ic_Z n s ((16 * m + c) / 4) := by
  show ¬ ((n < (16 * m + c) / 4 / 4 ∧ (16 * m + c) / 4 / 4 < 4) ∨ 4 + s ≤ (16 * m + c) / 4 / 4)
  omega
theorem ic_nZs {n s t c : Nat} (ht : t < s) (hc : c < 16) : ¬ ic_Z n s ((16 * (4 + t) + c) / 4) := by
  show ¬ ((n < (16 * (4 + t) + c) / 4 / 4 ∧ (16 * (4 + t) + c) / 4 / 4 < 4) ∨ 4 + s ≤ (16 * (4 + t) + c) / 4 / 4)
  omega
theorem ic_lkAB {n s : Nat} {A B : Nat → Option Int32} (h : ic_AB n s A B) (hn : n < 4) {m c : Nat} (hm : m ≤ n + 1) (hc : c < 16) : ic_lk A m c = ic_lk B m c :=
  ic_lk_congr (fun m' hm' => h _ (by omega) (ic_nZ (by omega) hn hc))
theorem ic_G_none {A : Nat → Option Int32} {Z : Nat → Prop} {F S TU ST SU : Nat → Int32} {i : Nat} (G : ic_G A Z F S TU ST SU) (hi : i < 128) (hz : Z (i / 4)) : A i = none := by
  rw [G.2.2.2.2 i hi, ic_en_neg (G.2.1 _ (by omega) hz), ic_ab_m1]
theorem ic_4p (t : Nat) : 4 + nI t = nI (4 + t) := nI_add 4 t
theorem ic_c16 (v : Int32) : (v < 0 ∨ nI 16 ≤ v) ∨ ∃ c : Nat, c < 16 ∧ v = nI c := by
  rcases pk_ix v (n := 16) (by decide) with h | h | h
  · exact Or.inl (Or.inl h)
  · exact Or.inl (Or.inr h)
  · exact Or.inr h
theorem ic_cs (v : Int32) {s : Nat} (hs : s ≤ 4) : (v < 0 ∨ nI s ≤ v) ∨ ∃ c : Nat, c < s ∧ v = nI c := by
  rcases pk_ix v (n := s) (by omega) with h | h | h
  · exact Or.inl (Or.inl h)
  · exact Or.inl (Or.inr h)
  · exact Or.inr h
theorem ic_n0 {v : Int32} {s : Nat} (hs : s ≤ 16) (h : nI s ≤ v) : ¬ v < 0 := by
  rw [Int32.le_iff_toInt_le, nI_toInt (by omega)] at h
  rw [Int32.lt_iff_toInt_lt, show (0 : Int32).toInt = 0 by decide]
  omega
section
variable {fi fs : Int32} {F S TU ST SU MK CP BF : Nat → Int32} {ln tk : Int32} {sy wo ma sa bf : Nat → Int32}
theorem ic_xbad_ok {post : Int32 → Prop} {c : Nat} (hc : c < 16) (h : post 0) : wpX_bad post (fi, fs, F, S, TU, ST, SU, MK, CP, BF) (nI c) :=
  br_f (nI_pos (by omega)) (br_t (nI_lt (b := 16) hc (by decide)) h)
theorem ic_xbad_no {post : Int32 → Prop} {v : Int32} (hv : v < 0 ∨ nI 16 ≤ v) (h : post 1) : wpX_bad post (fi, fs, F, S, TU, ST, SU, MK, CP, BF) v := by
  rcases hv with z | z
  · exact br_t z h
  · exact br_f (ic_n0 (by omega) z) (br_f (Int32.not_lt.mpr z) h)
theorem ic_yc_ok {post : Int32 → Prop} {c : Nat} (hc : c < 16) (h : post 1) : wpY_isCluster post (ln, tk, sy, wo, ma, sa, bf) (nI c) :=
  br_f (nI_pos (by omega)) (br_f (nI_nlt (a := 15) (b := c) (by omega) (by decide)) h)
theorem ic_yc_no {post : Int32 → Prop} {v : Int32} (hv : v < 0 ∨ nI 16 ≤ v) (h : post 0) : wpY_isCluster post (ln, tk, sy, wo, ma, sa, bf) v := by
  rcases hv with z | z
  · exact br_t z h
  · refine br_f (ic_n0 (by omega) z) (br_t ?_ h)
    rw [Int32.le_iff_toInt_le, nI_toInt (by omega)] at z
    rw [Int32.lt_iff_toInt_lt, show (15 : Int32).toInt = 15 by decide]
    omega
theorem ic_xns_ok {post : Int32 → Prop} {t s : Nat} (ht : t < s) (hs : s ≤ 4) (h : post 0) : wpX_noShot post (fi, nI s, F, S, TU, ST, SU, MK, CP, BF) (nI t) :=
  br_f (nI_pos (by omega)) (br_t (nI_lt ht (by omega)) h)
theorem ic_xns_no {post : Int32 → Prop} {v : Int32} {s : Nat} (hs : s ≤ 4) (hv : v < 0 ∨ nI s ≤ v) (h : post 1) : wpX_noShot post (fi, nI s, F, S, TU, ST, SU, MK, CP, BF) v := by
  rcases hv with z | z
  · exact br_t z h
  · exact br_f (ic_n0 (by omega) z) (br_f (Int32.not_lt.mpr z) h)
theorem ic_ys_ok {post : Int32 → Prop} {t s : Nat} (ht : t < s) (hs : s ≤ 4) (h : post 1) : wpY_isSnapshot post (ln, nI s, sy, wo, ma, sa, bf) (nI t) :=
  br_f (nI_pos (by omega)) (br_f (nI_ge ht (by omega)) h)
theorem ic_ys_no {post : Int32 → Prop} {v : Int32} {s : Nat} (hs : s ≤ 4) (hv : v < 0 ∨ nI s ≤ v) (h : post 0) : wpY_isSnapshot post (ln, nI s, sy, wo, ma, sa, bf) v := by
  rcases hv with z | z
  · exact br_t z h
  · exact br_f (ic_n0 (by omega) z) (br_t z h)
theorem ic_init {post : SX → Prop} {fi fs : Int32} (h : ∀ F', (∀ i, i < 32 → F' i = -1) → post (fi, fs, F', S, TU, ST, SU, MK, CP, BF)) :
    ∀ d j, j + d = 32 → ∀ F, (∀ i, i < j → F i = -1) → wX_init_78 post fi fs (d + 1) (nI j) F S TU ST SU MK CP BF := by
  intro d
  induction d with
  | zero =>
    intro j hj F hF
    have e : j = 32 := by omega
    subst e
    exact br_t (show (32 : Int32) ≤ nI 32 by decide) (h F hF)
  | succ d ih =>
    intro j hj F hF
    refine br_f (nI_ge (b := 32) (by omega) (by decide)) ⟨vp_in_nI (by omega) (by decide), nm_r (e' := upd F j (-1)) (by rw [nI_clamp (by omega)]) (nm_r (nI_1 j) (ih (j + 1) (by omega) _ ?_))⟩
    intro i hi
    by_cases z : i = j
    · rw [z, pk_us]
    · rw [pk_un z]
      exact hF i (by omega)
end
theorem i_vc0 : wpX_init (fun u => wpY_init (fun v => i_Rel 0 u v)) := by
  refine ⟨33, ic_init ?_ 32 0 rfl _ (fun i hi => absurd hi (Nat.not_lt_zero _))⟩
  intro F hF
  have hT : ∀ t, t < 36 → ic_Tn F t = 0 := by
    intro t ht
    refine ic_cnt_zero fun i hi => decide_eq_false fun e => ?_
    rw [hF i hi] at e
    exact ic_nIm1 (p := t) (by omega) e.symm
  refine ic_in (k := 0) (n := 0) (s := 0) (A := fun _ => none) (B := fun _ => none) (by omega) (by omega) ⟨?_, ?_, ?_, ?_, ?_⟩ ?_ ?_ ?_
  · intro k hk
    exact Or.inl (hF k hk)
  · intro k hk _
    exact hF k hk
  · intro t ht
    rw [hT t ht]
    rfl
  · intro p hp
    have : ic_Sn (ic_lv F) (fun _ => 0) p = 0 := by
      refine ic_cnt_zero fun i hi => ?_
      show (decide (0 < ic_Tn F (i / 4)) && _) = false
      rw [hT _ (by omega)]
      rfl
    rw [this]
    rfl
  · intro i hi
    rw [ic_en_neg (hF _ (by omega)), ic_ab_m1]
  · intro i hi
    exact Or.inl ⟨rfl, rfl⟩
  · intro i hi _
    rfl
  · intro c hc _
    rfl
end
section
/-! the methods that only read, overlay, backup -/
theorem i_vc_read {k : Nat} {u : SX} {v : SY} (I : i_Rel k u v) (hk : k + 4 ≤ 2048) (v1 : Int32) : wpX_read (fun r => wpY_read (fun r' => r' = r ∧ i_Rel (k + 4) u v) v v1) u v1 := by
  refine ic_el (P := fun u v => wpX_read (fun r => wpY_read (fun r' => r' = r ∧ i_Rel (k + 4) u v) v v1) u v1) I ?_
  intro n s F S TU ST SU M C bx sy wo b A B hn hs G R hAB hM J
  unfold wpX_read wpY_read
  rcases ic_c16 v1 with h | ⟨c, hc, rfl⟩
  · refine ic_xbad_no h (br_f (by decide) ?_)
    exact ic_yc_no h (br_t rfl ⟨rfl, J⟩)
  · refine ic_xbad_ok hc (br_t rfl ?_)
    refine ic_xword G hn hc ?_
    refine ic_yc_ok hc (br_f (by decide) ?_)
    exact ic_ywi R (by omega) hc ⟨(ic_lkAB hAB hn (by omega) hc).symm, J⟩
theorem i_vc_said {k : Nat} {u : SX} {v : SY} (I : i_Rel k u v) (hk : k + 4 ≤ 2048) (v1 : Int32) : wpX_said (fun r => wpY_said (fun r' => r' = r ∧ i_Rel (k + 4) u v) v v1) u v1 := by
  refine ic_el (P := fun u v => wpX_said (fun r => wpY_said (fun r' => r' = r ∧ i_Rel (k + 4) u v) v v1) u v1) I ?_
  intro n s F S TU ST SU M C bx sy wo b A B hn hs G R hAB hM J
  unfold wpX_said wpY_said
  rcases ic_c16 v1 with h | ⟨c, hc, rfl⟩
  · refine ic_xbad_no h (br_f (by decide) ?_)
    exact ic_yc_no h (br_t rfl ⟨rfl, J⟩)
  · refine ic_xbad_ok hc (br_t rfl ?_)
    refine ic_xtop ?_
    refine ic_xen G.1 (by omega) hc ?_
    have eA := G.2.2.2.2 (16 * n + c) (by omega)
    have eB := hAB (16 * n + c) (by omega) (ic_nZ (Nat.le_refl n) hn hc)
    have hi : vp_in (nI (16 * n + c)) 128 := vp_in_nI (by omega) (by decide)
    have fin : ∀ r : Int32, (sy (16 * n + c) = 0 → r = 0) → (¬ sy (16 * n + c) = 0 → r = 1) →
        wpY_isCluster (fun r_1 => (((r_1 = 0 → ((0 : Int32) = r ∧ i_Rel (k + 4) (nI (n + 1), nI s, F, S, TU, ST, SU, M, C, bx) (nI (n + 1), nI s, sy, wo, M, C, b))) ∧ (¬ r_1 = 0 →
          (vp_in ((16 * (nI (n + 1) - 1)) + nI c) 128 ∧ ((((sy ((16 * (nI (n + 1) - 1)) + nI c).toNatClampNeg) = 0 → ((0 : Int32) = r ∧ i_Rel (k + 4) (nI (n + 1), nI s, F, S, TU, ST, SU, M, C, bx) (nI (n + 1), nI s, sy, wo, M, C, b))) ∧
            (¬ (sy ((16 * (nI (n + 1) - 1)) + nI c).toNatClampNeg) = 0 → ((1 : Int32) = r ∧ i_Rel (k + 4) (nI (n + 1), nI s, F, S, TU, ST, SU, M, C, bx) (nI (n + 1), nI s, sy, wo, M, C, b))))))))))
          (nI (n + 1), nI s, sy, wo, M, C, b) (nI c) := by
      intro r h0 h1
      refine ic_yc_ok hc (br_f (by decide) ?_)
      rw [nI_pred, ic_q16, nI_clamp (by omega)]
      exact ⟨hi, br_c (fun z => ⟨(h0 z).symm, J⟩) (fun z => ⟨(h1 z).symm, J⟩)⟩
    by_cases z : ic_en F S (16 * n + c) = -1
    · rw [z, ic_ab_m1] at eA
      refine br_t z (fin 0 (fun _ => rfl) (fun y => ?_))
      rcases R (16 * n + c) (by omega) with ⟨e, e'⟩ | ⟨e, e'⟩
      · exact absurd e y
      · rw [← eB, eA] at e'
        exact absurd e' (by simp)
    · rw [ic_ab_n z] at eA
      refine br_f z (fin 1 (fun y => ?_) (fun _ => rfl))
      rcases R (16 * n + c) (by omega) with ⟨e, e'⟩ | ⟨e, e'⟩
      · rw [← eB, eA] at e'
        exact absurd e' (by simp)
      · rw [e] at y
        exact absurd y (by decide)
theorem i_vc_length {k : Nat} {u : SX} {v : SY} (I : i_Rel k u v) (hk : k + 4 ≤ 2048) : wpX_length (fun r => wpY_length (fun r' => r' = r ∧ i_Rel (k + 4) u v) v) u := by
  refine ic_el (P := fun u v => wpX_length (fun r => wpY_length (fun r' => r' = r ∧ i_Rel (k + 4) u v) v) u) I ?_
  intro n s F S TU ST SU M C bx sy wo b A B hn hs G R hAB hM J
  exact And.intro rfl J
theorem i_vc_snapshots {k : Nat} {u : SX} {v : SY} (I : i_Rel k u v) (hk : k + 4 ≤ 2048) : wpX_snapshots (fun r => wpY_snapshots (fun r' => r' = r ∧ i_Rel (k + 4) u v) v) u := by
  refine ic_el (P := fun u v => wpX_snapshots (fun r => wpY_snapshots (fun r' => r' = r ∧ i_Rel (k + 4) u v) v) u) I ?_
  intro n s F S TU ST SU M C bx sy wo b A B hn hs G R hAB hM J
  exact And.intro rfl J
theorem i_vc_saved {k : Nat} {u : SX} {v : SY} (I : i_Rel k u v) (hk : k + 4 ≤ 2048) (v1 : Int32) : wpX_saved (fun r => wpY_saved (fun r' => r' = r ∧ i_Rel (k + 4) u v) v v1) u v1 := by
  refine ic_el (P := fun u v => wpX_saved (fun r => wpY_saved (fun r' => r' = r ∧ i_Rel (k + 4) u v) v v1) u v1) I ?_
  intro n s F S TU ST SU M C bx sy wo b A B hn hs G R hAB hM J
  unfold wpX_saved wpY_saved
  rcases ic_c16 v1 with h | ⟨c, hc, rfl⟩
  · refine ic_xbad_no h (br_f (by decide) ?_)
    exact ic_yc_no h (br_t rfl ⟨rfl, J⟩)
  · refine ic_xbad_ok hc (br_t rfl ⟨vp_in_nI hc (by decide), ?_⟩)
    exact ic_yc_ok hc (br_f (by decide) ⟨vp_in_nI hc (by decide), rfl, J⟩)
theorem i_vc_peek {k : Nat} {u : SX} {v : SY} (I : i_Rel k u v) (hk : k + 4 ≤ 2048) (v1 : Int32) (v2 : Int32) : wpX_peek (fun r => wpY_peek (fun r' => r' = r ∧ i_Rel (k + 4) u v) v v1 v2) u v1 v2 := by
  refine ic_el (P := fun u v => wpX_peek (fun r => wpY_peek (fun r' => r' = r ∧ i_Rel (k + 4) u v) v v1 v2) u v1 v2) I ?_
  intro n s F S TU ST SU M C bx sy wo b A B hn hs G R hAB hM J
  unfold wpX_peek wpY_peek
  rcases ic_cs v1 hs with h | ⟨t, ht, rfl⟩
  · refine ic_xns_no hs h (br_f (by decide) ?_)
    exact ic_ys_no hs h (br_t rfl ⟨rfl, J⟩)
  · refine ic_xns_ok ht hs (br_t rfl ?_)
    rcases ic_c16 v2 with h | ⟨c, hc, rfl⟩
    · refine ic_xbad_no h (br_f (by decide) ?_)
      refine ic_ys_ok ht hs (br_f (by decide) ?_)
      exact ic_yc_no h (br_t rfl ⟨rfl, J⟩)
    · refine ic_xbad_ok hc (br_t rfl ?_)
      rw [ic_4p]
      refine ic_xlk G hn (by omega) hc ?_
      refine ic_ys_ok ht hs (br_f (by decide) ?_)
      refine ic_yc_ok hc (br_f (by decide) ?_)
      have eB := hAB (16 * (4 + t) + c) (by omega) (ic_nZs ht hc)
      rw [ic_q16, nI_clamp (by omega), nI_pred]
      refine ⟨vp_in_nI (by omega) (by decide), ?_⟩
      rcases R (16 * (4 + t) + c) (by omega) with ⟨e, e'⟩ | ⟨e, e'⟩
      · refine br_t e ?_
        refine ic_ywi R (by omega) hc ⟨?_, J⟩
        rw [eB, e']
        exact (ic_lkAB hAB hn (by omega) hc).symm
      · refine br_f (by rw [e]; decide) ⟨vp_in_nI (by omega) (by decide), ?_, J⟩
        rw [eB, e']
        rfl
def ic_D (M : Nat → Int32) : Nat → Bool := fun c => decide (¬ M c = 0)
def ic_ds (W : Nat → Int32) : Nat → Int32
  | 0 => 0
  | k + 1 => ic_ds W k + (nI k + 1) * W k
def ic_bM (M : Nat → Int32) (k : Nat) : Nat → Int32 := fun i => if i < k ∧ ¬ M i = 0 then 0 else M i
def ic_bC (W M C : Nat → Int32) (k : Nat) : Nat → Int32 := fun i => if i < k ∧ ¬ M i = 0 then W i else C i
theorem ic_bM_k (M : Nat → Int32) (k : Nat) : ic_bM M k k = M k := if_neg (fun z => Nat.lt_irrefl _ z.1)
theorem ic_bM_0 (M : Nat → Int32) : ic_bM M 0 = M := by
  funext i
  exact if_neg (fun z => absurd z.1 (Nat.not_lt_zero _))
theorem ic_bC_0 (W M C : Nat → Int32) : ic_bC W M C 0 = C := by
  funext i
  exact if_neg (fun z => absurd z.1 (Nat.not_lt_zero _))
theorem ic_bM_t {M : Nat → Int32} {k : Nat} (h : ¬ M k = 0) : upd (ic_bM M k) k 0 = ic_bM M (k + 1) := by
  funext i
  unfold ic_bM
  by_cases z : i = k
  · subst z
    rw [pk_us, if_pos ⟨by omega, h⟩]
  · rw [pk_un z]
    by_cases y : i < k ∧ ¬ M i = 0
    · rw [if_pos y, if_pos ⟨by omega, y.2⟩]
    · rw [if_neg y, if_neg (fun w => y ⟨by omega, w.2⟩)]
theorem ic_bM_f {M : Nat → Int32} {k : Nat} (h : M k = 0) : ic_bM M (k + 1) = ic_bM M k := by
  funext i
  unfold ic_bM
  by_cases y : i < k ∧ ¬ M i = 0
  · rw [if_pos y, if_pos ⟨by omega, y.2⟩]
  · rw [if_neg y, if_neg]
    intro w
    by_cases z : i = k
    · subst z
      exact w.2 h
    · exact y ⟨by omega, w.2⟩
theorem ic_bC_t {W M C : Nat → Int32} {k : Nat} (h : ¬ M k = 0) : upd (ic_bC W M C k) k (W k) = ic_bC W M C (k + 1) := by
  funext i
  unfold ic_bC
  by_cases z : i = k
  · subst z
    rw [pk_us, if_pos ⟨by omega, h⟩]
  · rw [pk_un z]
    by_cases y : i < k ∧ ¬ M i = 0
    · rw [if_pos y, if_pos ⟨by omega, y.2⟩]
    · rw [if_neg y, if_neg (fun w => y ⟨by omega, w.2⟩)]
theorem ic_bC_f {W M C : Nat → Int32} {k : Nat} (h : M k = 0) : ic_bC W M C (k + 1) = ic_bC W M C k := by
  funext i
  unfold ic_bC
  by_cases y : i < k ∧ ¬ M i = 0
  · rw [if_pos y, if_pos ⟨by omega, y.2⟩]
  · rw [if_neg y, if_neg]
    intro w
    by_cases z : i = k
    · subst z
      exact w.2 h
    · exact y ⟨by omega, w.2⟩
section
variable {A : Nat → Option Int32} {Z : Nat → Prop} {fi fs : Int32} {F S TU ST SU MK CP BF : Nat → Int32} {B : Nat → Option Int32} {ln tk : Int32} {sy wo ma sa bf : Nat → Int32}
theorem ic_xmd4 {post : Int32 → Prop} (h : post (nI (ic_cnt (ic_D MK) 16))) :
    ∀ d j, j + d = 16 → wX_marked_4 post fi fs F S TU ST SU MK CP BF (d + 1) (nI (ic_cnt (ic_D MK) j)) (nI j) := by
  intro d
  induction d with
  | zero =>
    intro j hj
    have e : j = 16 := by omega
    subst e
    exact br_t (show (16 : Int32) ≤ nI 16 by decide) h
  | succ d ih =>
    intro j hj
    have k := ih (j + 1) (by omega)
    refine br_f (nI_ge (b := 16) (by omega) (by decide)) ⟨vp_in_nI (by omega) (by decide), ?_⟩
    rw [nI_clamp (by omega)]
    by_cases z : MK j = 0
    · have hD : ic_D MK j = false := decide_eq_false (fun y => y z)
      rw [ic_cnt_s, hD] at k
      exact br_t z (nm_r (nI_1 j) k)
    · have hD : ic_D MK j = true := decide_eq_true z
      rw [ic_cnt_s, if_pos hD] at k
      exact br_f z (nm_r (nI_1 _) (nm_r (nI_1 j) k))
theorem ic_ymd4 {post : Int32 → Prop} (h : post (nI (ic_cnt (ic_D ma) 16))) :
    ∀ d j, j + d = 16 → wY_marked_4 post ln tk sy wo ma sa bf (d + 1) (nI (ic_cnt (ic_D ma) j)) (nI j) := by
  intro d
  induction d with
  | zero =>
    intro j hj
    have e : j = 16 := by omega
    subst e
    exact br_t (show (16 : Int32) ≤ nI 16 by decide) h
  | succ d ih =>
    intro j hj
    have k := ih (j + 1) (by omega)
    refine br_f (nI_ge (b := 16) (by omega) (by decide)) ⟨vp_in_nI (by omega) (by decide), ?_⟩
    rw [nI_clamp (by omega)]
    by_cases z : ma j = 0
    · have hD : ic_D ma j = false := decide_eq_false (fun y => y z)
      rw [ic_cnt_s, hD] at k
      exact br_t z (nm_r (nI_1 j) k)
    · have hD : ic_D ma j = true := decide_eq_true z
      rw [ic_cnt_s, if_pos hD] at k
      exact br_f z (nm_r (nI_1 _) (nm_r (nI_1 j) k))
theorem ic_xmd {post : Int32 → Prop} (h : post (nI (ic_cnt (ic_D MK) 16))) : wpX_marked post (fi, fs, F, S, TU, ST, SU, MK, CP, BF) := ⟨17, ic_xmd4 h 16 0 rfl⟩
theorem ic_ymd {post : Int32 → Prop} (h : post (nI (ic_cnt (ic_D ma) 16))) : wpY_marked post (ln, tk, sy, wo, ma, sa, bf) := ⟨17, ic_ymd4 h 16 0 rfl⟩
theorem ic_xdg4 {post : Int32 → Prop} {n : Nat} {W : Nat → Int32} (G : ic_G A Z F S TU ST SU) (hn : n < 4) (hw : ∀ i, i < 16 → ic_lk A (n + 1) i = W i) (h : post (ic_ds W 16)) :
    ∀ d j, j + d = 16 → wX_digest_4 post (nI (n + 1)) fs F S TU ST SU MK CP BF (d + 1) (ic_ds W j) (nI j) := by
  intro d
  induction d with
  | zero =>
    intro j hj
    have e : j = 16 := by omega
    subst e
    exact br_t (show (16 : Int32) ≤ nI 16 by decide) h
  | succ d ih =>
    intro j hj
    refine br_f (nI_ge (b := 16) (by omega) (by decide)) ?_
    refine ic_xword G hn (by omega) ?_
    rw [hw j (by omega)]
    exact nm_e (nm_r (nI_1 j) (ih (j + 1) (by omega)))
theorem ic_ydg4 {post : Int32 → Prop} {m : Nat} {W : Nat → Int32} (R : ic_RB B sy wo) (hm : m ≤ 8) (hw : ∀ i, i < 16 → ic_lk B m i = W i) (h : post (ic_ds W 16)) :
    ∀ d j, j + d = 16 → wY_digest_4 post (nI m) tk sy wo ma sa bf (d + 1) (ic_ds W j) (nI j) := by
  intro d
  induction d with
  | zero =>
    intro j hj
    have e : j = 16 := by omega
    subst e
    exact br_t (show (16 : Int32) ≤ nI 16 by decide) h
  | succ d ih =>
    intro j hj
    refine br_f (nI_ge (b := 16) (by omega) (by decide)) ?_
    refine ic_ywi R hm (by omega) ?_
    rw [hw j (by omega)]
    exact nm_e (nm_r (nI_1 j) (ih (j + 1) (by omega)))
theorem ic_x33 {post : Int32 → Prop} {J : Int32 → Int32 → Prop} {x1 z0 : Int32} {j : Nat} (hj : j < 16) (h0 : z0 = CP j → J x1 (nI (j + 1))) (h1 : ¬ z0 = CP j → J (x1 + 1) (nI (j + 1))) :
    wX_behind_33 post J x1 (nI j) z0 fi fs F S TU ST SU MK CP BF := by
  unfold wX_behind_33
  rw [nI_clamp (by omega)]
  exact ⟨vp_in_nI (by omega) (by decide), br_c (fun z => nm_r (nI_1 j) (h0 z)) (fun z => nm_e (nm_r (nI_1 j) (h1 z)))⟩
theorem ic_xbh4 {post : Int32 → Prop} {n : Nat} {W : Nat → Int32} (G : ic_G A Z F S TU ST SU) (hn : n < 4) (hw : ∀ i, i < 16 → ic_lk A (n + 1) i = W i) (hM : ∀ i, i < 16 → MK i = 0 → CP i = W i)
    (h : post (nI (ic_cnt (ic_df CP W) 16))) :
    ∀ d j, j + d = 16 → wX_behind_4 post (nI (n + 1)) fs F S TU ST SU MK CP BF (d + 1) (nI (ic_cnt (ic_df CP W) j)) (nI j) := by
  intro d
  induction d with
  | zero =>
    intro j hj
    have e : j = 16 := by omega
    subst e
    exact br_t (show (16 : Int32) ≤ nI 16 by decide) h
  | succ d ih =>
    intro j hj
    have k := ih (j + 1) (by omega)
    refine br_f (nI_ge (b := 16) (by omega) (by decide)) ⟨vp_in_nI (by omega) (by decide), ?_⟩
    rw [nI_clamp (by omega)]
    by_cases z : MK j = 0
    · have hD : ic_df CP W j = false := decide_eq_false (fun y => y (hM j (by omega) z))
      rw [ic_cnt_s, hD] at k
      exact br_t z ⟨vp_in_nI (by omega) (by decide), ic_x33 (by omega) (fun _ => k) (fun y => absurd rfl y)⟩
    · refine br_f z ?_
      refine ic_xword G hn (by omega) ?_
      rw [hw j (by omega)]
      refine ic_x33 (by omega) (fun y => ?_) (fun y => ?_)
      · have hD : ic_df CP W j = false := decide_eq_false (fun w => w y.symm)
        rw [ic_cnt_s, hD] at k
        exact k
      · have hD : ic_df CP W j = true := decide_eq_true (fun w => y w.symm)
        rw [ic_cnt_s, if_pos hD, ← nI_1 (ic_cnt (ic_df CP W) j)] at k
        exact k
theorem ic_ybh4 {post : Int32 → Prop} {m : Nat} {W : Nat → Int32} (R : ic_RB B sy wo) (hm : m ≤ 8) (hw : ∀ i, i < 16 → ic_lk B m i = W i) (h : post (nI (ic_cnt (ic_df sa W) 16))) :
    ∀ d j, j + d = 16 → wY_behind_4 post (nI m) tk sy wo ma sa bf (d + 1) (nI (ic_cnt (ic_df sa W) j)) (nI j) := by
  intro d
  induction d with
  | zero =>
    intro j hj
    have e : j = 16 := by omega
    subst e
    exact br_t (show (16 : Int32) ≤ nI 16 by decide) h
  | succ d ih =>
    intro j hj
    have k := ih (j + 1) (by omega)
    refine br_f (nI_ge (b := 16) (by omega) (by decide)) ⟨vp_in_nI (by omega) (by decide), ?_⟩
    refine ic_ywi R hm (by omega) ?_
    rw [hw j (by omega), nI_clamp (by omega)]
    by_cases z : sa j = W j
    · have hD : ic_df sa W j = false := decide_eq_false (fun y => y z)
      rw [ic_cnt_s, hD] at k
      exact br_t z (nm_r (nI_1 j) k)
    · have hD : ic_df sa W j = true := decide_eq_true z
      rw [ic_cnt_s, if_pos hD] at k
      exact br_f z (nm_r (nI_1 _) (nm_r (nI_1 j) k))
theorem ic_xbk4 {post : Int32 → SX → Prop} {n : Nat} {W : Nat → Int32} (G : ic_G A Z F S TU ST SU) (hn : n < 4) (hw : ∀ i, i < 16 → ic_lk A (n + 1) i = W i)
    (h : post (nI (ic_cnt (ic_D MK) 16)) (nI (n + 1), fs, F, S, TU, ST, SU, ic_bM MK 16, ic_bC W MK CP 16, BF)) :
    ∀ d j, j + d = 16 → wX_backup_4 post (nI (n + 1)) fs (d + 1) (nI (ic_cnt (ic_D MK) j)) (nI j) F S TU ST SU (ic_bM MK j) (ic_bC W MK CP j) BF := by
  intro d
  induction d with
  | zero =>
    intro j hj
    have e : j = 16 := by omega
    subst e
    exact br_t (show (16 : Int32) ≤ nI 16 by decide) h
  | succ d ih =>
    intro j hj
    have k := ih (j + 1) (by omega)
    refine br_f (nI_ge (b := 16) (by omega) (by decide)) ⟨vp_in_nI (by omega) (by decide), ?_⟩
    rw [nI_clamp (by omega), ic_bM_k]
    by_cases z : MK j = 0
    · have hD : ic_D MK j = false := decide_eq_false (fun y => y z)
      rw [ic_cnt_s, hD, ic_bM_f z, ic_bC_f z] at k
      exact br_t z (nm_r (nI_1 j) k)
    · have hD : ic_D MK j = true := decide_eq_true z
      rw [ic_cnt_s, if_pos hD, ← ic_bM_t z, ← ic_bC_t z] at k
      refine br_f z ?_
      refine ic_xword G hn (by omega) ?_
      rw [hw j (by omega)]
      exact ⟨vp_in_nI (by omega) (by decide), nm_e ⟨vp_in_nI (by omega) (by decide), nm_e (nm_r (nI_1 _) (nm_r (nI_1 j) k))⟩⟩
theorem ic_ybk7 {post : Int32 → SY → Prop} {m : Nat} {W : Nat → Int32} {x1 : Int32} (R : ic_RB B sy wo) (hm : m ≤ 8) (hw : ∀ i, i < 16 → ic_lk B m i = W i)
    (h : post x1 (nI m, tk, sy, wo, ic_bM ma 16, ic_bC W ma sa 16, bf)) :
    ∀ d j, j + d = 16 → wY_backup_7 post x1 (nI m) tk (d + 1) (nI j) sy wo (ic_bM ma j) (ic_bC W ma sa j) bf := by
  intro d
  induction d with
  | zero =>
    intro j hj
    have e : j = 16 := by omega
    subst e
    exact br_t (show (16 : Int32) ≤ nI 16 by decide) h
  | succ d ih =>
    intro j hj
    have k := ih (j + 1) (by omega)
    refine br_f (nI_ge (b := 16) (by omega) (by decide)) ⟨vp_in_nI (by omega) (by decide), ?_⟩
    rw [nI_clamp (by omega), ic_bM_k]
    by_cases z : ma j = 0
    · rw [ic_bM_f z, ic_bC_f z] at k
      exact br_t z (nm_r (nI_1 j) k)
    · rw [← ic_bM_t z, ← ic_bC_t z] at k
      refine br_f z ?_
      refine ic_ywi R hm (by omega) ?_
      rw [hw j (by omega)]
      exact ⟨vp_in_nI (by omega) (by decide), nm_e ⟨vp_in_nI (by omega) (by decide), nm_e (nm_r (nI_1 j) k)⟩⟩
theorem ic_yov {post : Int32 → SY → Prop} {m : Nat} (hm : m < 8) (h : ∀ sy', ic_RB (fun i => if i / 16 = m then none else B i) sy' wo → post (nI (m + 1)) (nI (m + 1), tk, sy', wo, ma, sa, bf)) :
    ∀ d j, j + d = 16 → ∀ sy, ic_RB (fun i => if 16 * m ≤ i ∧ i < 16 * m + j then none else B i) sy wo → wY_overlay_23 post (nI m) tk (d + 1) (nI j) sy wo ma sa bf := by
  intro d
  induction d with
  | zero =>
    intro j hj sy R
    have e : j = 16 := by omega
    subst e
    refine br_t (show (16 : Int32) ≤ nI 16 by decide) (nm_r (nI_1 m) (h sy (ic_RB_congr R ?_)))
    intro i hi
    show (if i / 16 = m then none else B i) = (if 16 * m ≤ i ∧ i < 16 * m + 16 then none else B i)
    by_cases y : i / 16 = m
    · rw [if_pos y, if_pos (by omega)]
    · rw [if_neg y, if_neg (by omega)]
  | succ d ih =>
    intro j hj sy R
    refine br_f (nI_ge (b := 16) (by omega) (by decide)) ?_
    rw [ic_q16, nI_clamp (by omega)]
    refine ⟨vp_in_nI (by omega) (by decide), nm_e (nm_r (nI_1 j) (ih (j + 1) (by omega) _ (ic_RB_congr (ic_RB_0 R (i := 16 * m + j)) ?_)))⟩
    intro i hi
    show (if 16 * m ≤ i ∧ i < 16 * m + (j + 1) then none else B i) = (if i = 16 * m + j then none else (if 16 * m ≤ i ∧ i < 16 * m + j then none else B i))
    by_cases y : i = 16 * m + j
    · rw [if_pos (by omega), if_pos y]
    · rw [if_neg (c := i = 16 * m + j) y]
      by_cases w : 16 * m ≤ i ∧ i < 16 * m + j
      · rw [if_pos w, if_pos (by omega)]
      · rw [if_neg w, if_neg (by omega)]
end
theorem i_vc_marked {k : Nat} {u : SX} {v : SY} (I : i_Rel k u v) (hk : k + 4 ≤ 2048) : wpX_marked (fun r => wpY_marked (fun r' => r' = r ∧ i_Rel (k + 4) u v) v) u := by
  refine ic_el (P := fun u v => wpX_marked (fun r => wpY_marked (fun r' => r' = r ∧ i_Rel (k + 4) u v) v) u) I ?_
  intro n s F S TU ST SU M C bx sy wo b A B hn hs G R hAB hM J
  refine ic_xmd ?_
  exact ic_ymd ⟨rfl, J⟩
theorem i_vc_digest {k : Nat} {u : SX} {v : SY} (I : i_Rel k u v) (hk : k + 4 ≤ 2048) : wpX_digest (fun r => wpY_digest (fun r' => r' = r ∧ i_Rel (k + 4) u v) v) u := by
  refine ic_el (P := fun u v => wpX_digest (fun r => wpY_digest (fun r' => r' = r ∧ i_Rel (k + 4) u v) v) u) I ?_
  intro n s F S TU ST SU M C bx sy wo b A B hn hs G R hAB hM J
  refine ⟨17, ic_xdg4 G hn (W := ic_lk A (n + 1)) (fun _ _ => rfl) ?_ 16 0 rfl⟩
  exact ⟨17, ic_ydg4 R (by omega) (W := ic_lk A (n + 1)) (fun i hi => (ic_lkAB hAB hn (by omega) hi).symm) ⟨rfl, J⟩ 16 0 rfl⟩
theorem i_vc_behind {k : Nat} {u : SX} {v : SY} (I : i_Rel k u v) (hk : k + 4 ≤ 2048) : wpX_behind (fun r => wpY_behind (fun r' => r' = r ∧ i_Rel (k + 4) u v) v) u := by
  refine ic_el (P := fun u v => wpX_behind (fun r => wpY_behind (fun r' => r' = r ∧ i_Rel (k + 4) u v) v) u) I ?_
  intro n s F S TU ST SU M C bx sy wo b A B hn hs G R hAB hM J
  refine ⟨17, ic_xbh4 G hn (W := ic_lk A (n + 1)) (fun _ _ => rfl) hM ?_ 16 0 rfl⟩
  exact ⟨17, ic_ybh4 R (by omega) (W := ic_lk A (n + 1)) (fun i hi => (ic_lkAB hAB hn (by omega) hi).symm) ⟨rfl, J⟩ 16 0 rfl⟩
theorem i_vc_backup {k : Nat} {u : SX} {v : SY} (I : i_Rel k u v) (hk : k + 4 ≤ 2048) : wpX_backup (fun r u' => wpY_backup (fun r' v' => r' = r ∧ i_Rel (k + 4) u' v') v) u := by
  refine ic_el (P := fun u v => wpX_backup (fun r u' => wpY_backup (fun r' v' => r' = r ∧ i_Rel (k + 4) u' v') v) u) I ?_
  intro n s F S TU ST SU M C bx sy wo b A B hn hs G R hAB hM J
  have J' : i_Rel (k + 4) (nI (n + 1), nI s, F, S, TU, ST, SU, ic_bM M 16, ic_bC (ic_lk A (n + 1)) M C 16, bx) (nI (n + 1), nI s, sy, wo, ic_bM M 16, ic_bC (ic_lk A (n + 1)) M C 16, b) := by
    refine ic_in hn hs G R hAB ?_
    intro c hc _
    unfold ic_bC
    by_cases z : M c = 0
    · rw [if_neg (fun y => y.2 z)]
      exact hM c hc z
    · rw [if_pos ⟨hc, z⟩]
  have kx := fun (post : Int32 → SX → Prop) h => ic_xbk4 (post := post) (fs := nI s) (MK := M) (CP := C) (BF := bx) G hn (W := ic_lk A (n + 1)) (fun _ _ => rfl) h 16 0 rfl
  have ky := fun (post : Int32 → SY → Prop) (x1 : Int32) h => ic_ybk7 (post := post) (x1 := x1) (tk := nI s) (ma := M) (sa := C) (bf := b) R (m := n + 1) (by omega) (W := ic_lk A (n + 1))
    (fun i hi => (ic_lkAB hAB hn (by omega) hi).symm) h 16 0 rfl
  rw [ic_bM_0, ic_bC_0] at kx ky
  refine ⟨17, kx _ ?_⟩
  unfold wpY_backup
  refine ic_ymd ?_
  exact ⟨17, ky _ _ ⟨rfl, J'⟩⟩
theorem i_vc_overlay {k : Nat} {u : SX} {v : SY} (I : i_Rel k u v) (hk : k + 4 ≤ 2048) : wpX_overlay (fun r u' => wpY_overlay (fun r' v' => r' = r ∧ i_Rel (k + 4) u' v') v) u := by
  refine ic_el (P := fun u v => wpX_overlay (fun r u' => wpY_overlay (fun r' v' => r' = r ∧ i_Rel (k + 4) u' v') v) u) I ?_
  intro n s F S TU ST SU M C bx sy wo b A B hn hs G R hAB hM J
  by_cases h4 : n = 3
  · have e : nI (n + 1) = 4 := by rw [h4]; rfl
    exact br_t e (br_t e (And.intro rfl J))
  · have e : ¬ nI (n + 1) = 4 := fun z => h4 (by have := (nI_eq (a := n + 1) (b := 4) (by omega) (by omega)).mp z; omega)
    by_cases h0 : s = 0
    · subst h0
      have e0 : nI 0 ≤ 0 := by decide
      refine br_f e (br_t e0 (nm_r (nI_1 (n + 1)) ?_))
      refine br_f e (br_t e0 ?_)
      refine ⟨17, ic_yov (B := B) (by omega) ?_ 16 0 rfl sy (ic_RB_congr R ?_)⟩
      · intro sy' R'
        have hnone : ∀ c, c < 16 → A (16 * (n + 1) + c) = none := by
          intro c hc
          refine ic_G_none G (by omega) ?_
          show (n < (16 * (n + 1) + c) / 4 / 4 ∧ (16 * (n + 1) + c) / 4 / 4 < 4) ∨ 4 + 0 ≤ (16 * (n + 1) + c) / 4 / 4
          omega
        refine ⟨rfl, ic_in (n := n + 1) (s := 0) (A := A) (by omega) (by omega) (ic_G_congr G (fun _ _ => rfl) ?_) R' ?_ ?_⟩
        · intro k hk z
          rcases z with z | z
          · exact Or.inl ⟨by omega, z.2⟩
          · exact Or.inr z
        · intro i hi z
          have z1 : ¬ ((n + 1 < i / 4 / 4 ∧ i / 4 / 4 < 4) ∨ 4 + 0 ≤ i / 4 / 4) := z
          show A i = (if i / 16 = n + 1 then none else B i)
          by_cases y : i / 16 = n + 1
          · rw [if_pos y]
            have := hnone (i % 16) (by omega)
            rw [show 16 * (n + 1) + i % 16 = i by omega] at this
            exact this
          · rw [if_neg y]
            refine hAB i hi ?_
            show ¬ ((n < i / 4 / 4 ∧ i / 4 / 4 < 4) ∨ 4 + 0 ≤ i / 4 / 4)
            omega
        · intro c hc z
          rw [ic_lk_s, hnone c hc]
          exact hM c hc z
      · intro i hi
        exact if_neg (by omega)
    · have e0 : ¬ nI s ≤ 0 := nI_nle (by omega) (by omega)
      exact br_f e (br_f e0 (br_f e (br_f e0 (And.intro rfl J))))
end
section
/-! write, fill, discard -/
def ic_fA (B : Nat → Option Int32) (m c d : Nat) (w : Int32) : Nat → Option Int32 := fun i => if 16 * m + c ≤ i ∧ i ≤ 16 * m + d then some w else B i
theorem ic_fA_in {B : Nat → Option Int32} {m c d j : Nat} {w : Int32} (h1 : c ≤ j) (h2 : j ≤ d) : ic_lk (ic_fA B m c d w) (m + 1) j = w := by
  have e : ic_fA B m c d w (16 * m + j) = some w := if_pos ⟨by omega, by omega⟩
  rw [ic_lk_s, e]
  rfl
theorem ic_fA_out {B : Nat → Option Int32} {m c d j : Nat} {w : Int32} (hj : j < 16) (h : ¬ (c ≤ j ∧ j ≤ d)) (hd : d < 16) : ic_lk (ic_fA B m c d w) (m + 1) j = ic_lk B (m + 1) j :=
  ic_lk_congr (fun m' hm' => if_neg (by omega))
theorem ic_mk_cut {D : Nat → Bool} {M : Nat → Int32} {b k : Nat} (hb : b ≤ k) (h : ∀ i, b ≤ i → i < k → D i = false) : ic_mk D M k = ic_mk D M b := by
  funext i
  unfold ic_mk
  by_cases y : i < b ∧ D i = true
  · rw [if_pos y, if_pos ⟨by omega, y.2⟩]
  · rw [if_neg y, if_neg]
    intro w
    by_cases z : i < b
    · exact y ⟨z, w.2⟩
    · exact absurd ((h i (by omega) w.1).symm.trans w.2) Bool.false_ne_true
theorem ic_one_f {D : Nat → Bool} {M : Nat → Int32} {c : Nat} (ho : ∀ i, i < 16 → i ≠ c → D i = false) (h : D c = false) : ic_cnt D 16 = 0 ∧ ic_mk D M 16 = M := by
  have h' : ∀ i, i < 16 → D i = false := by
    intro i hi
    by_cases z : i = c
    · rw [z]
      exact h
    · exact ho i hi z
  refine ⟨ic_cnt_zero h', ?_⟩
  rw [ic_mk_cut (b := 0) (by omega) (fun i _ hi => h' i hi), ic_mk_0]
theorem ic_one_t {D : Nat → Bool} {M : Nat → Int32} {c : Nat} (hc : c < 16) (ho : ∀ i, i < 16 → i ≠ c → D i = false) (h : D c = true) : ic_cnt D 16 = 1 ∧ ic_mk D M 16 = upd M c 1 := by
  constructor
  · have h1 := ic_cnt_upd (P := fun _ => false) (Q := D) (a := c) (n := 16) hc ho
    rw [if_neg (by decide), if_pos h, ic_cnt_zero (P := fun _ => false) (fun _ _ => rfl)] at h1
    omega
  · funext i
    unfold ic_mk
    by_cases z : i = c
    · subst z
      rw [pk_us, if_pos ⟨hc, h⟩]
    · rw [pk_un z, if_neg]
      intro w
      exact absurd ((ho i w.1 z).symm.trans w.2) Bool.false_ne_true
theorem ic_MC_mk {n n' : Nat} {A A' : Nat → Option Int32} {M C : Nat → Int32} (h : ic_MC n A M C) : ic_MC n' A' (ic_mk (ic_df (ic_lk A (n + 1)) (ic_lk A' (n' + 1))) M 16) C := by
  intro c hc z
  unfold ic_mk at z
  by_cases y : ic_lk A (n + 1) c = ic_lk A' (n' + 1) c
  · have hD : ic_df (ic_lk A (n + 1)) (ic_lk A' (n' + 1)) c = false := decide_eq_false (fun w => w y)
    rw [if_neg (fun w => absurd (hD.symm.trans w.2) Bool.false_ne_true)] at z
    rw [← y]
    exact h c hc z
  · have hD : ic_df (ic_lk A (n + 1)) (ic_lk A' (n' + 1)) c = true := decide_eq_true y
    rw [if_pos ⟨hc, hD⟩] at z
    exact absurd z (by decide)
section
variable {A : Nat → Option Int32} {Z : Nat → Prop} {fi fs : Int32} {F S TU ST SU MK CP BF : Nat → Int32} {B : Nat → Option Int32} {ln tk : Int32} {sy wo ma sa bf : Nat → Int32}
theorem ic_xwr {post : Int32 → SX → Prop} {n c : Nat} {w : Int32} (G : ic_G A Z F S TU ST SU) (hn : n < 4) (hc : c < 16) (hz : ¬ Z (4 * n + c / 4))
    (h : ∀ F' S' TU' ST' SU', ic_G (ic_uA A (16 * n + c) (some w)) Z F' S' TU' ST' SU' →
      (ic_lk A (n + 1) c = w → post 0 (nI (n + 1), fs, F', S', TU', ST', SU', MK, CP, BF)) ∧ (¬ ic_lk A (n + 1) c = w → post 1 (nI (n + 1), fs, F', S', TU', ST', SU', upd MK c 1, CP, BF))) :
    wpX_write post (nI (n + 1), fs, F, S, TU, ST, SU, MK, CP, BF) (nI c) w := by
  unfold wpX_write
  refine ic_xbad_ok hc (br_t rfl ?_)
  refine ic_xword G hn hc ?_
  refine ic_xtop ?_
  refine ic_xsay G (by omega) hc hz ?_
  intro F' S' TU' ST' SU' G'
  obtain ⟨h0, h1⟩ := h F' S' TU' ST' SU' G'
  exact br_c h0 (fun y => ⟨vp_in_nI hc (by decide), nm_r (e' := upd MK c 1) (by rw [nI_clamp (by omega)]; rfl) (h1 y)⟩)
theorem ic_yfl30 {post : Int32 → SY → Prop} {m c d : Nat} {w : Int32} {w0 w1 : Nat → Int32} (hm : m < 4) (hd : d < 16)
    (hb : ∀ i, i < 16 → bf i = w0 i) (hw1 : ∀ i, i < 16 → ic_lk (ic_fA B m c d w) (m + 1) i = w1 i)
    (h : ∀ sy' wo', ic_RB (ic_fA B m c d w) sy' wo' → post (nI (ic_cnt (ic_df w0 w1) 16)) (nI (m + 1), tk, sy', wo', ic_mk (ic_df w0 w1) ma 16, sa, bf)) :
    ∀ e j, j + e = d + 1 → c ≤ j → ∀ sy wo, ic_RB (fun i => if 16 * m + c ≤ i ∧ i < 16 * m + j then some w else B i) sy wo →
      wY_fill_30 post (nI d) w (nI (m + 1)) tk (e + 1) (nI j) sy wo ma sa bf := by
  intro e
  induction e with
  | zero =>
    intro j hj hcj sy wo R
    have e : j = d + 1 := by omega
    subst e
    have R' : ic_RB (ic_fA B m c d w) sy wo := ic_RB_congr R (fun i hi => by
      show (if 16 * m + c ≤ i ∧ i ≤ 16 * m + d then some w else B i) = (if 16 * m + c ≤ i ∧ i < 16 * m + (d + 1) then some w else B i)
      by_cases y : 16 * m + c ≤ i ∧ i ≤ 16 * m + d
      · rw [if_pos y, if_pos (by omega)]
      · rw [if_neg y, if_neg (by omega)])
    refine br_t (nI_lt (by omega) (by omega)) ?_
    refine ic_ymc R' (by omega) hb hw1 ?_
    exact h sy wo R'
  | succ e ih =>
    intro j hj hcj sy wo R
    refine br_f (nI_nlt (by omega) (by omega)) ?_
    rw [nI_pred, ic_q16, nI_clamp (by omega)]
    refine ⟨vp_in_nI (by omega) (by decide), nm_e ⟨vp_in_nI (by omega) (by decide), nm_e (nm_r (nI_1 j) (ih (j + 1) (by omega) (by omega) _ _ (ic_RB_congr (ic_RB_1 R (i := 16 * m + j) (w := w)) ?_)))⟩⟩
    intro i hi
    show (if 16 * m + c ≤ i ∧ i < 16 * m + (j + 1) then some w else B i) = (if i = 16 * m + j then some w else (if 16 * m + c ≤ i ∧ i < 16 * m + j then some w else B i))
    by_cases y : i = 16 * m + j
    · rw [if_pos (by omega), if_pos y]
    · rw [if_neg (c := i = 16 * m + j) y]
      by_cases x : 16 * m + c ≤ i ∧ i < 16 * m + j
      · rw [if_pos x, if_pos (by omega)]
      · rw [if_neg x, if_neg (by omega)]
theorem ic_yfl {post : Int32 → SY → Prop} {m c d : Nat} {w : Int32} {w0 w1 : Nat → Int32} (R : ic_RB B sy wo) (hm : m < 4) (hcd : c ≤ d) (hd : d < 16)
    (hw0 : ∀ i, i < 16 → ic_lk B (m + 1) i = w0 i) (hw1 : ∀ i, i < 16 → ic_lk (ic_fA B m c d w) (m + 1) i = w1 i)
    (h : ∀ sy' wo' bf', ic_RB (ic_fA B m c d w) sy' wo' → post (nI (ic_cnt (ic_df w0 w1) 16)) (nI (m + 1), tk, sy', wo', ic_mk (ic_df w0 w1) ma 16, sa, bf')) :
    wpY_fill post (nI (m + 1), tk, sy, wo, ma, sa, bf) (nI c) (nI d) w := by
  unfold wpY_fill
  refine ic_yc_ok (by omega) (br_f (by decide) ?_)
  refine ic_yc_ok hd (br_f (by decide) ?_)
  refine br_t (nI_le hcd (by omega)) ?_
  refine ic_ynw R (by omega) ?_
  intro bf' hb
  refine ⟨d + 1 - c + 1, ic_yfl30 (B := B) (c := c) hm hd (fun i hi => (hb i hi).trans (hw0 i hi)) hw1 (fun sy' wo' R' => h sy' wo' bf' R') (d + 1 - c) c (by omega) (Nat.le_refl _) sy wo (ic_RB_congr R ?_)⟩
  intro i hi
  exact if_neg (by omega)
theorem ic_xfl29 {post : Int32 → SX → Prop} {n c d : Nat} {w : Int32} (hn : n < 4) (hd : d < 16) (hz : ∀ j, j < 16 → ¬ Z (4 * n + j / 4))
    (h : ∀ F' S' TU' ST' SU', ic_G (ic_fA A n c d w) Z F' S' TU' ST' SU' →
      post (nI (ic_cnt (ic_df (ic_lk A (n + 1)) (ic_lk (ic_fA A n c d w) (n + 1))) 16)) (nI (n + 1), fs, F', S', TU', ST', SU', ic_mk (ic_df (ic_lk A (n + 1)) (ic_lk (ic_fA A n c d w) (n + 1))) MK 16, CP, BF)) :
    ∀ e j, j + e = d + 1 → c ≤ j → ∀ F S TU ST SU, ic_G (fun i => if 16 * n + c ≤ i ∧ i < 16 * n + j then some w else A i) Z F S TU ST SU →
      wX_fill_29 post (nI d) w (e + 1) (nI (ic_cnt (ic_df (ic_lk A (n + 1)) (ic_lk (ic_fA A n c d w) (n + 1))) j)) (nI j) (nI (n + 1)) fs F S TU ST SU
        (ic_mk (ic_df (ic_lk A (n + 1)) (ic_lk (ic_fA A n c d w) (n + 1))) MK j) CP BF := by
  intro e
  induction e with
  | zero =>
    intro j hj hcj F S TU ST SU G
    have e : j = d + 1 := by omega
    subst e
    have hz0 : ∀ i, d + 1 ≤ i → i < 16 → ic_df (ic_lk A (n + 1)) (ic_lk (ic_fA A n c d w) (n + 1)) i = false := fun i h1 h2 =>
      decide_eq_false (fun y => y (ic_fA_out h2 (by omega) hd).symm)
    have k := h F S TU ST SU (ic_G_congr G (fun i hi => by
      show (if 16 * n + c ≤ i ∧ i ≤ 16 * n + d then some w else A i) = (if 16 * n + c ≤ i ∧ i < 16 * n + (d + 1) then some w else A i)
      by_cases y : 16 * n + c ≤ i ∧ i ≤ 16 * n + d
      · rw [if_pos y, if_pos (by omega)]
      · rw [if_neg y, if_neg (by omega)]) (fun _ _ y => y))
    rw [ic_cnt_cut (b := d + 1) (by omega) hz0, ic_mk_cut (b := d + 1) (by omega) hz0] at k
    exact br_t (nI_lt (by omega) (by omega)) k
  | succ e ih =>
    intro j hj hcj F S TU ST SU G
    refine br_f (nI_nlt (by omega) (by omega)) ?_
    refine ic_xwr G hn (by omega) (hz j (by omega)) ?_
    intro F' S' TU' ST' SU' G'
    have k := ih (j + 1) (by omega) (by omega) F' S' TU' ST' SU' (ic_G_congr G' (fun i hi => by
      show (if 16 * n + c ≤ i ∧ i < 16 * n + (j + 1) then some w else A i) = (if i = 16 * n + j then some w else (if 16 * n + c ≤ i ∧ i < 16 * n + j then some w else A i))
      by_cases y : i = 16 * n + j
      · rw [if_pos (by omega), if_pos y]
      · rw [if_neg (c := i = 16 * n + j) y]
        by_cases x : 16 * n + c ≤ i ∧ i < 16 * n + j
        · rw [if_pos x, if_pos (by omega)]
        · rw [if_neg x, if_neg (by omega)]) (fun _ _ y => y))
    have e1 : ic_lk (fun i => if 16 * n + c ≤ i ∧ i < 16 * n + j then some w else A i) (n + 1) j = ic_lk A (n + 1) j :=
      ic_lk_congr (fun m' hm' => if_neg (by omega))
    have e2 : ic_lk (ic_fA A n c d w) (n + 1) j = w := ic_fA_in hcj (by omega)
    rw [e1]
    refine ⟨fun y => ?_, fun y => ?_⟩
    · have hD : ic_df (ic_lk A (n + 1)) (ic_lk (ic_fA A n c d w) (n + 1)) j = false := decide_eq_false (fun z => z (y.trans e2.symm))
      rw [ic_cnt_s, hD, ic_mk_f hD] at k
      exact nm_r (Int32.add_zero _) (nm_r (nI_1 j) k)
    · have hD : ic_df (ic_lk A (n + 1)) (ic_lk (ic_fA A n c d w) (n + 1)) j = true := decide_eq_true (fun z => y (z.trans e2))
      rw [ic_cnt_s, if_pos hD, ← ic_mk_t hD] at k
      exact nm_r (nI_1 _) (nm_r (nI_1 j) k)
end
theorem ic_nZr {n s j : Nat} (hn : n < 4) (hj : j < 16) : ¬ ic_Z n s (4 * n + j / 4) := by
  show ¬ ((n < (4 * n + j / 4) / 4 ∧ (4 * n + j / 4) / 4 < 4) ∨ 4 + s ≤ (4 * n + j / 4) / 4)
  omega
theorem ic_fAB {n s c d : Nat} {w : Int32} {A B : Nat → Option Int32} (h : ic_AB n s A B) : ic_AB n s (ic_fA A n c d w) (ic_fA B n c d w) := by
  intro i hi z
  unfold ic_fA
  rw [h i hi z]
theorem i_vc_fill {k : Nat} {u : SX} {v : SY} (I : i_Rel k u v) (hk : k + 4 ≤ 2048) (v1 : Int32) (v2 : Int32) (v3 : Int32) : wpX_fill (fun r u' => wpY_fill (fun r' v' => r' = r ∧ i_Rel (k + 4) u' v') v v1 v2 v3) u v1 v2 v3 := by
  refine ic_el (P := fun u v => wpX_fill (fun r u' => wpY_fill (fun r' v' => r' = r ∧ i_Rel (k + 4) u' v') v v1 v2 v3) u v1 v2 v3) I ?_
  intro n s F S TU ST SU M C bx sy wo b A B hn hs G R hAB hM J
  unfold wpX_fill
  rcases ic_c16 v1 with h | ⟨c, hc, rfl⟩
  · refine ic_xbad_no h (br_f (by decide) ?_)
    unfold wpY_fill
    exact ic_yc_no h (br_t rfl ⟨rfl, J⟩)
  · refine ic_xbad_ok hc (br_t rfl ?_)
    rcases ic_c16 v2 with h | ⟨d, hd, rfl⟩
    · refine ic_xbad_no h (br_f (by decide) ?_)
      unfold wpY_fill
      refine ic_yc_ok hc (br_f (by decide) ?_)
      exact ic_yc_no h (br_t rfl ⟨rfl, J⟩)
    · refine ic_xbad_ok hd (br_t rfl ?_)
      by_cases hcd : c ≤ d
      · refine br_t (nI_le hcd (by omega)) ?_
        have kx := fun (post : Int32 → SX → Prop) h => ic_xfl29 (post := post) (A := A) (Z := ic_Z n s) (c := c) (w := v3) (fs := nI s) (MK := M) (CP := C) (BF := bx) hn hd (fun j hj => ic_nZr hn hj) h
          (d + 1 - c) c (by omega) (Nat.le_refl _) F S TU ST SU (ic_G_congr G (fun i hi => if_neg (by omega)) (fun _ _ y => y))
        have hz0 : ∀ i, i < c → ic_df (ic_lk A (n + 1)) (ic_lk (ic_fA A n c d v3) (n + 1)) i = false := fun i h1 =>
          decide_eq_false (fun y => y (ic_fA_out (by omega) (by omega) hd).symm)
        rw [ic_cnt_zero hz0, ic_mk_cut (b := 0) (by omega) (fun i _ hi => hz0 i hi), ic_mk_0] at kx
        refine ⟨_, kx _ ?_⟩
        intro F' S' TU' ST' SU' G'
        refine ic_yfl R hn hcd hd (w0 := ic_lk A (n + 1)) (w1 := ic_lk (ic_fA A n c d v3) (n + 1)) (fun i hi => (ic_lkAB hAB hn (by omega) hi).symm)
          (fun i hi => (ic_lkAB (ic_fAB hAB) hn (by omega) hi).symm) ?_
        intro sy' wo' bf' R'
        exact ⟨rfl, ic_in hn hs G' R' (ic_fAB hAB) (ic_MC_mk hM)⟩
      · refine br_f (nI_ge (by omega) (by omega)) ?_
        unfold wpY_fill
        refine ic_yc_ok hc (br_f (by decide) ?_)
        refine ic_yc_ok hd (br_f (by decide) ?_)
        exact br_f (nI_ge (by omega) (by omega)) ⟨rfl, J⟩
theorem i_vc_write {k : Nat} {u : SX} {v : SY} (I : i_Rel k u v) (hk : k + 4 ≤ 2048) (v1 : Int32) (v2 : Int32) : wpX_write (fun r u' => wpY_write (fun r' v' => r' = r ∧ i_Rel (k + 4) u' v') v v1 v2) u v1 v2 := by
  refine ic_el (P := fun u v => wpX_write (fun r u' => wpY_write (fun r' v' => r' = r ∧ i_Rel (k + 4) u' v') v v1 v2) u v1 v2) I ?_
  intro n s F S TU ST SU M C bx sy wo b A B hn hs G R hAB hM J
  rcases ic_c16 v1 with h | ⟨c, hc, rfl⟩
  · unfold wpX_write
    refine ic_xbad_no h (br_f (by decide) ?_)
    unfold wpY_write wpY_fill
    exact ic_yc_no h (br_t rfl ⟨rfl, J⟩)
  · refine ic_xwr G hn hc (ic_nZr hn hc) ?_
    intro F' S' TU' ST' SU' G'
    have G2 : ic_G (ic_fA A n c c v2) (ic_Z n s) F' S' TU' ST' SU' := ic_G_congr G' (fun i hi => by
      show (if 16 * n + c ≤ i ∧ i ≤ 16 * n + c then some v2 else A i) = (if i = 16 * n + c then some v2 else A i)
      by_cases y : i = 16 * n + c
      · rw [if_pos y, if_pos (by omega)]
      · rw [if_neg y, if_neg (by omega)]) (fun _ _ y => y)
    have ho : ∀ i, i < 16 → i ≠ c → ic_df (ic_lk A (n + 1)) (ic_lk (ic_fA A n c c v2) (n + 1)) i = false := fun i hi hne =>
      decide_eq_false (fun y => y (ic_fA_out hi (by omega) hc).symm)
    have e2 : ic_lk (ic_fA A n c c v2) (n + 1) c = v2 := ic_fA_in (Nat.le_refl _) (Nat.le_refl _)
    have fin : ∀ (r : Int32) (M' : Nat → Int32), nI (ic_cnt (ic_df (ic_lk A (n + 1)) (ic_lk (ic_fA A n c c v2) (n + 1))) 16) = r →
        ic_mk (ic_df (ic_lk A (n + 1)) (ic_lk (ic_fA A n c c v2) (n + 1))) M 16 = M' →
        wpY_write (fun r' v' => r' = r ∧ i_Rel (k + 4) (nI (n + 1), nI s, F', S', TU', ST', SU', M', C, bx) v') (nI (n + 1), nI s, sy, wo, M, C, b) (nI c) v2 := by
      intro r M' hr hM'
      unfold wpY_write
      refine ic_yfl R hn (Nat.le_refl c) hc (w0 := ic_lk A (n + 1)) (w1 := ic_lk (ic_fA A n c c v2) (n + 1)) (fun i hi => (ic_lkAB hAB hn (by omega) hi).symm)
        (fun i hi => (ic_lkAB (ic_fAB hAB) hn (by omega) hi).symm) ?_
      intro sy' wo' bf' R'
      rw [hM']
      refine And.intro hr ?_
      rw [← hM']
      exact ic_in hn hs G2 R' (ic_fAB hAB) (ic_MC_mk hM)
    refine ⟨fun y => ?_, fun y => ?_⟩
    · have hD : ic_df (ic_lk A (n + 1)) (ic_lk (ic_fA A n c c v2) (n + 1)) c = false := decide_eq_false (fun z => z (y.trans e2.symm))
      obtain ⟨h1, h2⟩ := ic_one_f (M := M) ho hD
      exact fin 0 M (by rw [h1]; rfl) h2
    · have hD : ic_df (ic_lk A (n + 1)) (ic_lk (ic_fA A n c c v2) (n + 1)) c = true := decide_eq_true (fun z => y (z.trans e2))
      obtain ⟨h1, h2⟩ := ic_one_t (M := M) hc ho hD
      exact fin 1 (upd M c 1) (by rw [h1]; rfl) h2
section
variable {A : Nat → Option Int32} {Z : Nat → Prop} {fi fs : Int32} {F S TU ST SU MK CP BF : Nat → Int32} {B : Nat → Option Int32} {ln tk : Int32} {sy wo ma sa bf : Nat → Int32}
theorem ic_x34 {post : Int32 → SX → Prop} {n c : Nat} {x2 z0 : Int32} (G : ic_G A Z F S TU ST SU) (hn : n < 4) (hc : c < 16) (hz : ¬ Z (4 * n + c / 4))
    (h : ∀ F' S' TU' SU', ic_G (ic_uA A (16 * n + c) none) Z F' S' TU' ST SU' →
      (ic_lk (ic_uA A (16 * n + c) none) (n + 1) c = x2 → post z0 (nI (n + 1), fs, F', S', TU', ST, SU', MK, CP, BF)) ∧
      (¬ ic_lk (ic_uA A (16 * n + c) none) (n + 1) c = x2 → post z0 (nI (n + 1), fs, F', S', TU', ST, SU', upd MK c 1, CP, BF))) :
    wX_discard_34 post (nI c) x2 z0 (nI (n + 1)) fs F S TU ST SU MK CP BF := by
  unfold wX_discard_34
  refine ic_xtop ?_
  refine ic_xsn G (by omega) hc hz ?_
  intro F' S' TU' SU' G'
  refine ic_xword G' hn hc ?_
  obtain ⟨h0, h1⟩ := h F' S' TU' SU' G'
  exact br_c h0 (fun y => ⟨vp_in_nI hc (by decide), nm_r (e' := upd MK c 1) (by rw [nI_clamp (by omega)]; rfl) (h1 y)⟩)
theorem ic_y38 {post : Int32 → SY → Prop} {m c : Nat} {z0 : Int32} {w0 w1 : Nat → Int32} (R : ic_RB B sy wo) (hm : m < 4) (hc : c < 16)
    (hb : ∀ i, i < 16 → bf i = w0 i) (hw1 : ∀ i, i < 16 → ic_lk (ic_uA B (16 * m + c) none) (m + 1) i = w1 i)
    (h : ∀ sy', ic_RB (ic_uA B (16 * m + c) none) sy' wo → post z0 (nI (m + 1), tk, sy', wo, ic_mk (ic_df w0 w1) ma 16, sa, bf)) :
    wY_discard_38 post (nI c) z0 (nI (m + 1)) tk sy wo ma sa bf := by
  unfold wY_discard_38
  rw [nI_pred, ic_q16, nI_clamp (by omega)]
  refine ⟨vp_in_nI (by omega) (by decide), nm_r (e' := upd sy (16 * m + c) 0) rfl ?_⟩
  refine ic_ymc (ic_RB_0 R) (by omega) hb hw1 ?_
  exact h _ (ic_RB_0 R)
end
theorem ic_uAB {n s i : Nat} {x : Option Int32} {A B : Nat → Option Int32} (h : ic_AB n s A B) : ic_AB n s (ic_uA A i x) (ic_uA B i x) := by
  intro j hj z
  unfold ic_uA
  rw [h j hj z]
theorem i_vc_discard {k : Nat} {u : SX} {v : SY} (I : i_Rel k u v) (hk : k + 4 ≤ 2048) (v1 : Int32) : wpX_discard (fun r u' => wpY_discard (fun r' v' => r' = r ∧ i_Rel (k + 4) u' v') v v1) u v1 := by
  refine ic_el (P := fun u v => wpX_discard (fun r u' => wpY_discard (fun r' v' => r' = r ∧ i_Rel (k + 4) u' v') v v1) u v1) I ?_
  intro n s F S TU ST SU M C bx sy wo b A B hn hs G R hAB hM J
  unfold wpX_discard
  rcases ic_c16 v1 with h | ⟨c, hc, rfl⟩
  · refine ic_xbad_no h (br_f (by decide) ?_)
    unfold wpY_discard
    exact ic_yc_no h (br_t rfl ⟨rfl, J⟩)
  · refine ic_xbad_ok hc (br_t rfl ?_)
    refine ic_xword G hn hc ?_
    refine ic_xtop ?_
    refine ic_xen G.1 (by omega) hc ?_
    have eA := G.2.2.2.2 (16 * n + c) (by omega)
    have eB := hAB (16 * n + c) (by omega) (ic_nZ (Nat.le_refl n) hn hc)
    have hout : ∀ i, i < 16 → i ≠ c → ic_lk (ic_uA A (16 * n + c) none) (n + 1) i = ic_lk A (n + 1) i := fun i hi hne =>
      ic_lk_congr (fun m' hm' => ic_uA_n (by omega))
    have ho : ∀ i, i < 16 → i ≠ c → ic_df (ic_lk A (n + 1)) (ic_lk (ic_uA A (16 * n + c) none) (n + 1)) i = false := fun i hi hne =>
      decide_eq_false (fun y => y (hout i hi hne).symm)
    have fin : ∀ (F' S' TU' SU' : Nat → Int32) (r : Int32) (M' : Nat → Int32), ic_G (ic_uA A (16 * n + c) none) (ic_Z n s) F' S' TU' ST SU' →
        ic_mk (ic_df (ic_lk A (n + 1)) (ic_lk (ic_uA A (16 * n + c) none) (n + 1))) M 16 = M' → (sy (16 * n + c) = 0 → r = 0) → (¬ sy (16 * n + c) = 0 → r = 1) →
        wpY_discard (fun r' v' => r' = r ∧ i_Rel (k + 4) (nI (n + 1), nI s, F', S', TU', ST, SU', M', C, bx) v') (nI (n + 1), nI s, sy, wo, M, C, b) (nI c) := by
      intro F' S' TU' SU' r M' G' hM' h0 h1
      unfold wpY_discard
      refine ic_yc_ok hc (br_f (by decide) ?_)
      refine ic_ynw R (by omega) ?_
      intro bf' hb
      have h38 : ∀ z0 : Int32, z0 = r → wY_discard_38 (fun r' v' => r' = r ∧ i_Rel (k + 4) (nI (n + 1), nI s, F', S', TU', ST, SU', M', C, bx) v') (nI c) z0 (nI (n + 1)) (nI s) sy wo M C bf' := by
        intro z0 hz0
        refine ic_y38 R hn hc (w0 := ic_lk A (n + 1)) (w1 := ic_lk (ic_uA A (16 * n + c) none) (n + 1)) (fun i hi => (hb i hi).trans (ic_lkAB hAB hn (by omega) hi).symm)
          (fun i hi => (ic_lkAB (ic_uAB hAB) hn (by omega) hi).symm) ?_
        intro sy' R'
        rw [hM']
        refine And.intro hz0 ?_
        rw [← hM']
        exact ic_in hn hs G' R' (ic_uAB hAB) (ic_MC_mk hM)
      dsimp only
      rw [nI_pred, ic_q16, nI_clamp (by omega)]
      exact ⟨vp_in_nI (by omega) (by decide), br_c (fun z => h38 0 (h0 z).symm) (fun z => h38 1 (h1 z).symm)⟩
    have go : ∀ r : Int32, (sy (16 * n + c) = 0 → r = 0) → (¬ sy (16 * n + c) = 0 → r = 1) →
        wX_discard_34 (fun r u' => wpY_discard (fun r' v' => r' = r ∧ i_Rel (k + 4) u' v') (nI (n + 1), nI s, sy, wo, M, C, b) (nI c)) (nI c) (ic_lk A (n + 1) c) r (nI (n + 1)) (nI s) F S TU ST SU M C bx := by
      intro r h0 h1
      refine ic_x34 G hn hc (ic_nZr hn hc) ?_
      intro F' S' TU' SU' G'
      refine ⟨fun y => ?_, fun y => ?_⟩
      · have hD : ic_df (ic_lk A (n + 1)) (ic_lk (ic_uA A (16 * n + c) none) (n + 1)) c = false := decide_eq_false (fun z => z y.symm)
        exact fin F' S' TU' SU' r M G' (ic_one_f (M := M) ho hD).2 h0 h1
      · have hD : ic_df (ic_lk A (n + 1)) (ic_lk (ic_uA A (16 * n + c) none) (n + 1)) c = true := decide_eq_true (fun z => y z.symm)
        exact fin F' S' TU' SU' r (upd M c 1) G' (ic_one_t (M := M) hc ho hD).2 h0 h1
    by_cases z : ic_en F S (16 * n + c) = -1
    · rw [z, ic_ab_m1] at eA
      refine br_t z (go 0 (fun _ => rfl) (fun y => ?_))
      rcases R (16 * n + c) (by omega) with ⟨e, e'⟩ | ⟨e, e'⟩
      · exact absurd e y
      · rw [← eB, eA] at e'
        exact absurd e' (by simp)
    · rw [ic_ab_n z] at eA
      refine br_f z (go 1 (fun y => ?_) (fun _ => rfl))
      rcases R (16 * n + c) (by omega) with ⟨e, e'⟩ | ⟨e, e'⟩
      · rw [← eB, eA] at e'
        exact absurd e' (by simp)
      · rw [e] at y
        exact absurd y (by decide)
end
section
/-! snapshot, revert, forget -/
theorem ic_Z_iff {n s k : Nat} : ic_Z n s k ↔ ((n < k / 4 ∧ k / 4 < 4) ∨ 4 + s ≤ k / 4) := Iff.rfl
theorem i_vc_snapshot {k : Nat} {u : SX} {v : SY} (I : i_Rel k u v) (hk : k + 4 ≤ 2048) : wpX_snapshot (fun r u' => wpY_snapshot (fun r' v' => r' = r ∧ i_Rel (k + 4) u' v') v) u := by
  refine ic_el (P := fun u v => wpX_snapshot (fun r u' => wpY_snapshot (fun r' v' => r' = r ∧ i_Rel (k + 4) u' v') v) u) I ?_
  intro n s F S TU ST SU M C bx sy wo b A B hn hs G R hAB hM J
  by_cases h4 : s = 4
  · have e : nI s = 4 := by rw [h4]; rfl
    exact br_t e (br_t e (And.intro rfl J))
  · have e : ¬ nI s = 4 := fun z => h4 ((nI_eq (a := s) (b := 4) (by omega) (by omega)).mp z)
    refine br_f e ?_
    refine ic_xtop ?_
    rw [ic_4p]
    refine ic_xsh G (f := 4 + s) (g := n) (by omega) (by omega) (by omega) (fun k hk e => Or.inr (by omega)) ?_
    intro F' TU' G'
    refine nm_r (nI_1 s) ?_
    rw [nI_pred]
    refine br_f e ?_
    rw [nI_pred, ic_4p]
    refine ic_ycl R (f := 4 + s) (g := n) (by omega) (by omega) (by omega) ?_
    intro sy' wo' R'
    refine nm_r (nI_1 s) ?_
    rw [nI_pred]
    refine ⟨rfl, ic_in (n := n) (s := s + 1) hn (by omega) (ic_G_congr G' (fun _ _ => rfl) ?_) R' ?_ ?_⟩
    · intro k hk z
      rw [ic_Z_iff] at z
      show k / 4 ≠ 4 + s ∧ ic_Z n s k
      rw [ic_Z_iff]
      omega
    · intro i hi z
      rw [ic_Z_iff] at z
      show (if i / 16 = 4 + s then A (16 * n + i % 16) else A i) = (if i / 16 = 4 + s then B (16 * n + i % 16) else B i)
      by_cases y : i / 16 = 4 + s
      · rw [if_pos y, if_pos y]
        exact hAB _ (by omega) (ic_nZ (Nat.le_refl _) hn (by omega))
      · rw [if_neg y, if_neg y]
        refine hAB i hi ?_
        rw [ic_Z_iff]
        omega
    · intro c hc z
      refine (hM c hc z).trans (ic_lk_congr fun m hm => ?_)
      exact (if_neg (by omega)).symm
theorem i_vc_revert {k : Nat} {u : SX} {v : SY} (I : i_Rel k u v) (hk : k + 4 ≤ 2048) (v1 : Int32) : wpX_revert (fun r u' => wpY_revert (fun r' v' => r' = r ∧ i_Rel (k + 4) u' v') v v1) u v1 := by
  refine ic_el (P := fun u v => wpX_revert (fun r u' => wpY_revert (fun r' v' => r' = r ∧ i_Rel (k + 4) u' v') v v1) u v1) I ?_
  intro n s F S TU ST SU M C bx sy wo b A B hn hs G R hAB hM J
  unfold wpX_revert
  rcases ic_cs v1 hs with h | ⟨t, ht, rfl⟩
  · refine ic_xns_no hs h (br_f (by decide) ?_)
    unfold wpY_revert
    exact ic_ys_no hs h (br_t rfl ⟨rfl, J⟩)
  · refine ic_xns_ok ht hs (br_t rfl ?_)
    refine ic_xkw G hn ?_
    intro bx' hbx
    refine ic_xtop ?_
    refine ic_xclr G (by omega) ?_
    intro F1 TU1 SU1 G1
    refine ic_xtop ?_
    rw [ic_4p]
    refine ic_xsh G1 (f := n) (g := 4 + t) (by omega) (by omega) (by omega) (fun k hk e => Or.inl e) ?_
    intro F2 TU2 G2
    have G3 : ic_G (fun i => if i / 16 = n then A (16 * (4 + t) + i % 16) else A i) (ic_Z n s) F2 S TU2 ST SU1 := by
      refine ic_G_congr G2 ?_ ?_
      · intro i hi
        show (if i / 16 = n then A (16 * (4 + t) + i % 16) else A i)
          = (if i / 16 = n then (if (16 * (4 + t) + i % 16) / 16 = n then none else A (16 * (4 + t) + i % 16)) else (if i / 16 = n then none else A i))
        by_cases y : i / 16 = n
        · rw [if_pos y, if_pos y, if_neg (by omega)]
        · rw [if_neg y, if_neg y, if_neg y]
      · intro k hk z
        have z1 := ic_Z_iff.mp z
        exact ⟨by omega, Or.inr z⟩
    refine ic_xmc G3 hn (w0 := ic_lk A (n + 1)) (w1 := ic_lk (fun i => if i / 16 = n then A (16 * (4 + t) + i % 16) else A i) (n + 1)) hbx (fun _ _ => rfl) ?_
    have hAB' : ic_AB n s (fun i => if i / 16 = n then A (16 * (4 + t) + i % 16) else A i) (fun i => if i / 16 = n then B (16 * (4 + t) + i % 16) else B i) := by
      intro i hi z
      show (if i / 16 = n then A (16 * (4 + t) + i % 16) else A i) = (if i / 16 = n then B (16 * (4 + t) + i % 16) else B i)
      rw [hAB i hi z, hAB (16 * (4 + t) + i % 16) (by omega) (ic_nZs ht (by omega))]
    unfold wpY_revert
    refine ic_ys_ok ht hs (br_f (by decide) ?_)
    refine ic_ynw R (by omega) ?_
    intro bf' hb
    dsimp only
    rw [ic_4p, nI_pred]
    refine ic_ycl R (f := n) (g := 4 + t) (by omega) (by omega) (by omega) ?_
    intro sy' wo' R'
    refine ic_ymc R' (by omega) (w0 := ic_lk A (n + 1)) (w1 := ic_lk (fun i => if i / 16 = n then A (16 * (4 + t) + i % 16) else A i) (n + 1))
      (fun i hi => (hb i hi).trans (ic_lkAB hAB hn (by omega) hi).symm) (fun i hi => (ic_lkAB hAB' hn (by omega) hi).symm) ?_
    exact ⟨rfl, ic_in hn hs G3 R' hAB' (ic_MC_mk hM)⟩
section
variable {A : Nat → Option Int32} {Z : Nat → Prop} {fi fs : Int32} {F S TU ST SU MK CP BF : Nat → Int32} {B : Nat → Option Int32} {ln tk : Int32} {sy wo ma sa bf : Nat → Int32}
theorem ic_x4q (s : Nat) : (4 + nI s) * 4 = nI (4 * (4 + s)) := by
  have e : nI (4 + s) * 4 = nI ((4 + s) * 4) := pk_mul (4 + s) 4
  rw [ic_4p, e, Nat.mul_comm]
theorem ic_p4 (k : Nat) : nI k + 4 = nI (k + 4) := nI_add k 4
theorem ic_xfg34 {post : Int32 → SX → Prop} {t s' : Nat} (ht : t ≤ s') (hs : s' < 4) (hZ : ∀ x, 16 ≤ x → x < 4 * (4 + s') → ¬ Z x)
    (h : ∀ F', ic_G (fun i => if 16 * (4 + t) ≤ i ∧ i < 16 * (4 + s') then A (i + 16) else if i / 16 = 4 + s' then none else A i) (fun x => x / 4 = 4 + s' ∨ Z x) F' S TU ST SU →
      post (nI s') (fi, nI s', F', S, TU, ST, SU, MK, CP, BF)) :
    ∀ d j, j + d = 4 * (4 + s') → 4 * (4 + t) ≤ j → ∀ F,
      ic_G (fun i => if i / 4 < 4 * (4 + t) then A i else if i / 4 < j then A (i + 16) else if i / 4 < j + 4 then none else A i) (fun x => (j ≤ x ∧ x < j + 4) ∨ Z x) F S TU ST SU →
      wX_forget_34 post fi (nI s') (d + 1) (nI j) F S TU ST SU MK CP BF := by
  intro d
  induction d with
  | zero =>
    intro j hj htj F G
    have e : j = 4 * (4 + s') := by omega
    subst e
    refine br_t (by rw [ic_x4q]; exact nI_le (Nat.le_refl _) (by omega)) (h F (ic_G_congr G ?_ ?_))
    · intro i hi
      show (if 16 * (4 + t) ≤ i ∧ i < 16 * (4 + s') then A (i + 16) else if i / 16 = 4 + s' then none else A i)
        = (if i / 4 < 4 * (4 + t) then A i else if i / 4 < 4 * (4 + s') then A (i + 16) else if i / 4 < 4 * (4 + s') + 4 then none else A i)
      by_cases y : i / 4 < 4 * (4 + t)
      · rw [if_pos y, if_neg (by omega), if_neg (by omega)]
      · rw [if_neg y]
        by_cases y2 : i / 4 < 4 * (4 + s')
        · rw [if_pos y2, if_pos (by omega)]
        · rw [if_neg y2, if_neg (by omega)]
          by_cases y3 : i / 4 < 4 * (4 + s') + 4
          · rw [if_pos y3, if_pos (by omega)]
          · rw [if_neg y3, if_neg (by omega)]
    · intro x hx z
      rcases z with z | z
      · exact Or.inl (by omega)
      · exact Or.inr z
  | succ d ih =>
    intro j hj htj F G
    refine br_f (by rw [ic_x4q]; exact nI_ge (by omega) (by omega)) ?_
    rw [ic_p4, nI_clamp (n := j + 4) (by omega), nI_clamp (n := j) (by omega)]
    refine ⟨vp_in_nI (by omega) (by decide), vp_in_nI (by omega) (by decide), nm_e ⟨vp_in_nI (by omega) (by decide), nm_e (nm_r (nI_1 j) (ih (j + 1) (by omega) (by omega) _ ?_))⟩⟩
    have G1 := ic_G_mv G (b := j) (a := j + 4) (by omega) (by omega) (by omega) (G.2.1 j (by omega) (Or.inl ⟨by omega, by omega⟩))
    refine ic_G_congr G1 ?_ ?_
    · intro i hi
      show (if i / 4 < 4 * (4 + t) then A i else if i / 4 < j + 1 then A (i + 16) else if i / 4 < j + 1 + 4 then none else A i)
        = (if i / 4 = j + 4 then none else (if i / 4 = j then
            (if (4 * (j + 4) + i % 4) / 4 < 4 * (4 + t) then A (4 * (j + 4) + i % 4) else if (4 * (j + 4) + i % 4) / 4 < j then A (4 * (j + 4) + i % 4 + 16) else if (4 * (j + 4) + i % 4) / 4 < j + 4 then none else A (4 * (j + 4) + i % 4))
            else (if i / 4 < 4 * (4 + t) then A i else if i / 4 < j then A (i + 16) else if i / 4 < j + 4 then none else A i)))
      by_cases y : i / 4 = j + 4
      · rw [if_pos y, if_neg (by omega), if_neg (by omega), if_pos (by omega)]
      · rw [if_neg y]
        by_cases y2 : i / 4 = j
        · rw [if_pos y2, if_neg (by omega), if_pos (by omega), if_neg (by omega), if_neg (by omega), if_neg (by omega)]
          exact congrArg A (by omega)
        · rw [if_neg y2]
          by_cases y3 : i / 4 < 4 * (4 + t)
          · rw [if_pos y3, if_pos y3]
          · rw [if_neg y3, if_neg y3]
            by_cases y4 : i / 4 < j
            · rw [if_pos y4, if_pos (by omega)]
            · rw [if_neg y4, if_neg (by omega)]
              by_cases y5 : i / 4 < j + 4
              · rw [if_pos y5, if_pos (by omega)]
              · rw [if_neg y5, if_neg (by omega)]
    · intro x hx z
      show x = j + 4 ∨ (x ≠ j ∧ ((j ≤ x ∧ x < j + 4) ∨ Z x))
      by_cases y : x = j + 4
      · exact Or.inl y
      · refine Or.inr ?_
        rcases z with z | z
        · exact ⟨by omega, Or.inl (by omega)⟩
        · by_cases y2 : x = j
          · exact absurd z (hZ x (by omega) (by omega))
          · exact ⟨y2, Or.inr z⟩
theorem ic_5p (t : Nat) : 5 + nI t = nI (5 + t) := nI_add 5 t
theorem ic_yfg13 {post : Int32 → SY → Prop} {t s' : Nat} (hs : s' < 4)
    (h : ∀ sy' wo', ic_RB (fun i => if 16 * (4 + t) ≤ i ∧ i < 16 * (4 + s') then B (i + 16) else B i) sy' wo' → post (nI s') (ln, nI s', sy', wo', ma, sa, bf)) :
    ∀ d x, x + d = s' → t ≤ x → ∀ sy wo, ic_RB (fun i => if 16 * (4 + t) ≤ i ∧ i < 16 * (4 + x) then B (i + 16) else B i) sy wo →
      wY_forget_13 post (d + 1) (nI x) ln (nI (s' + 1)) sy wo ma sa bf := by
  intro d
  induction d with
  | zero =>
    intro x hx htx sy wo R
    have e : x = s' := by omega
    subst e
    exact br_t (by rw [nI_pred]; exact nI_le (Nat.le_refl _) (by omega)) (nm_r (nI_pred x) (h sy wo R))
  | succ d ih =>
    intro x hx htx sy wo R
    refine br_f (by rw [nI_pred]; exact nI_ge (by omega) (by omega)) ?_
    rw [ic_5p, ic_4p]
    refine ic_ycl R (f := 4 + x) (g := 5 + x) (by omega) (by omega) (by omega) ?_
    intro sy' wo' R'
    refine nm_r (nI_1 x) (ih (x + 1) (by omega) (by omega) sy' wo' (ic_RB_congr R' ?_))
    intro i hi
    show (if 16 * (4 + t) ≤ i ∧ i < 16 * (4 + (x + 1)) then B (i + 16) else B i)
      = (if i / 16 = 4 + x then (if 16 * (4 + t) ≤ 16 * (5 + x) + i % 16 ∧ 16 * (5 + x) + i % 16 < 16 * (4 + x) then B (16 * (5 + x) + i % 16 + 16) else B (16 * (5 + x) + i % 16))
        else (if 16 * (4 + t) ≤ i ∧ i < 16 * (4 + x) then B (i + 16) else B i))
    by_cases y : i / 16 = 4 + x
    · rw [if_pos y, if_pos (by omega), if_neg (by omega)]
      exact congrArg B (by omega)
    · rw [if_neg y]
      by_cases w : 16 * (4 + t) ≤ i ∧ i < 16 * (4 + x)
      · rw [if_pos w, if_pos (by omega)]
      · rw [if_neg w, if_neg (by omega)]
end
theorem i_vc_forget {k : Nat} {u : SX} {v : SY} (I : i_Rel k u v) (hk : k + 4 ≤ 2048) (v1 : Int32) : wpX_forget (fun r u' => wpY_forget (fun r' v' => r' = r ∧ i_Rel (k + 4) u' v') v v1) u v1 := by
  refine ic_el (P := fun u v => wpX_forget (fun r u' => wpY_forget (fun r' v' => r' = r ∧ i_Rel (k + 4) u' v') v v1) u v1) I ?_
  intro n s F S TU ST SU M C bx sy wo b A B hn hs G R hAB hM J
  unfold wpX_forget
  rcases ic_cs v1 hs with h | ⟨t, ht, rfl⟩
  · refine ic_xns_no hs h (br_f (by decide) ?_)
    unfold wpY_forget
    exact ic_ys_no hs h (br_t rfl ⟨rfl, J⟩)
  · obtain ⟨s', rfl⟩ : ∃ s', s = s' + 1 := ⟨s - 1, by omega⟩
    refine ic_xns_ok ht hs (br_t rfl ?_)
    rw [ic_4p]
    refine ic_xclr G (f := 4 + t) (by omega) ?_
    intro F1 TU1 SU1 G1
    refine nm_r (nI_pred s') (nm_r (e' := nI (4 * (4 + t))) (by first | exact ic_x4q t | (rw [← ic_4p]; exact ic_x4q t)) ⟨4 * (4 + s') - 4 * (4 + t) + 1, ?_⟩)
    refine ic_xfg34 (A := A) (Z := ic_Z n (s' + 1)) (t := t) (by omega) (by omega) ?_ ?_ (4 * (4 + s') - 4 * (4 + t)) (4 * (4 + t)) (by omega) (Nat.le_refl _) F1 (ic_G_congr G1 ?_ ?_)
    · intro x h1 h2
      rw [ic_Z_iff]
      omega
    · intro F2 G2
      unfold wpY_forget
      refine ic_ys_ok ht hs (br_f (by decide) ⟨s' - t + 1, ?_⟩)
      refine ic_yfg13 (B := B) (t := t) (by omega) ?_ (s' - t) t (by omega) (Nat.le_refl _) sy wo (ic_RB_congr R (fun i hi => if_neg (by omega)))
      intro sy' wo' R'
      refine ⟨rfl, ic_in (n := n) (s := s') hn (by omega) (ic_G_congr G2 (fun _ _ => rfl) ?_) R' ?_ ?_⟩
      · intro x hx z
        rw [ic_Z_iff] at z
        show x / 4 = 4 + s' ∨ ic_Z n (s' + 1) x
        rw [ic_Z_iff]
        omega
      · intro i hi z
        rw [ic_Z_iff] at z
        show (if 16 * (4 + t) ≤ i ∧ i < 16 * (4 + s') then A (i + 16) else if i / 16 = 4 + s' then none else A i) = (if 16 * (4 + t) ≤ i ∧ i < 16 * (4 + s') then B (i + 16) else B i)
        by_cases y : 16 * (4 + t) ≤ i ∧ i < 16 * (4 + s')
        · rw [if_pos y, if_pos y]
          refine hAB _ (by omega) ?_
          rw [ic_Z_iff]
          omega
        · rw [if_neg y, if_neg y, if_neg (by omega)]
          refine hAB _ hi ?_
          rw [ic_Z_iff]
          omega
      · intro c hc z
        refine (hM c hc z).trans (ic_lk_congr fun m hm => ?_)
        show A (16 * m + c) = (if 16 * (4 + t) ≤ 16 * m + c ∧ 16 * m + c < 16 * (4 + s') then A (16 * m + c + 16) else if (16 * m + c) / 16 = 4 + s' then none else A (16 * m + c))
        rw [if_neg (by omega), if_neg (by omega)]
    · intro i hi
      show (if i / 4 < 4 * (4 + t) then A i else if i / 4 < 4 * (4 + t) then A (i + 16) else if i / 4 < 4 * (4 + t) + 4 then none else A i) = (if i / 16 = 4 + t then none else A i)
      by_cases y : i / 4 < 4 * (4 + t)
      · rw [if_pos y, if_neg (by omega)]
      · rw [if_neg y, if_neg y]
        by_cases w : i / 16 = 4 + t
        · rw [if_pos w, if_pos (by omega)]
        · rw [if_neg w, if_neg (by omega)]
    · intro x hx z
      show x / 4 = 4 + t ∨ ic_Z n (s' + 1) x
      rcases z with z | z
      · exact Or.inl (by omega)
      · exact Or.inr z
end
section
/-! commit, abandon, pull -/
def ic_or (x y : Option Int32) : Option Int32 := match x with
  | some w => some w
  | none => y
theorem ic_or_n (y : Option Int32) : ic_or none y = y := rfl
theorem ic_or_s (w : Int32) (y : Option Int32) : ic_or (some w) y = some w := rfl
theorem ic_or_rn (x : Option Int32) : ic_or x none = x := by cases x <;> rfl
def ic_cA (A : Nat → Option Int32) (m j : Nat) : Nat → Option Int32 := fun i => if 16 * m ≤ i ∧ i < 16 * m + j then ic_or (A (i + 16)) (A i) else A i
def ic_pA (A : Nat → Option Int32) (m j : Nat) : Nat → Option Int32 := fun i => if 16 * (m + 1) ≤ i ∧ i < 16 * (m + 1) + j then ic_or (A i) (A (i - 16)) else A i
def ic_cl1 (A : Nat → Option Int32) (m : Nat) : Nat → Option Int32 := fun i => if i / 16 = m + 1 then none else ic_cA A m 16 i
def ic_sd (A : Nat → Option Int32) (m : Nat) : Nat → Bool := fun c => (A (16 * (m + 1) + c)).isSome
section
variable {A : Nat → Option Int32} {m j : Nat}
theorem ic_cA_top {c : Nat} (hj : j ≤ 16) : ic_cA A m j (16 * (m + 1) + c) = A (16 * (m + 1) + c) := if_neg (by omega)
theorem ic_cA_none (h : A (16 * (m + 1) + j) = none) (i : Nat) : ic_cA A m (j + 1) i = ic_cA A m j i := by
  unfold ic_cA
  by_cases y : i = 16 * m + j
  · rw [if_pos (by omega), if_neg (by omega), show i + 16 = 16 * (m + 1) + j by omega, h, ic_or_n]
  · by_cases w : 16 * m ≤ i ∧ i < 16 * m + j
    · rw [if_pos w, if_pos (by omega)]
    · rw [if_neg w, if_neg (by omega)]
theorem ic_cA_some {w : Int32} (h : A (16 * (m + 1) + j) = some w) (i : Nat) : ic_cA A m (j + 1) i = ic_uA (ic_cA A m j) (16 * m + j) (some w) i := by
  by_cases y : i = 16 * m + j
  · subst y
    rw [ic_uA_s]
    unfold ic_cA
    rw [if_pos (by omega), show 16 * m + j + 16 = 16 * (m + 1) + j by omega, h, ic_or_s]
  · rw [ic_uA_n y]
    unfold ic_cA
    by_cases z : 16 * m ≤ i ∧ i < 16 * m + j
    · rw [if_pos z, if_pos (by omega)]
    · rw [if_neg z, if_neg (by omega)]
theorem ic_cA_lk {c : Nat} (hc : c < 16) : ic_lk (ic_cA A m 16) (m + 1) c = ic_lk A (m + 1 + 1) c := by
  have e1 : ic_cA A m 16 (16 * m + c) = ic_or (A (16 * m + c + 16)) (A (16 * m + c)) := if_pos (by omega)
  have e2 : ic_lk (ic_cA A m 16) m c = ic_lk A m c := ic_lk_congr (fun m' hm' => if_neg (by omega))
  rw [ic_lk_s, ic_lk_s, ic_lk_s, e1, e2, show 16 * m + c + 16 = 16 * (m + 1) + c by omega]
  cases A (16 * (m + 1) + c) with
  | none => rfl
  | some w => rfl
theorem ic_cl1_lk {c : Nat} (hc : c < 16) : ic_lk (ic_cl1 A m) (m + 1) c = ic_lk A (m + 1 + 1) c := by
  rw [← ic_cA_lk hc]
  exact ic_lk_congr (fun m' hm' => if_neg (by omega))
theorem ic_pA_lo {c : Nat} (hc : c < 16) : ic_pA A m j (16 * m + c) = A (16 * m + c) := if_neg (by omega)
theorem ic_pA_hi : ic_pA A m j (16 * (m + 1) + j) = A (16 * (m + 1) + j) := if_neg (by omega)
theorem ic_pA_eq (h : ic_or (A (16 * (m + 1) + j)) (A (16 * m + j)) = A (16 * (m + 1) + j)) (i : Nat) : ic_pA A m (j + 1) i = ic_pA A m j i := by
  unfold ic_pA
  by_cases y : i = 16 * (m + 1) + j
  · subst y
    rw [if_pos (by omega), if_neg (by omega), show 16 * (m + 1) + j - 16 = 16 * m + j by omega, h]
  · by_cases w : 16 * (m + 1) ≤ i ∧ i < 16 * (m + 1) + j
    · rw [if_pos w, if_pos (by omega)]
    · rw [if_neg w, if_neg (by omega)]
theorem ic_pA_put {x : Option Int32} (h : ic_or (A (16 * (m + 1) + j)) (A (16 * m + j)) = x) (i : Nat) : ic_pA A m (j + 1) i = ic_uA (ic_pA A m j) (16 * (m + 1) + j) x i := by
  by_cases y : i = 16 * (m + 1) + j
  · subst y
    rw [ic_uA_s]
    unfold ic_pA
    rw [if_pos (by omega), show 16 * (m + 1) + j - 16 = 16 * m + j by omega, h]
  · rw [ic_uA_n y]
    unfold ic_pA
    by_cases w : 16 * (m + 1) ≤ i ∧ i < 16 * (m + 1) + j
    · rw [if_pos w, if_pos (by omega)]
    · rw [if_neg w, if_neg (by omega)]
end
theorem ic_cAB {m s : Nat} {A B : Nat → Option Int32} (hm : m < 3) (h : ic_AB (m + 1) s A B) : ic_AB m s (ic_cl1 A m) (ic_cA B m 16) := by
  intro i hi z
  rw [ic_Z_iff] at z
  show (if i / 16 = m + 1 then none else (if 16 * m ≤ i ∧ i < 16 * m + 16 then ic_or (A (i + 16)) (A i) else A i)) = (if 16 * m ≤ i ∧ i < 16 * m + 16 then ic_or (B (i + 16)) (B i) else B i)
  rw [if_neg (by omega)]
  have e1 : A i = B i := h i hi (by rw [ic_Z_iff]; omega)
  by_cases y : 16 * m ≤ i ∧ i < 16 * m + 16
  · have e2 : A (i + 16) = B (i + 16) := h (i + 16) (by omega) (by rw [ic_Z_iff]; omega)
    rw [if_pos y, if_pos y, e1, e2]
  · rw [if_neg y, if_neg y, e1]
theorem ic_sdAB {m s : Nat} {A B : Nat → Option Int32} (hm : m < 3) (h : ic_AB (m + 1) s A B) : ic_cnt (ic_sd B m) 16 = ic_cnt (ic_sd A m) 16 := by
  refine ic_cnt_congr fun i hi => ?_
  show (B (16 * (m + 1) + i)).isSome = (A (16 * (m + 1) + i)).isSome
  rw [h (16 * (m + 1) + i) (by omega) (ic_nZ (Nat.le_refl _) (by omega) hi)]
section
variable {A : Nat → Option Int32} {Z : Nat → Prop} {fi fs : Int32} {F S TU ST SU MK CP BF : Nat → Int32} {B : Nat → Option Int32} {ln tk : Int32} {sy wo ma sa bf : Nat → Int32}
theorem ic_xcm22 {post : Int32 → SX → Prop} {m : Nat} (hm : m < 3) (hz : ∀ j, j < 16 → ¬ Z (4 * m + j / 4))
    (h : ∀ F' S' TU' ST' SU', ic_G (ic_cl1 A m) (fun x => x / 4 = m + 1 ∨ Z x) F' S' TU' ST' SU' →
      post (nI (ic_cnt (ic_sd A m) 16)) (nI (m + 1), fs, F', S', TU', ST', SU', MK, CP, BF)) :
    ∀ d j, j + d = 16 → ∀ F S TU ST SU, ic_G (ic_cA A m j) Z F S TU ST SU → wX_commit_22 post (d + 1) (nI (ic_cnt (ic_sd A m) j)) (nI j) (nI (m + 1 + 1)) fs F S TU ST SU MK CP BF := by
  intro d
  induction d with
  | zero =>
    intro j hj F S TU ST SU G
    have e : j = 16 := by omega
    subst e
    refine br_t (show (16 : Int32) ≤ nI 16 by decide) ?_
    refine ic_xtop ?_
    refine ic_xclr G (by omega) ?_
    intro F' TU' SU' G'
    exact nm_r (nI_pred (m + 1)) (h F' S TU' ST SU' G')
  | succ d ih =>
    intro j hj F S TU ST SU G
    refine br_f (nI_ge (b := 16) (by omega) (by decide)) ?_
    refine ic_xtop ?_
    refine ic_xen G.1 (by omega) (by omega) ?_
    have eA := G.2.2.2.2 (16 * (m + 1) + j) (by omega)
    rw [ic_cA_top (by omega)] at eA
    by_cases z : ic_en F S (16 * (m + 1) + j) = -1
    · rw [z, ic_ab_m1] at eA
      have k := ih (j + 1) (by omega) F S TU ST SU (ic_G_congr G (fun i _ => ic_cA_none eA i) (fun _ _ y => y))
      have hD : ic_sd A m j = false := by
        show (A (16 * (m + 1) + j)).isSome = false
        rw [eA]
        rfl
      rw [ic_cnt_s, hD] at k
      exact br_t z (nm_r (nI_1 j) k)
    · rw [ic_ab_n z] at eA
      refine br_f z ?_
      refine ic_xwo (ic_en_VE G.1 (by omega)) ?_
      refine ic_xtop ?_
      rw [nI_pred]
      refine ic_xsay G (by omega) (by omega) (hz j (by omega)) ?_
      intro F' S' TU' ST' SU' G'
      have k := ih (j + 1) (by omega) F' S' TU' ST' SU' (ic_G_congr G' (fun i _ => ic_cA_some eA i) (fun _ _ y => y))
      have hD : ic_sd A m j = true := by
        show (A (16 * (m + 1) + j)).isSome = true
        rw [eA]
        rfl
      rw [ic_cnt_s, if_pos hD] at k
      exact nm_r (nI_1 _) (nm_r (nI_1 j) k)
theorem ic_ycm27 {post : Int32 → SY → Prop} {m : Nat} (hm : m < 3)
    (h : ∀ sy' wo', ic_RB (ic_cA B m 16) sy' wo' → post (nI (ic_cnt (ic_sd B m) 16)) (nI (m + 1), tk, sy', wo', ma, sa, bf)) :
    ∀ d j, j + d = 16 → ∀ sy wo, ic_RB (ic_cA B m j) sy wo → wY_commit_27 post (nI (m + 1)) (nI (m + 1 + 1)) tk (d + 1) (nI j) sy wo ma sa bf := by
  intro d
  induction d with
  | zero =>
    intro j hj sy wo R
    have e : j = 16 := by omega
    subst e
    refine br_t (show (16 : Int32) ≤ nI 16 by decide) (nm_r (nI_pred (m + 1)) ?_)
    refine ic_ycs R (by omega) ?_
    have e : ic_cnt (fun c => (ic_cA B m 16 (16 * (m + 1) + c)).isSome) 16 = ic_cnt (ic_sd B m) 16 := by
      refine ic_cnt_congr fun i hi => ?_
      show (ic_cA B m 16 (16 * (m + 1) + i)).isSome = (B (16 * (m + 1) + i)).isSome
      rw [ic_cA_top (by omega)]
    rw [← e] at h
    exact h sy wo R
  | succ d ih =>
    intro j hj sy wo R
    refine br_f (nI_ge (b := 16) (by omega) (by decide)) ?_
    rw [nI_pred, ic_q16, ic_q16, nI_clamp (n := 16 * (m + 1) + j) (by omega), nI_clamp (n := 16 * m + j) (by omega)]
    refine ⟨vp_in_nI (by omega) (by decide), ?_⟩
    rcases R (16 * (m + 1) + j) (by omega) with ⟨e, e'⟩ | ⟨e, e'⟩
    · rw [ic_cA_top (by omega)] at e'
      exact br_t e (nm_r (nI_1 j) (ih (j + 1) (by omega) sy wo (ic_RB_congr R (fun i _ => ic_cA_none e' i))))
    · rw [ic_cA_top (by omega)] at e'
      exact br_f (by rw [e]; decide) ⟨vp_in_nI (by omega) (by decide), nm_e ⟨vp_in_nI (by omega) (by decide), vp_in_nI (by omega) (by decide),
        nm_e (nm_r (nI_1 j) (ih (j + 1) (by omega) _ _ (ic_RB_congr (ic_RB_1 R) (fun i _ => ic_cA_some e' i))))⟩⟩
theorem ic_ypl20 {post : Int32 → SY → Prop} {m : Nat} (hm : m < 3)
    (h : ∀ sy' wo', ic_RB (ic_cA B m 16) sy' wo' → post (nI (m + 1)) (nI (m + 1), tk, sy', wo', ma, sa, bf)) :
    ∀ d j, j + d = 16 → ∀ sy wo, ic_RB (ic_cA B m j) sy wo → wY_pull_20 post (nI (m + 1)) (nI (m + 1 + 1)) tk (d + 1) (nI j) sy wo ma sa bf := by
  intro d
  induction d with
  | zero =>
    intro j hj sy wo R
    have e : j = 16 := by omega
    subst e
    exact br_t (show (16 : Int32) ≤ nI 16 by decide) (nm_r (nI_pred (m + 1)) (h sy wo R))
  | succ d ih =>
    intro j hj sy wo R
    refine br_f (nI_ge (b := 16) (by omega) (by decide)) ?_
    rw [nI_pred, ic_q16, ic_q16, nI_clamp (n := 16 * (m + 1) + j) (by omega), nI_clamp (n := 16 * m + j) (by omega)]
    refine ⟨vp_in_nI (by omega) (by decide), ?_⟩
    rcases R (16 * (m + 1) + j) (by omega) with ⟨e, e'⟩ | ⟨e, e'⟩
    · rw [ic_cA_top (by omega)] at e'
      exact br_t e (nm_r (nI_1 j) (ih (j + 1) (by omega) sy wo (ic_RB_congr R (fun i _ => ic_cA_none e' i))))
    · rw [ic_cA_top (by omega)] at e'
      exact br_f (by rw [e]; decide) ⟨vp_in_nI (by omega) (by decide), nm_e ⟨vp_in_nI (by omega) (by decide), vp_in_nI (by omega) (by decide),
        nm_e (nm_r (nI_1 j) (ih (j + 1) (by omega) _ _ (ic_RB_congr (ic_RB_1 R) (fun i _ => ic_cA_some e' i))))⟩⟩
theorem ic_xab26 {post : Int32 → SX → Prop} {m : Nat} {w0 w1 : Nat → Int32} (hm : m < 3) (G : ic_G A Z F S TU ST SU) (hb : ∀ i, i < 16 → BF i = w0 i)
    (hw : ∀ i, i < 16 → ic_lk (fun i => if i / 16 = m + 1 then none else A i) (m + 1) i = w1 i)
    (h : ∀ F' TU' SU', ic_G (fun i => if i / 16 = m + 1 then none else A i) (fun x => x / 4 = m + 1 ∨ Z x) F' S TU' ST SU' →
      post (nI (ic_cnt (ic_sd A m) 16)) (nI (m + 1), fs, F', S, TU', ST, SU', ic_mk (ic_df w0 w1) MK 16, CP, BF)) :
    ∀ d j, j + d = 16 → wX_abandon_26 post (nI (m + 1 + 1)) fs F S TU ST SU MK CP BF (d + 1) (nI (ic_cnt (ic_sd A m) j)) (nI j) := by
  intro d
  induction d with
  | zero =>
    intro j hj
    have e : j = 16 := by omega
    subst e
    refine br_t (show (16 : Int32) ≤ nI 16 by decide) ?_
    refine ic_xtop ?_
    refine ic_xclr G (by omega) ?_
    intro F' TU' SU' G'
    refine nm_r (nI_pred (m + 1)) ?_
    refine ic_xmc G' (by omega) hb hw ?_
    exact h F' TU' SU' G'
  | succ d ih =>
    intro j hj
    have k := ih (j + 1) (by omega)
    refine br_f (nI_ge (b := 16) (by omega) (by decide)) ?_
    refine ic_xtop ?_
    refine ic_xen G.1 (by omega) (by omega) ?_
    have eA := G.2.2.2.2 (16 * (m + 1) + j) (by omega)
    by_cases z : ic_en F S (16 * (m + 1) + j) = -1
    · rw [z, ic_ab_m1] at eA
      have hD : ic_sd A m j = false := by
        show (A (16 * (m + 1) + j)).isSome = false
        rw [eA]
        rfl
      rw [ic_cnt_s, hD] at k
      exact br_t z (nm_r (nI_1 j) k)
    · rw [ic_ab_n z] at eA
      have hD : ic_sd A m j = true := by
        show (A (16 * (m + 1) + j)).isSome = true
        rw [eA]
        rfl
      rw [ic_cnt_s, if_pos hD] at k
      exact br_f z (nm_r (nI_1 _) (nm_r (nI_1 j) k))
theorem ic_xpl20 {post : Int32 → SX → Prop} {m : Nat} (hm : m < 3) (hz : ∀ j, j < 16 → ¬ Z (4 * (m + 1) + j / 4))
    (h : ∀ F' S' TU' ST' SU', ic_G (fun i => if i / 16 = m then none else ic_pA A m 16 i) (fun x => x / 4 = m ∨ Z x) F' S' TU' ST' SU' →
      ∃ n82 : Nat, wX_pull_82 post (nI m) (nI (m + 1 + 1)) fs n82 0 F' S' TU' ST' SU' MK CP BF) :
    ∀ d j, j + d = 16 → ∀ F S TU ST SU, ic_G (ic_pA A m j) Z F S TU ST SU → wX_pull_20 post (nI m) (d + 1) (nI j) (nI (m + 1 + 1)) fs F S TU ST SU MK CP BF := by
  intro d
  induction d with
  | zero =>
    intro j hj F S TU ST SU G
    have e : j = 16 := by omega
    subst e
    refine br_t (show (16 : Int32) ≤ nI 16 by decide) ?_
    refine ic_xclr G (by omega) ?_
    intro F' TU' SU' G'
    exact h F' S TU' ST SU' G'
  | succ d ih =>
    intro j hj F S TU ST SU G
    refine br_f (nI_ge (b := 16) (by omega) (by decide)) ?_
    refine ic_xen G.1 (by omega) (by omega) ?_
    have eA := G.2.2.2.2 (16 * m + j) (by omega)
    rw [ic_pA_lo (by omega)] at eA
    have eT := G.2.2.2.2 (16 * (m + 1) + j) (by omega)
    rw [ic_pA_hi] at eT
    by_cases z : ic_en F S (16 * m + j) = -1
    · rw [z, ic_ab_m1] at eA
      exact br_t z (nm_r (nI_1 j) (ih (j + 1) (by omega) F S TU ST SU (ic_G_congr G (fun i _ => ic_pA_eq (by rw [eA, ic_or_rn]) i) (fun _ _ y => y))))
    · rw [ic_ab_n z] at eA
      refine br_f z ?_
      refine ic_xtop ?_
      refine ic_xen G.1 (by omega) (by omega) ?_
      by_cases z2 : ic_en F S (16 * (m + 1) + j) = -1
      · rw [z2, ic_ab_m1] at eT
        refine br_t z2 ?_
        refine ic_xwo (ic_en_VE G.1 (by omega)) ?_
        refine ic_xtop ?_
        refine ic_xsay G (by omega) (by omega) (hz j (by omega)) ?_
        intro F' S' TU' ST' SU' G'
        exact nm_r (nI_1 j) (ih (j + 1) (by omega) F' S' TU' ST' SU' (ic_G_congr G' (fun i _ => ic_pA_put (by rw [eT, ic_or_n, eA]) i) (fun _ _ y => y)))
      · rw [ic_ab_n z2] at eT
        exact br_f z2 (nm_r (nI_1 j) (ih (j + 1) (by omega) F S TU ST SU (ic_G_congr G (fun i _ => ic_pA_eq (by rw [eT, ic_or_s]) i) (fun _ _ y => y))))
theorem ic_xpl82 {post : Int32 → SX → Prop} {m : Nat} (hm : m < 3) (hZ : ∀ x, Z x → x / 4 ≠ m)
    (h : ∀ F', ic_G (fun i => if i / 16 = m then A (i + 16) else if i / 16 = m + 1 then none else A i) (fun x => x / 4 = m + 1 ∨ Z x) F' S TU ST SU →
      post (nI (m + 1)) (nI (m + 1), fs, F', S, TU, ST, SU, MK, CP, BF)) :
    ∀ d j, j + d = 4 → ∀ F, ic_G (fun i => if 4 * m ≤ i / 4 ∧ i / 4 < 4 * m + j then A (i + 16) else if 4 * (m + 1) ≤ i / 4 ∧ i / 4 < 4 * (m + 1) + j then none else A i)
        (fun x => (4 * m + j ≤ x ∧ x < 4 * m + 4) ∨ (4 * (m + 1) ≤ x ∧ x < 4 * (m + 1) + j) ∨ Z x) F S TU ST SU →
      wX_pull_82 post (nI m) (nI (m + 1 + 1)) fs (d + 1) (nI j) F S TU ST SU MK CP BF := by
  intro d
  induction d with
  | zero =>
    intro j hj F G
    have e : j = 4 := by omega
    subst e
    refine br_t (show (4 : Int32) ≤ nI 4 by decide) (nm_r (nI_pred (m + 1)) (h F (ic_G_congr G ?_ ?_)))
    · intro i hi
      show (if i / 16 = m then A (i + 16) else if i / 16 = m + 1 then none else A i)
        = (if 4 * m ≤ i / 4 ∧ i / 4 < 4 * m + 4 then A (i + 16) else if 4 * (m + 1) ≤ i / 4 ∧ i / 4 < 4 * (m + 1) + 4 then none else A i)
      by_cases y : i / 16 = m
      · rw [if_pos y, if_pos (by omega)]
      · rw [if_neg y, if_neg (c := 4 * m ≤ i / 4 ∧ i / 4 < 4 * m + 4) (by omega)]
        by_cases y2 : i / 16 = m + 1
        · rw [if_pos y2, if_pos (by omega)]
        · rw [if_neg y2, if_neg (by omega)]
    · intro x hx z
      rcases z with z | z
      · exact Or.inr (Or.inl (by omega))
      · exact Or.inr (Or.inr z)
  | succ d ih =>
    intro j hj F G
    refine br_f (nI_ge (b := 4) (by omega) (by decide)) ?_
    refine ic_xtop ?_
    rw [ic_q4, ic_q4, nI_clamp (n := 4 * (m + 1) + j) (by omega), nI_clamp (n := 4 * m + j) (by omega)]
    refine ⟨vp_in_nI (by omega) (by decide), vp_in_nI (by omega) (by decide), nm_e ?_⟩
    refine ic_xtop ?_
    rw [ic_q4, nI_clamp (by omega)]
    refine ⟨vp_in_nI (by omega) (by decide), nm_e (nm_r (nI_1 j) (ih (j + 1) (by omega) _ ?_))⟩
    have G1 := ic_G_mv G (b := 4 * m + j) (a := 4 * (m + 1) + j) (by omega) (by omega) (by omega) (G.2.1 _ (by omega) (Or.inl ⟨by omega, by omega⟩))
    refine ic_G_congr G1 ?_ ?_
    · intro i hi
      show (if 4 * m ≤ i / 4 ∧ i / 4 < 4 * m + (j + 1) then A (i + 16) else if 4 * (m + 1) ≤ i / 4 ∧ i / 4 < 4 * (m + 1) + (j + 1) then none else A i)
        = (if i / 4 = 4 * (m + 1) + j then none else (if i / 4 = 4 * m + j then
            (if 4 * m ≤ (4 * (4 * (m + 1) + j) + i % 4) / 4 ∧ (4 * (4 * (m + 1) + j) + i % 4) / 4 < 4 * m + j then A (4 * (4 * (m + 1) + j) + i % 4 + 16)
              else if 4 * (m + 1) ≤ (4 * (4 * (m + 1) + j) + i % 4) / 4 ∧ (4 * (4 * (m + 1) + j) + i % 4) / 4 < 4 * (m + 1) + j then none else A (4 * (4 * (m + 1) + j) + i % 4))
            else (if 4 * m ≤ i / 4 ∧ i / 4 < 4 * m + j then A (i + 16) else if 4 * (m + 1) ≤ i / 4 ∧ i / 4 < 4 * (m + 1) + j then none else A i)))
      by_cases y : i / 4 = 4 * (m + 1) + j
      · rw [if_pos y, if_neg (by omega), if_pos (by omega)]
      · rw [if_neg y]
        by_cases y2 : i / 4 = 4 * m + j
        · rw [if_pos y2, if_pos (by omega), if_neg (by omega), if_neg (by omega)]
          exact congrArg A (by omega)
        · rw [if_neg y2]
          by_cases y3 : 4 * m ≤ i / 4 ∧ i / 4 < 4 * m + j
          · rw [if_pos y3, if_pos (by omega)]
          · rw [if_neg y3, if_neg (by omega)]
            by_cases y4 : 4 * (m + 1) ≤ i / 4 ∧ i / 4 < 4 * (m + 1) + j
            · rw [if_pos y4, if_pos (by omega)]
            · rw [if_neg y4, if_neg (by omega)]
    · intro x hx z
      show x = 4 * (m + 1) + j ∨ (x ≠ 4 * m + j ∧ ((4 * m + j ≤ x ∧ x < 4 * m + 4) ∨ (4 * (m + 1) ≤ x ∧ x < 4 * (m + 1) + j) ∨ Z x))
      by_cases y : x = 4 * (m + 1) + j
      · exact Or.inl y
      · refine Or.inr ?_
        rcases z with z | z | z
        · exact ⟨by omega, Or.inl (by omega)⟩
        · exact ⟨by omega, Or.inr (Or.inl (by omega))⟩
        · have := hZ x z
          exact ⟨by omega, Or.inr (Or.inr z)⟩
end
theorem i_vc_commit {k : Nat} {u : SX} {v : SY} (I : i_Rel k u v) (hk : k + 4 ≤ 2048) : wpX_commit (fun r u' => wpY_commit (fun r' v' => r' = r ∧ i_Rel (k + 4) u' v') v) u := by
  refine ic_el (P := fun u v => wpX_commit (fun r u' => wpY_commit (fun r' v' => r' = r ∧ i_Rel (k + 4) u' v') v) u) I ?_
  intro n s F S TU ST SU M C bx sy wo b A B hn hs G R hAB hM J
  by_cases h0 : n = 0
  · have e : nI (n + 1) = 1 := by rw [h0]; rfl
    exact br_t e (br_t e (And.intro rfl J))
  · obtain ⟨m, rfl⟩ : ∃ m, n = m + 1 := ⟨n - 1, by omega⟩
    have e : ¬ nI (m + 1 + 1) = 1 := fun z => by
      have := (nI_eq (a := m + 1 + 1) (b := 1) (by omega) (by omega)).mp z
      omega
    by_cases hs0 : s = 0
    · subst hs0
      have e0 : nI 0 ≤ 0 := by decide
      refine br_f e (br_t e0 ⟨17, ?_⟩)
      refine ic_xcm22 (A := A) (Z := ic_Z (m + 1) 0) (by omega) ?_ ?_ 16 0 rfl F S TU ST SU (ic_G_congr G (fun i hi => if_neg (by omega)) (fun _ _ y => y))
      · intro j hj
        rw [ic_Z_iff]
        omega
      · intro F' S' TU' ST' SU' G'
        refine br_f e (br_t e0 (nm_r (nI_pred (m + 1)) ⟨17, ?_⟩))
        refine ic_ycm27 (B := B) (by omega) ?_ 16 0 rfl sy wo (ic_RB_congr R (fun i hi => if_neg (by omega)))
        intro sy' wo' R'
        refine ⟨congrArg nI (ic_sdAB (by omega) hAB), ic_in (n := m) (s := 0) (by omega) (by omega) (ic_G_congr G' (fun _ _ => rfl) ?_) R' (ic_cAB (by omega) hAB) ?_⟩
        · intro x hx z
          rw [ic_Z_iff] at z
          show x / 4 = m + 1 ∨ ic_Z (m + 1) 0 x
          rw [ic_Z_iff]
          omega
        · intro c hc z
          rw [ic_cl1_lk hc]
          exact hM c hc z
    · have e0 : ¬ nI s ≤ 0 := nI_nle (by omega) (by omega)
      exact br_f e (br_f e0 (br_f e (br_f e0 (And.intro rfl J))))
theorem i_vc_abandon {k : Nat} {u : SX} {v : SY} (I : i_Rel k u v) (hk : k + 4 ≤ 2048) : wpX_abandon (fun r u' => wpY_abandon (fun r' v' => r' = r ∧ i_Rel (k + 4) u' v') v) u := by
  refine ic_el (P := fun u v => wpX_abandon (fun r u' => wpY_abandon (fun r' v' => r' = r ∧ i_Rel (k + 4) u' v') v) u) I ?_
  intro n s F S TU ST SU M C bx sy wo b A B hn hs G R hAB hM J
  by_cases h0 : n = 0
  · have e : nI (n + 1) = 1 := by rw [h0]; rfl
    exact br_t e (br_t e (And.intro rfl J))
  · obtain ⟨m, rfl⟩ : ∃ m, n = m + 1 := ⟨n - 1, by omega⟩
    have e : ¬ nI (m + 1 + 1) = 1 := fun z => by
      have := (nI_eq (a := m + 1 + 1) (b := 1) (by omega) (by omega)).mp z
      omega
    by_cases hs0 : s = 0
    · subst hs0
      have e0 : nI 0 ≤ 0 := by decide
      refine br_f e (br_t e0 ?_)
      refine ic_xkw G hn ?_
      intro bx' hbx
      refine ⟨17, ic_xab26 (by omega) G hbx (w1 := ic_lk (fun i => if i / 16 = m + 1 then none else A i) (m + 1)) (fun _ _ => rfl) ?_ 16 0 rfl⟩
      intro F' TU' SU' G'
      have hAB' : ic_AB m 0 (fun i => if i / 16 = m + 1 then none else A i) B := by
        intro i hi z
        rw [ic_Z_iff] at z
        show (if i / 16 = m + 1 then none else A i) = B i
        rw [if_neg (by omega)]
        exact hAB i hi (by rw [ic_Z_iff]; omega)
      refine br_f e (br_t e0 ?_)
      refine ic_ynw R (by omega) ?_
      intro bf' hb
      refine nm_r (nI_pred (m + 1)) ?_
      refine ic_ymc R (by omega) (w0 := ic_lk A (m + 1 + 1)) (w1 := ic_lk (fun i => if i / 16 = m + 1 then none else A i) (m + 1))
        (fun i hi => (hb i hi).trans (ic_lkAB hAB hn (by omega) hi).symm) (fun i hi => (ic_lkAB hAB' (by omega) (by omega) hi).symm) ?_
      refine ic_ycs R (by omega) ?_
      refine ⟨congrArg nI (ic_sdAB (by omega) hAB), ic_in (n := m) (s := 0) (by omega) (by omega) (ic_G_congr G' (fun _ _ => rfl) ?_) R hAB' (ic_MC_mk hM)⟩
      intro x hx z
      rw [ic_Z_iff] at z
      show x / 4 = m + 1 ∨ ic_Z (m + 1) 0 x
      rw [ic_Z_iff]
      omega
    · have e0 : ¬ nI s ≤ 0 := nI_nle (by omega) (by omega)
      exact br_f e (br_f e0 (br_f e (br_f e0 (And.intro rfl J))))
theorem i_vc_pull {k : Nat} {u : SX} {v : SY} (I : i_Rel k u v) (hk : k + 4 ≤ 2048) : wpX_pull (fun r u' => wpY_pull (fun r' v' => r' = r ∧ i_Rel (k + 4) u' v') v) u := by
  refine ic_el (P := fun u v => wpX_pull (fun r u' => wpY_pull (fun r' v' => r' = r ∧ i_Rel (k + 4) u' v') v) u) I ?_
  intro n s F S TU ST SU M C bx sy wo b A B hn hs G R hAB hM J
  by_cases h0 : n = 0
  · have e : nI (n + 1) = 1 := by rw [h0]; rfl
    exact br_t e (br_t e (And.intro rfl J))
  · obtain ⟨m, rfl⟩ : ∃ m, n = m + 1 := ⟨n - 1, by omega⟩
    have e : ¬ nI (m + 1 + 1) = 1 := fun z => by
      have := (nI_eq (a := m + 1 + 1) (b := 1) (by omega) (by omega)).mp z
      omega
    refine br_f e ?_
    refine ic_xtop ?_
    refine nm_r (nI_pred m) ⟨17, ?_⟩
    refine ic_xpl20 (A := A) (Z := ic_Z (m + 1) s) (by omega) ?_ ?_ 16 0 rfl F S TU ST SU (ic_G_congr G (fun i hi => if_neg (by omega)) (fun _ _ y => y))
    · intro j hj
      rw [ic_Z_iff]
      omega
    · intro F1 S1 TU1 ST1 SU1 G1
      refine ⟨5, ic_xpl82 (A := fun i => if i / 16 = m then none else ic_pA A m 16 i) (Z := ic_Z (m + 1) s) (by omega) ?_ ?_ 4 0 rfl F1 (ic_G_congr G1 ?_ ?_)⟩
      · intro x z
        rw [ic_Z_iff] at z
        omega
      · intro F2 G2
        refine br_f e (nm_r (nI_pred (m + 1)) ⟨17, ?_⟩)
        refine ic_ypl20 (B := B) (by omega) ?_ 16 0 rfl sy wo (ic_RB_congr R (fun i hi => if_neg (by omega)))
        intro sy' wo' R'
        refine ⟨rfl, ic_in (n := m) (s := s) (A := ic_cl1 A m) (by omega) hs (ic_G_congr G2 ?_ ?_) R' (ic_cAB (by omega) hAB) ?_⟩
        · intro i hi
          show (if i / 16 = m + 1 then none else (if 16 * m ≤ i ∧ i < 16 * m + 16 then ic_or (A (i + 16)) (A i) else A i))
            = (if i / 16 = m then (if (i + 16) / 16 = m then none else (if 16 * (m + 1) ≤ i + 16 ∧ i + 16 < 16 * (m + 1) + 16 then ic_or (A (i + 16)) (A (i + 16 - 16)) else A (i + 16)))
              else if i / 16 = m + 1 then none else (if i / 16 = m then none else (if 16 * (m + 1) ≤ i ∧ i < 16 * (m + 1) + 16 then ic_or (A i) (A (i - 16)) else A i)))
          by_cases y : i / 16 = m
          · rw [if_pos y, if_neg (by omega), if_pos (by omega), if_neg (by omega), if_pos (by omega), show i + 16 - 16 = i by omega]
          · rw [if_neg y]
            by_cases y2 : i / 16 = m + 1
            · rw [if_pos y2, if_pos y2]
            · rw [if_neg y2, if_neg y2, if_neg y, if_neg (by omega), if_neg (by omega)]
        · intro x hx z
          rw [ic_Z_iff] at z
          show x / 4 = m + 1 ∨ ic_Z (m + 1) s x
          rw [ic_Z_iff]
          omega
        · intro c hc z
          rw [ic_cl1_lk hc]
          exact hM c hc z
      · intro i hi
        show (if 4 * m ≤ i / 4 ∧ i / 4 < 4 * m + 0 then _ else if 4 * (m + 1) ≤ i / 4 ∧ i / 4 < 4 * (m + 1) + 0 then none else (if i / 16 = m then none else ic_pA A m 16 i)) = (if i / 16 = m then none else ic_pA A m 16 i)
        rw [if_neg (by omega), if_neg (by omega)]
      · intro x hx z
        show x / 4 = m ∨ ic_Z (m + 1) s x
        rcases z with z | z | z
        · exact Or.inl (by omega)
        · omega
        · exact Or.inr z
end
section
/-! check: counting anew gives the counts that stood there -/
def ic_Tk (F : Nat → Int32) (k x : Nat) : Nat := ic_cnt (fun j => decide (F j = nI x)) k
theorem ic_Tk_s (F : Nat → Int32) (k x : Nat) : ic_Tk F (k + 1) x = ic_Tk F k x + (if F k = nI x then 1 else 0) := by
  show ic_cnt (fun j => decide (F j = nI x)) k + (if decide (F k = nI x) = true then 1 else 0) = ic_cnt (fun j => decide (F j = nI x)) k + (if F k = nI x then 1 else 0)
  by_cases z : F k = nI x
  · rw [if_pos z, if_pos (decide_eq_true z)]
  · rw [if_neg z, if_neg (fun y => z (of_decide_eq_true y))]
theorem ic_Tk_le (F : Nat → Int32) (k x : Nat) : ic_Tk F k x ≤ k := ic_cnt_le _ _
section
variable {A : Nat → Option Int32} {Z : Nat → Prop} {fi fs : Int32} {F S TU ST SU MK CP BF : Nat → Int32}
theorem ic_xct2 {post : SX → Prop} {t : Nat} {L0 : Nat → Bool} (ht : t < 36) (hL : ∀ j, j < 4 → L0 (4 * t + j) = false) (hv : ∀ j, j < 4 → ic_VE (S (4 * t + j)))
    (h : ∀ SU', ic_SC (fun i => L0 i || decide (i / 4 = t)) S SU' → post (fi, fs, F, S, TU, ST, SU', MK, CP, BF)) :
    ∀ d j, j + d = 4 → ∀ SU, ic_SC (fun i => L0 i || decide (i / 4 = t ∧ i % 4 < j)) S SU → wX_countTable_2 post (nI t) fi fs (d + 1) (nI j) F S TU ST SU MK CP BF := by
  intro d
  induction d with
  | zero =>
    intro j hj SU hC
    have e : j = 4 := by omega
    subst e
    refine br_t (show (4 : Int32) ≤ nI 4 by decide) (h SU (ic_SC_congr hC fun i hi => ⟨?_, fun _ => rfl⟩))
    show (L0 i || decide (i / 4 = t)) = (L0 i || decide (i / 4 = t ∧ i % 4 < 4))
    have : (i / 4 = t) ↔ (i / 4 = t ∧ i % 4 < 4) := by omega
    rw [decide_eq_decide.mpr this]
  | succ d ih =>
    intro j hj SU hC
    have hL1 : (L0 (4 * t + j) || decide ((4 * t + j) / 4 = t ∧ (4 * t + j) % 4 < j)) = false := by
      rw [hL j (by omega), decide_eq_false (by omega)]
      rfl
    have hL2 : (L0 (4 * t + j) || decide ((4 * t + j) / 4 = t ∧ (4 * t + j) % 4 < j + 1)) = true := by
      rw [decide_eq_true (p := (4 * t + j) / 4 = t ∧ (4 * t + j) % 4 < j + 1) (by omega), Bool.or_true]
    have ho : ∀ i, i < 144 → i ≠ 4 * t + j → (L0 i || decide (i / 4 = t ∧ i % 4 < j + 1)) = (L0 i || decide (i / 4 = t ∧ i % 4 < j)) ∧ ((L0 i || decide (i / 4 = t ∧ i % 4 < j)) = true → S i = S i) := by
      intro i hi hne
      have : (i / 4 = t ∧ i % 4 < j + 1) ↔ (i / 4 = t ∧ i % 4 < j) := by omega
      rw [decide_eq_decide.mpr this]
      exact ⟨rfl, fun _ => rfl⟩
    refine br_f (nI_ge (b := 4) (by omega) (by decide)) ?_
    rw [ic_q4, nI_clamp (by omega)]
    refine ⟨vp_in_nI (by omega) (by decide), nm_e ?_⟩
    rcases hv j (by omega) with e | e | ⟨p, hp, e⟩
    · have hn : S (4 * t + j) < 0 := by rw [e]; decide
      exact br_t hn (nm_r (nI_1 j) (ih (j + 1) (by omega) SU (ic_SC_addN (L' := fun i => L0 i || decide (i / 4 = t ∧ i % 4 < j + 1)) hC (by omega) hL1 ho hn)))
    · have hn : S (4 * t + j) < 0 := by rw [e]; decide
      exact br_t hn (nm_r (nI_1 j) (ih (j + 1) (by omega) SU (ic_SC_addN (L' := fun i => L0 i || decide (i / 4 = t ∧ i % 4 < j + 1)) hC (by omega) hL1 ho hn)))
    · have k := ih (j + 1) (by omega) _ (ic_SC_addP (L' := fun i => L0 i || decide (i / 4 = t ∧ i % 4 < j + 1)) hC (by omega) hL1 hL2 ho e hp)
      rw [e]
      exact br_f (nI_pos (by omega)) ⟨vp_in_nI hp (by decide), vp_in_nI hp (by decide), nm_r (e' := upd SU p (SU p + 1)) (by rw [nI_clamp (by omega)]) (nm_r (nI_1 j) k)⟩
theorem ic_xck45 {post : Int32 → SX → Prop} (hF : ic_FV F S)
    (h : ∀ TU' SU', (∀ x, x < 36 → TU' x = nI (ic_Tk F 32 x)) → ic_SC (fun i => decide (0 < ic_Tk F 32 (i / 4))) S SU' → post 0 (fi, fs, F, S, TU', ST, SU', MK, CP, BF)) :
    ∀ d k, k + d = 32 → ∀ TU SU, (∀ x, x < 36 → TU x = nI (ic_Tk F k x)) → ic_SC (fun i => decide (0 < ic_Tk F k (i / 4))) S SU →
      wX_check_45 post (d + 1) (nI k) fi fs F S TU ST SU MK CP BF := by
  intro d
  induction d with
  | zero =>
    intro k hk TU SU hT hC
    have e : k = 32 := by omega
    subst e
    exact br_t (show (32 : Int32) ≤ nI 32 by decide) (h TU SU hT hC)
  | succ d ih =>
    intro k hk TU SU hT hC
    refine br_f (nI_ge (b := 32) (by omega) (by decide)) ⟨vp_in_nI (by omega) (by decide), nm_r (e' := F k) (by rw [nI_clamp (by omega)]) ?_⟩
    rcases hF k (by omega) with e | ⟨t, ht, e, hv⟩
    · have eT : ∀ x, x < 36 → ic_Tk F (k + 1) x = ic_Tk F k x := by
        intro x hx
        rw [ic_Tk_s, if_neg (fun z => ic_nIm1 (p := x) (by omega) (z.symm.trans e))]
        rfl
      refine br_t (by rw [e]; decide) (nm_r (nI_1 k) (ih (k + 1) (by omega) TU SU ?_ (ic_SC_congr hC fun i hi => ⟨?_, fun _ => rfl⟩)))
      · intro x hx
        rw [eT x hx]
        exact hT x hx
      · show decide (0 < ic_Tk F (k + 1) (i / 4)) = decide (0 < ic_Tk F k (i / 4))
        rw [eT _ (by omega)]
    · have eT : ∀ x, x < 36 → ic_Tk F (k + 1) x = ic_Tk F k x + (if x = t then 1 else 0) := by
        intro x hx
        rw [ic_Tk_s]
        by_cases y : x = t
        · rw [if_pos y, if_pos (by rw [y]; exact e)]
        · rw [if_neg y, if_neg (fun z => y ((nI_eq (by omega) (by omega)).mp (z.symm.trans e)))]
      have hle := ic_Tk_le F k t
      have H76 : ∀ SU', ic_SC (fun i => decide (0 < ic_Tk F (k + 1) (i / 4))) S SU' →
          wX_check_76 post (wX_check_45 post (d + 1)) (nI k) (nI t) fi fs F S TU ST SU' MK CP BF := by
        intro SU' hC'
        unfold wX_check_76
        refine ⟨vp_in_nI ht (by decide), vp_in_nI ht (by decide), nm_r (e' := upd TU t (TU t + 1)) (by rw [nI_clamp (by omega)]) (nm_r (nI_1 k) (ih (k + 1) (by omega) _ SU' ?_ hC'))⟩
        intro x hx
        rw [eT x hx]
        by_cases y : x = t
        · rw [y, pk_us, if_pos rfl, hT t ht, nI_1]
        · rw [pk_un y, if_neg y]
          exact hT x hx
      rw [e]
      refine br_f (nI_pos (by omega)) ⟨vp_in_nI ht (by decide), ?_⟩
      rw [nI_clamp (by omega)]
      by_cases z : TU t = 0
      · have z0 : ic_Tk F k t = 0 := by
          have h1 := hT t ht
          rw [z] at h1
          exact ((nI_eq (a := 0) (by omega) (by omega)).mp h1).symm
        refine br_t z ⟨5, ?_⟩
        refine ic_xct2 (L0 := fun i => decide (0 < ic_Tk F k (i / 4))) ht ?_ hv ?_ 4 0 rfl SU (ic_SC_congr hC fun i hi => ⟨?_, fun _ => rfl⟩)
        · intro j hj
          show decide (0 < ic_Tk F k ((4 * t + j) / 4)) = false
          rw [show (4 * t + j) / 4 = t by omega, z0]
          rfl
        · intro SU' hC'
          refine H76 SU' (ic_SC_congr hC' fun i hi => ⟨?_, fun _ => rfl⟩)
          show decide (0 < ic_Tk F (k + 1) (i / 4)) = (decide (0 < ic_Tk F k (i / 4)) || decide (i / 4 = t))
          rw [eT _ (by omega), Bool.eq_iff_iff]
          simp only [Bool.or_eq_true, decide_eq_true_eq]
          by_cases y : i / 4 = t
          · rw [if_pos y]
            omega
          · rw [if_neg y]
            omega
        · show (decide (0 < ic_Tk F k (i / 4)) || decide (i / 4 = t ∧ i % 4 < 0)) = decide (0 < ic_Tk F k (i / 4))
          rw [decide_eq_false (p := i / 4 = t ∧ i % 4 < 0) (by omega), Bool.or_false]
      · have z0 : 0 < ic_Tk F k t := by
          refine Nat.pos_of_ne_zero fun y => z ?_
          rw [hT t ht, y]
          exact nI_0
        refine br_f z (H76 SU (ic_SC_congr hC fun i hi => ⟨?_, fun _ => rfl⟩))
        show decide (0 < ic_Tk F (k + 1) (i / 4)) = decide (0 < ic_Tk F k (i / 4))
        rw [eT _ (by omega), Bool.eq_iff_iff]
        simp only [decide_eq_true_eq]
        by_cases y : i / 4 = t
        · rw [if_pos y, y]
          omega
        · rw [if_neg y]
          omega
theorem ic_xck23 {post : Int32 → SX → Prop} (h : ∀ SU', (∀ i, i < 132 → SU' i = 0) → ∃ n45 : Nat, wX_check_45 post n45 0 fi fs F S TU ST SU' MK CP BF) :
    ∀ d j, j + d = 132 → ∀ SU, (∀ i, i < j → SU i = 0) → wX_check_23 post fi fs (d + 1) (nI j) F S TU ST SU MK CP BF := by
  intro d
  induction d with
  | zero =>
    intro j hj SU hB
    have e : j = 132 := by omega
    subst e
    exact br_t (show (132 : Int32) ≤ nI 132 by decide) (h SU hB)
  | succ d ih =>
    intro j hj SU hB
    refine br_f (nI_ge (b := 132) (by omega) (by decide)) ⟨vp_in_nI (by omega) (by decide), nm_r (e' := upd SU j 0) (by rw [nI_clamp (by omega)]) (nm_r (nI_1 j) (ih (j + 1) (by omega) _ ?_))⟩
    intro i hi
    by_cases z : i = j
    · rw [z, pk_us]
    · rw [pk_un z]
      exact hB i (by omega)
theorem ic_xck2 {post : Int32 → SX → Prop} (h : ∀ TU', (∀ i, i < 36 → TU' i = 0) → ∃ n23 : Nat, wX_check_23 post fi fs n23 0 F S TU' ST SU MK CP BF) :
    ∀ d j, j + d = 36 → ∀ TU, (∀ i, i < j → TU i = 0) → wX_check_2 post fi fs (d + 1) (nI j) F S TU ST SU MK CP BF := by
  intro d
  induction d with
  | zero =>
    intro j hj TU hB
    have e : j = 36 := by omega
    subst e
    exact br_t (show (36 : Int32) ≤ nI 36 by decide) (h TU hB)
  | succ d ih =>
    intro j hj TU hB
    refine br_f (nI_ge (b := 36) (by omega) (by decide)) ⟨vp_in_nI (by omega) (by decide), nm_r (e' := upd TU j 0) (by rw [nI_clamp (by omega)]) (nm_r (nI_1 j) (ih (j + 1) (by omega) _ ?_))⟩
    intro i hi
    by_cases z : i = j
    · rw [z, pk_us]
    · rw [pk_un z]
      exact hB i (by omega)
end
theorem i_vc_check {k : Nat} {u : SX} {v : SY} (I : i_Rel k u v) (hk : k + 4 ≤ 2048) : wpX_check (fun r u' => wpY_check (fun r' => r' = r ∧ i_Rel (k + 4) u' v) v) u := by
  refine ic_el (P := fun u v => wpX_check (fun r u' => wpY_check (fun r' => r' = r ∧ i_Rel (k + 4) u' v) v) u) I ?_
  intro n s F S TU ST SU M C bx sy wo b A B hn hs G R hAB hM J
  refine ⟨37, ic_xck2 ?_ 36 0 rfl TU (fun i hi => absurd hi (Nat.not_lt_zero _))⟩
  intro TU1 hT1
  refine ⟨133, ic_xck23 ?_ 132 0 rfl SU (fun i hi => absurd hi (Nat.not_lt_zero _))⟩
  intro SU1 hS1
  refine ⟨33, ic_xck45 G.1 ?_ 32 0 rfl TU1 SU1 ?_ ?_⟩
  · intro TU2 SU2 hT2 hC2
    exact And.intro rfl (ic_in (k := k + 4) hn hs ⟨G.1, G.2.1, hT2, hC2, G.2.2.2.2⟩ R hAB hM)
  · intro x hx
    exact (hT1 x hx).trans nI_0.symm
  · intro p hp
    have : ic_Sn (fun i => decide (0 < ic_Tk F 0 (i / 4))) S p = 0 := ic_cnt_zero (fun i _ => rfl)
    rw [this]
    exact (hS1 p hp).trans nI_0.symm
end
