section
/-! pure rows to paste: stores, nI and lN arithmetic, masks, shifts, narrowing, branches by naturals (pk_le, pk_lt, pk_eq), loops (lp1 .. lp16: the measure of the state; rp1 ..: recursion), negatives. Take what you need -/
theorem pk_us {f : Nat → Int32} {k : Nat} {x : Int32} : upd f k x k = x := if_pos rfl
theorem pk_un {f : Nat → Int32} {k j : Nat} {x : Int32} (h : j ≠ k) : upd f k x j = f j := if_neg h
theorem pk_uLs {f : Nat → Int64} {k : Nat} {x : Int64} : vp_updL f k x k = x := if_pos rfl
theorem pk_uLn {f : Nat → Int64} {k j : Nat} {x : Int64} (h : j ≠ k) : vp_updL f k x j = f j := if_neg h
theorem pk_sub {a b : Nat} (h : b ≤ a) : nI a - nI b = nI (a - b) := by
  obtain ⟨c, rfl⟩ : ∃ c, a = c + b := ⟨a - b, by omega⟩
  rw [← nI_add, Int32.add_sub_cancel, Nat.add_sub_cancel]
theorem pk_m1 (n : Nat) : nI (n + 1) + (-1) = nI n := by
  rw [← nI_1, Int32.add_assoc, show (1 : Int32) + (-1) = 0 from rfl, Int32.add_zero]
theorem pk_mul (a b : Nat) : nI a * nI b = nI (a * b) := (Int32.ofNat_mul a b).symm
theorem pk_div {a d : Nat} (ha : a < 2 ^ 31) (h0 : 0 < d) (hd : d < 2 ^ 31) : nI a / nI d = nI (a / d) := by
  apply Int32.toInt_inj.mp
  rw [lg_idiv_nonneg (by rw [nI_toInt ha]; omega) (by rw [nI_toInt hd]; omega), nI_toInt ha, nI_toInt hd, nI_toInt (Nat.lt_of_le_of_lt (Nat.div_le_self a d) ha)]
  first | rfl | exact (Int.natCast_ediv _ _).symm
theorem pk_rem {a d : Nat} (ha : a < 2 ^ 31) (h0 : 0 < d) (hd : d < 2 ^ 31) : nI a - nI a / nI d * nI d = nI (a % d) := by
  rw [pk_div ha h0 hd, pk_mul, pk_sub (Nat.div_mul_le_self a d)]
  exact congrArg nI (by have := Nat.div_add_mod' a d; omega)
theorem pk_sub_toInt {a b : Nat} (ha : a < 2 ^ 30) (hb : b < 2 ^ 30) : (nI a - nI b).toInt = (a : Int) - b := by
  rw [Int32.toInt_sub, nI_toInt (by omega), nI_toInt (by omega)]
  exact Int.bmod_eq_of_le (by omega) (by omega)
theorem pk_sneg {a b : Nat} (hb : b < 2 ^ 30) (h : a < b) : nI a - nI b < 0 := by
  rw [Int32.lt_iff_toInt_lt, pk_sub_toInt (by omega) hb, show (0 : Int32).toInt = 0 from by decide]
  omega
theorem pk_ix (x : Int32) {n : Nat} (hn : n < 2 ^ 31) : x < 0 ∨ nI n ≤ x ∨ ∃ j : Nat, j < n ∧ x = nI j := by
  by_cases h : x < 0
  · exact Or.inl h
  · obtain ⟨j, hj, rfl⟩ := nI_of h
    by_cases h2 : j < n
    · exact Or.inr (Or.inr ⟨j, h2, rfl⟩)
    · exact Or.inr (Or.inl (nI_le (by omega) hj))
theorem pk_le {x y : Int32} {A B : Prop} (a b : Nat) (f : a ≤ b → A) (g : b < a → B) (hx : x = nI a := by rfl) (hy : y = nI b := by rfl) (ha : a < 2 ^ 31 := by omega) (hb : b < 2 ^ 31 := by omega) : (x ≤ y → A) ∧ (¬ x ≤ y → B) := by
  subst hx hy
  rw [nI_leI ha hb]
  exact ⟨f, fun z => g (by omega)⟩
theorem pk_lt {x y : Int32} {A B : Prop} (a b : Nat) (f : a < b → A) (g : b ≤ a → B) (hx : x = nI a := by rfl) (hy : y = nI b := by rfl) (ha : a < 2 ^ 31 := by omega) (hb : b < 2 ^ 31 := by omega) : (x < y → A) ∧ (¬ x < y → B) := by
  subst hx hy
  rw [nI_ltI ha hb]
  exact ⟨f, fun z => g (by omega)⟩
theorem pk_eq {x y : Int32} {A B : Prop} (a b : Nat) (f : a = b → A) (g : a ≠ b → B) (hx : x = nI a := by rfl) (hy : y = nI b := by rfl) (ha : a < 2 ^ 31 := by omega) (hb : b < 2 ^ 31 := by omega) : (x = y → A) ∧ (¬ x = y → B) := by
  subst hx hy
  rw [nI_eq ha hb]
  exact ⟨f, g⟩
theorem pk_in {x : Int32} (n N : Nat) (h : n < N) (hx : x = nI n := by rfl) (hN : N < 2 ^ 31 := by omega) : vp_in x N := by
  subst hx
  exact vp_in_nI h hN
theorem pk_cl {x : Int32} (n : Nat) (hx : x = nI n := by rfl) (h : n < 2 ^ 31 := by omega) : x.toNatClampNeg = n := by
  subst hx
  exact nI_clamp h
theorem pk_tn {n : Nat} (h : n < 2 ^ 32) : (nI n).toBitVec.toNat = n := Nat.mod_eq_of_lt h
theorem pk_and (x : Int32) {m : Int32} (k : Nat) (hm : m.toBitVec.toNat = 2 ^ k - 1) : x &&& m = nI (x.toBitVec.toNat % 2 ^ k) := by
  apply Int32.toBitVec_inj.mp
  apply BitVec.eq_of_toNat_eq
  rw [Int32.toBitVec_and, BitVec.toNat_and, hm, Nat.and_two_pow_sub_one_eq_mod]
  show _ = (BitVec.ofNat 32 _).toNat
  rw [BitVec.toNat_ofNat]
  exact (Nat.mod_eq_of_lt (Nat.lt_of_le_of_lt (Nat.mod_le _ _) x.toBitVec.isLt)).symm
theorem pk_andN {n : Nat} (h : n < 2 ^ 32) {m : Int32} (k : Nat) (hm : m.toBitVec.toNat = 2 ^ k - 1) : nI n &&& m = nI (n % 2 ^ k) := by
  rw [pk_and _ k hm, pk_tn h]
theorem pk_andE (x : Int32) {m : Int32} (k : Nat) (hm : m.toBitVec.toNat = 2 ^ k - 1) : ∃ j : Nat, j < 2 ^ k ∧ x &&& m = nI j := ⟨_, Nat.mod_lt _ (Nat.two_pow_pos k), pk_and x k hm⟩
theorem pk_andIn (x : Int32) {m : Int32} (k : Nat) (hm : m.toBitVec.toNat = 2 ^ k - 1) (hk : k ≤ 30) : vp_in (x &&& m) (2 ^ k) := by
  obtain ⟨j, hj, e⟩ := pk_andE x k hm
  rw [e]
  exact vp_in_nI hj (Nat.lt_of_le_of_lt (Nat.pow_le_pow_right (by decide) hk) (by decide))
theorem pk_shl (a s : Int32) (k : Nat) (hs : (s.toBitVec.smod 32).toNat = k) : (a <<< s).toBitVec.toNat = a.toBitVec.toNat * 2 ^ k % 2 ^ 32 := by
  show (a.toBitVec <<< (s.toBitVec.smod 32).toNat).toNat = _
  rw [hs, BitVec.toNat_shiftLeft, Nat.shiftLeft_eq]
theorem pk_shlN {n : Nat} (s : Int32) (k : Nat) (hs : (s.toBitVec.smod 32).toNat = k) (h : n * 2 ^ k < 2 ^ 32) : nI n <<< s = nI (n * 2 ^ k) := by
  apply Int32.toBitVec_inj.mp
  apply BitVec.eq_of_toNat_eq
  have hn : n < 2 ^ 32 := Nat.lt_of_le_of_lt (Nat.le_mul_of_pos_right n (Nat.two_pow_pos k)) h
  rw [pk_shl _ _ k hs, pk_tn hn, pk_tn h, Nat.mod_eq_of_lt h]
theorem pk_shr (a s : Int32) (k : Nat) (hs : (s.toBitVec.smod 32).toNat = k) : (a >>> s).toInt = a.toInt >>> k := by
  show (a.toBitVec.sshiftRight (s.toBitVec.smod 32).toNat).toInt = _
  rw [hs, BitVec.toInt_sshiftRight]
  rfl
theorem pk_shrN {n : Nat} (h : n < 2 ^ 31) (s : Int32) (k : Nat) (hs : (s.toBitVec.smod 32).toNat = k) : nI n >>> s = nI (n / 2 ^ k) := by
  apply Int32.toInt_inj.mp
  have h2 : n / 2 ^ k ≤ n := Nat.div_le_self _ _
  rw [pk_shr _ _ k hs, nI_toInt h, nI_toInt (by omega), Int.shiftRight_eq_div_pow]
  rfl
theorem pk_ushr (x s : Int32) (k : Nat) (hs : ((s.toUInt32 &&& Int32.toUInt32 31).toBitVec % 32).toNat = k) : (x.toUInt32 >>> (s.toUInt32 &&& Int32.toUInt32 31)).toInt32.toBitVec.toNat = x.toBitVec.toNat / 2 ^ k := by
  have e : (x.toUInt32 >>> (s.toUInt32 &&& Int32.toUInt32 31)).toInt32.toBitVec = x.toBitVec >>> k := by
    rw [← hs]
    exact UInt32.toBitVec_shiftRight _ _
  rw [e, BitVec.toNat_ushiftRight, Nat.shiftRight_eq_div_pow]
theorem pk_ushrN {n : Nat} (hn : n < 2 ^ 32) (s : Int32) (k : Nat) (hs : ((s.toUInt32 &&& Int32.toUInt32 31).toBitVec % 32).toNat = k) : ((nI n).toUInt32 >>> (s.toUInt32 &&& Int32.toUInt32 31)).toInt32 = nI (n / 2 ^ k) := by
  apply Int32.toBitVec_inj.mp
  apply BitVec.eq_of_toNat_eq
  rw [pk_ushr _ s k hs, pk_tn hn, pk_tn (Nat.lt_of_le_of_lt (Nat.div_le_self _ _) hn)]
theorem pk_nb (z : Int32) : narrow .byte (.int z.toInt8.toInt32) = .int z.toInt8.toInt32 := congrArg Value.int (by simp)
theorem pk_ns (z : Int32) : narrow .short (.int z.toInt16.toInt32) = .int z.toInt16.toInt32 := congrArg Value.int (by simp)
theorem pk_fb (r : Int32) : fits .byte (.int r.toInt8.toInt32) = true := by
  have ⟨a, b⟩ := lg_i2b_range r
  have h1 : (-128 : Int32).toInt = -128 := by decide
  have h2 : (127 : Int32).toInt = 127 := by decide
  simp only [fits, Bool.and_eq_true, decide_eq_true_eq, Int32.le_iff_toInt_le, h1, h2]
  omega
theorem pk_fs (r : Int32) : fits .short (.int r.toInt16.toInt32) = true := by
  have ⟨a, b⟩ := lg_i2s_range r
  have h1 : (-32768 : Int32).toInt = -32768 := by decide
  have h2 : (32767 : Int32).toInt = 32767 := by decide
  simp only [fits, Bool.and_eq_true, decide_eq_true_eq, Int32.le_iff_toInt_le, h1, h2]
  omega
theorem pk_charN {q : Nat} (hq : q < 65536) : narrow .char (.int (nI q)) = .int (nI q) ∧ fits .char (.int (nI q)) = true := by
  constructor
  · have e : (nI q).toUInt32.toUInt16.toUInt32.toInt32 = nI q := by
      apply Int32.toBitVec_inj.mp
      apply BitVec.eq_of_toNat_eq
      show (nI q).toUInt32.toUInt16.toUInt32.toNat = q % 2 ^ 32
      rw [UInt16.toNat_toUInt32, UInt32.toNat_toUInt16, show (nI q).toUInt32.toNat = q % 2 ^ 32 from rfl]
      omega
    exact congrArg Value.int e
  · have a : (0 : Int32) ≤ nI q := nI_pos' (by omega)
    have b : nI q ≤ 65535 := nI_le (b := 65535) (by omega) (by decide)
    show (decide ((0 : Int32) ≤ nI q) && decide (nI q ≤ 65535)) = true
    rw [decide_eq_true a, decide_eq_true b]
    rfl
theorem pk_char (x : Int32) : (x.toUInt32 % 65536).toInt32 = nI (x.toBitVec.toNat % 65536) := by
  apply Int32.toBitVec_inj.mp
  apply BitVec.eq_of_toNat_eq
  rw [pk_tn (by omega)]
  show (x.toUInt32 % 65536).toNat = _
  rw [UInt32.toNat_mod]
  rfl
theorem pk_nc (x : Int32) : narrow .char (.int (x.toUInt32 % 65536).toInt32) = .int (x.toUInt32 % 65536).toInt32 := by
  rw [pk_char]
  exact (pk_charN (Nat.mod_lt _ (by decide))).1
theorem pk_fc (x : Int32) : fits .char (.int (x.toUInt32 % 65536).toInt32) = true := by
  rw [pk_char]
  exact (pk_charN (Nat.mod_lt _ (by decide))).2
theorem pk_vb (z : Int32) : vp_nar .byte z.toInt8.toInt32 = z.toInt8.toInt32 := by rw [vp_nar_byte]; simp
theorem pk_vs (z : Int32) : vp_nar .short z.toInt16.toInt32 = z.toInt16.toInt32 := by rw [vp_nar_short]; simp
theorem pk_vc (z : Int32) : vp_nar .char (z.toUInt32 % 65536).toInt32 = (z.toUInt32 % 65536).toInt32 := Value.int.inj (pk_nc z)
theorem pk_lT {n : Nat} (h : n < 2 ^ 63) : (lN n).toInt = (n : Int) := lg_ofNat_toInt h
theorem pk_lLT {a b : Nat} (ha : a < 2 ^ 63) (hb : b < 2 ^ 63) : lN a < lN b ↔ a < b := by
  rw [Int64.lt_iff_toInt_lt, pk_lT ha, pk_lT hb]; omega
theorem pk_lLE {a b : Nat} (ha : a < 2 ^ 63) (hb : b < 2 ^ 63) : lN a ≤ lN b ↔ a ≤ b := by
  rw [Int64.le_iff_toInt_le, pk_lT ha, pk_lT hb]; omega
theorem pk_lEQ {a b : Nat} (ha : a < 2 ^ 63) (hb : b < 2 ^ 63) : lN a = lN b ↔ a = b := by
  rw [← Int64.toInt_inj, pk_lT ha, pk_lT hb]; omega
theorem pk_lOf {x : Int64} (h : ¬ x < 0) : ∃ k : Nat, k < 2 ^ 63 ∧ x = lN k := by
  rw [Int64.lt_iff_toInt_lt] at h
  have h0 : (0 : Int64).toInt = 0 := by decide
  have hx := Int64.toInt_lt x
  refine ⟨x.toInt.toNat, by omega, Int64.toInt_inj.mp ?_⟩
  rw [pk_lT (by omega)]
  omega
theorem pk_lDiv {a b : Nat} (ha : a < 2 ^ 63) (h0 : 0 < b) (hb : b < 2 ^ 63) : lN a / lN b = lN (a / b) := by
  apply Int64.toInt_inj.mp
  rw [lg_ldiv_nonneg (by rw [pk_lT ha]; omega) (by rw [pk_lT hb]; omega), pk_lT ha, pk_lT hb, pk_lT (Nat.lt_of_le_of_lt (Nat.div_le_self a b) ha)]
  rfl
theorem pk_lRem {a b : Nat} (ha : a < 2 ^ 63) (h0 : 0 < b) (hb : b < 2 ^ 63) : lN a - lN a / lN b * lN b = lN (a % b) := by
  rw [pk_lDiv ha h0 hb, lN_mul, lN_sub (Nat.div_mul_le_self a b)]
  exact congrArg lN (by have := Nat.div_add_mod' a b; omega)
theorem pk_loop {σ : Type} (W : Nat → Nat → σ → Prop) (I : Nat → σ → Prop) (e i0 : Nat) (s : σ) (hi : i0 ≤ e) (h0 : I i0 s) (hx : ∀ n s, I e s → W (n + 1) e s)
    (hs : ∀ n i s, i < e → I i s → (∀ s', I (i + 1) s' → W n (i + 1) s') → W (n + 1) i s) : ∃ n, W n i0 s :=
  ⟨e + 1, loop_i W I e hx hs (e + 1) i0 s hi (by omega) h0⟩
theorem pk_loopD {σ : Type} (W : Nat → Nat → σ → Prop) (I : Nat → σ → Prop) (hx : ∀ n s, I 0 s → W (n + 1) 0 s)
    (hs : ∀ n i s, I (i + 1) s → (∀ s', I i s' → W n i s') → W (n + 1) (i + 1) s) : ∀ (e : Nat) (s : σ), I e s → W (e + 1) e s := by
  intro e
  induction e with
  | zero => exact fun s h => hx 0 s h
  | succ e ih => exact fun s h => hs (e + 1) e s h (fun s' h' => ih s' h')
theorem lp1 {A1 : Type} (W : Nat → A1 → Prop) (I : A1 → Prop) (μ : A1 → Nat) (hs : ∀ (n : Nat) (a1 : A1), I a1 → (∀ (b1 : A1), I b1 → μ b1 < μ a1 → W n b1) → W (n + 1) a1) (a1 : A1) (h : I a1) : ∃ n, W n a1 :=
  loop_m (σ := A1) (fun n s => W n s) (fun s => I s) (fun s => μ s) (fun n s hI hk => hs n s hI (fun b1 h9 hm => hk b1 h9 hm)) a1 h
theorem lp2 {A1 A2 : Type} (W : Nat → A1 → A2 → Prop) (I : A1 → A2 → Prop) (μ : A1 → A2 → Nat) (hs : ∀ (n : Nat) (a1 : A1) (a2 : A2), I a1 a2 → (∀ (b1 : A1) (b2 : A2), I b1 b2 → μ b1 b2 < μ a1 a2 → W n b1 b2) → W (n + 1) a1 a2) (a1 : A1) (a2 : A2) (h : I a1 a2) : ∃ n, W n a1 a2 :=
  loop_m (σ := A1 × A2) (fun n s => W n s.1 s.2) (fun s => I s.1 s.2) (fun s => μ s.1 s.2) (fun n s hI hk => hs n s.1 s.2 hI (fun b1 b2 h9 hm => hk (b1, b2) h9 hm)) (a1, a2) h
theorem lp3 {A1 A2 A3 : Type} (W : Nat → A1 → A2 → A3 → Prop) (I : A1 → A2 → A3 → Prop) (μ : A1 → A2 → A3 → Nat) (hs : ∀ (n : Nat) (a1 : A1) (a2 : A2) (a3 : A3), I a1 a2 a3 → (∀ (b1 : A1) (b2 : A2) (b3 : A3), I b1 b2 b3 → μ b1 b2 b3 < μ a1 a2 a3 → W n b1 b2 b3) → W (n + 1) a1 a2 a3) (a1 : A1) (a2 : A2) (a3 : A3) (h : I a1 a2 a3) : ∃ n, W n a1 a2 a3 :=
  loop_m (σ := A1 × A2 × A3) (fun n s => W n s.1 s.2.1 s.2.2) (fun s => I s.1 s.2.1 s.2.2) (fun s => μ s.1 s.2.1 s.2.2) (fun n s hI hk => hs n s.1 s.2.1 s.2.2 hI (fun b1 b2 b3 h9 hm => hk (b1, b2, b3) h9 hm)) (a1, a2, a3) h
theorem lp4 {A1 A2 A3 A4 : Type} (W : Nat → A1 → A2 → A3 → A4 → Prop) (I : A1 → A2 → A3 → A4 → Prop) (μ : A1 → A2 → A3 → A4 → Nat) (hs : ∀ (n : Nat) (a1 : A1) (a2 : A2) (a3 : A3) (a4 : A4), I a1 a2 a3 a4 → (∀ (b1 : A1) (b2 : A2) (b3 : A3) (b4 : A4), I b1 b2 b3 b4 → μ b1 b2 b3 b4 < μ a1 a2 a3 a4 → W n b1 b2 b3 b4) → W (n + 1) a1 a2 a3 a4) (a1 : A1) (a2 : A2) (a3 : A3) (a4 : A4) (h : I a1 a2 a3 a4) : ∃ n, W n a1 a2 a3 a4 :=
  loop_m (σ := A1 × A2 × A3 × A4) (fun n s => W n s.1 s.2.1 s.2.2.1 s.2.2.2) (fun s => I s.1 s.2.1 s.2.2.1 s.2.2.2) (fun s => μ s.1 s.2.1 s.2.2.1 s.2.2.2) (fun n s hI hk => hs n s.1 s.2.1 s.2.2.1 s.2.2.2 hI (fun b1 b2 b3 b4 h9 hm => hk (b1, b2, b3, b4) h9 hm)) (a1, a2, a3, a4) h
theorem lp5 {A1 A2 A3 A4 A5 : Type} (W : Nat → A1 → A2 → A3 → A4 → A5 → Prop) (I : A1 → A2 → A3 → A4 → A5 → Prop) (μ : A1 → A2 → A3 → A4 → A5 → Nat) (hs : ∀ (n : Nat) (a1 : A1) (a2 : A2) (a3 : A3) (a4 : A4) (a5 : A5), I a1 a2 a3 a4 a5 → (∀ (b1 : A1) (b2 : A2) (b3 : A3) (b4 : A4) (b5 : A5), I b1 b2 b3 b4 b5 → μ b1 b2 b3 b4 b5 < μ a1 a2 a3 a4 a5 → W n b1 b2 b3 b4 b5) → W (n + 1) a1 a2 a3 a4 a5) (a1 : A1) (a2 : A2) (a3 : A3) (a4 : A4) (a5 : A5) (h : I a1 a2 a3 a4 a5) : ∃ n, W n a1 a2 a3 a4 a5 :=
  loop_m (σ := A1 × A2 × A3 × A4 × A5) (fun n s => W n s.1 s.2.1 s.2.2.1 s.2.2.2.1 s.2.2.2.2) (fun s => I s.1 s.2.1 s.2.2.1 s.2.2.2.1 s.2.2.2.2) (fun s => μ s.1 s.2.1 s.2.2.1 s.2.2.2.1 s.2.2.2.2) (fun n s hI hk => hs n s.1 s.2.1 s.2.2.1 s.2.2.2.1 s.2.2.2.2 hI (fun b1 b2 b3 b4 b5 h9 hm => hk (b1, b2, b3, b4, b5) h9 hm)) (a1, a2, a3, a4, a5) h
theorem lp6 {A1 A2 A3 A4 A5 A6 : Type} (W : Nat → A1 → A2 → A3 → A4 → A5 → A6 → Prop) (I : A1 → A2 → A3 → A4 → A5 → A6 → Prop) (μ : A1 → A2 → A3 → A4 → A5 → A6 → Nat) (hs : ∀ (n : Nat) (a1 : A1) (a2 : A2) (a3 : A3) (a4 : A4) (a5 : A5) (a6 : A6), I a1 a2 a3 a4 a5 a6 → (∀ (b1 : A1) (b2 : A2) (b3 : A3) (b4 : A4) (b5 : A5) (b6 : A6), I b1 b2 b3 b4 b5 b6 → μ b1 b2 b3 b4 b5 b6 < μ a1 a2 a3 a4 a5 a6 → W n b1 b2 b3 b4 b5 b6) → W (n + 1) a1 a2 a3 a4 a5 a6) (a1 : A1) (a2 : A2) (a3 : A3) (a4 : A4) (a5 : A5) (a6 : A6) (h : I a1 a2 a3 a4 a5 a6) : ∃ n, W n a1 a2 a3 a4 a5 a6 :=
  loop_m (σ := A1 × A2 × A3 × A4 × A5 × A6) (fun n s => W n s.1 s.2.1 s.2.2.1 s.2.2.2.1 s.2.2.2.2.1 s.2.2.2.2.2) (fun s => I s.1 s.2.1 s.2.2.1 s.2.2.2.1 s.2.2.2.2.1 s.2.2.2.2.2) (fun s => μ s.1 s.2.1 s.2.2.1 s.2.2.2.1 s.2.2.2.2.1 s.2.2.2.2.2) (fun n s hI hk => hs n s.1 s.2.1 s.2.2.1 s.2.2.2.1 s.2.2.2.2.1 s.2.2.2.2.2 hI (fun b1 b2 b3 b4 b5 b6 h9 hm => hk (b1, b2, b3, b4, b5, b6) h9 hm)) (a1, a2, a3, a4, a5, a6) h
theorem lp7 {A1 A2 A3 A4 A5 A6 A7 : Type} (W : Nat → A1 → A2 → A3 → A4 → A5 → A6 → A7 → Prop) (I : A1 → A2 → A3 → A4 → A5 → A6 → A7 → Prop) (μ : A1 → A2 → A3 → A4 → A5 → A6 → A7 → Nat) (hs : ∀ (n : Nat) (a1 : A1) (a2 : A2) (a3 : A3) (a4 : A4) (a5 : A5) (a6 : A6) (a7 : A7), I a1 a2 a3 a4 a5 a6 a7 → (∀ (b1 : A1) (b2 : A2) (b3 : A3) (b4 : A4) (b5 : A5) (b6 : A6) (b7 : A7), I b1 b2 b3 b4 b5 b6 b7 → μ b1 b2 b3 b4 b5 b6 b7 < μ a1 a2 a3 a4 a5 a6 a7 → W n b1 b2 b3 b4 b5 b6 b7) → W (n + 1) a1 a2 a3 a4 a5 a6 a7) (a1 : A1) (a2 : A2) (a3 : A3) (a4 : A4) (a5 : A5) (a6 : A6) (a7 : A7) (h : I a1 a2 a3 a4 a5 a6 a7) : ∃ n, W n a1 a2 a3 a4 a5 a6 a7 :=
  loop_m (σ := A1 × A2 × A3 × A4 × A5 × A6 × A7) (fun n s => W n s.1 s.2.1 s.2.2.1 s.2.2.2.1 s.2.2.2.2.1 s.2.2.2.2.2.1 s.2.2.2.2.2.2) (fun s => I s.1 s.2.1 s.2.2.1 s.2.2.2.1 s.2.2.2.2.1 s.2.2.2.2.2.1 s.2.2.2.2.2.2) (fun s => μ s.1 s.2.1 s.2.2.1 s.2.2.2.1 s.2.2.2.2.1 s.2.2.2.2.2.1 s.2.2.2.2.2.2) (fun n s hI hk => hs n s.1 s.2.1 s.2.2.1 s.2.2.2.1 s.2.2.2.2.1 s.2.2.2.2.2.1 s.2.2.2.2.2.2 hI (fun b1 b2 b3 b4 b5 b6 b7 h9 hm => hk (b1, b2, b3, b4, b5, b6, b7) h9 hm)) (a1, a2, a3, a4, a5, a6, a7) h
theorem lp8 {A1 A2 A3 A4 A5 A6 A7 A8 : Type} (W : Nat → A1 → A2 → A3 → A4 → A5 → A6 → A7 → A8 → Prop) (I : A1 → A2 → A3 → A4 → A5 → A6 → A7 → A8 → Prop) (μ : A1 → A2 → A3 → A4 → A5 → A6 → A7 → A8 → Nat) (hs : ∀ (n : Nat) (a1 : A1) (a2 : A2) (a3 : A3) (a4 : A4) (a5 : A5) (a6 : A6) (a7 : A7) (a8 : A8), I a1 a2 a3 a4 a5 a6 a7 a8 → (∀ (b1 : A1) (b2 : A2) (b3 : A3) (b4 : A4) (b5 : A5) (b6 : A6) (b7 : A7) (b8 : A8), I b1 b2 b3 b4 b5 b6 b7 b8 → μ b1 b2 b3 b4 b5 b6 b7 b8 < μ a1 a2 a3 a4 a5 a6 a7 a8 → W n b1 b2 b3 b4 b5 b6 b7 b8) → W (n + 1) a1 a2 a3 a4 a5 a6 a7 a8) (a1 : A1) (a2 : A2) (a3 : A3) (a4 : A4) (a5 : A5) (a6 : A6) (a7 : A7) (a8 : A8) (h : I a1 a2 a3 a4 a5 a6 a7 a8) : ∃ n, W n a1 a2 a3 a4 a5 a6 a7 a8 :=
  loop_m (σ := A1 × A2 × A3 × A4 × A5 × A6 × A7 × A8) (fun n s => W n s.1 s.2.1 s.2.2.1 s.2.2.2.1 s.2.2.2.2.1 s.2.2.2.2.2.1 s.2.2.2.2.2.2.1 s.2.2.2.2.2.2.2) (fun s => I s.1 s.2.1 s.2.2.1 s.2.2.2.1 s.2.2.2.2.1 s.2.2.2.2.2.1 s.2.2.2.2.2.2.1 s.2.2.2.2.2.2.2) (fun s => μ s.1 s.2.1 s.2.2.1 s.2.2.2.1 s.2.2.2.2.1 s.2.2.2.2.2.1 s.2.2.2.2.2.2.1 s.2.2.2.2.2.2.2) (fun n s hI hk => hs n s.1 s.2.1 s.2.2.1 s.2.2.2.1 s.2.2.2.2.1 s.2.2.2.2.2.1 s.2.2.2.2.2.2.1 s.2.2.2.2.2.2.2 hI (fun b1 b2 b3 b4 b5 b6 b7 b8 h9 hm => hk (b1, b2, b3, b4, b5, b6, b7, b8) h9 hm)) (a1, a2, a3, a4, a5, a6, a7, a8) h
theorem lp9 {A1 A2 A3 A4 A5 A6 A7 A8 A9 : Type} (W : Nat → A1 → A2 → A3 → A4 → A5 → A6 → A7 → A8 → A9 → Prop) (I : A1 → A2 → A3 → A4 → A5 → A6 → A7 → A8 → A9 → Prop) (μ : A1 → A2 → A3 → A4 → A5 → A6 → A7 → A8 → A9 → Nat) (hs : ∀ (n : Nat) (a1 : A1) (a2 : A2) (a3 : A3) (a4 : A4) (a5 : A5) (a6 : A6) (a7 : A7) (a8 : A8) (a9 : A9), I a1 a2 a3 a4 a5 a6 a7 a8 a9 → (∀ (b1 : A1) (b2 : A2) (b3 : A3) (b4 : A4) (b5 : A5) (b6 : A6) (b7 : A7) (b8 : A8) (b9 : A9), I b1 b2 b3 b4 b5 b6 b7 b8 b9 → μ b1 b2 b3 b4 b5 b6 b7 b8 b9 < μ a1 a2 a3 a4 a5 a6 a7 a8 a9 → W n b1 b2 b3 b4 b5 b6 b7 b8 b9) → W (n + 1) a1 a2 a3 a4 a5 a6 a7 a8 a9) (a1 : A1) (a2 : A2) (a3 : A3) (a4 : A4) (a5 : A5) (a6 : A6) (a7 : A7) (a8 : A8) (a9 : A9) (h : I a1 a2 a3 a4 a5 a6 a7 a8 a9) : ∃ n, W n a1 a2 a3 a4 a5 a6 a7 a8 a9 :=
  loop_m (σ := A1 × A2 × A3 × A4 × A5 × A6 × A7 × A8 × A9) (fun n s => W n s.1 s.2.1 s.2.2.1 s.2.2.2.1 s.2.2.2.2.1 s.2.2.2.2.2.1 s.2.2.2.2.2.2.1 s.2.2.2.2.2.2.2.1 s.2.2.2.2.2.2.2.2) (fun s => I s.1 s.2.1 s.2.2.1 s.2.2.2.1 s.2.2.2.2.1 s.2.2.2.2.2.1 s.2.2.2.2.2.2.1 s.2.2.2.2.2.2.2.1 s.2.2.2.2.2.2.2.2) (fun s => μ s.1 s.2.1 s.2.2.1 s.2.2.2.1 s.2.2.2.2.1 s.2.2.2.2.2.1 s.2.2.2.2.2.2.1 s.2.2.2.2.2.2.2.1 s.2.2.2.2.2.2.2.2) (fun n s hI hk => hs n s.1 s.2.1 s.2.2.1 s.2.2.2.1 s.2.2.2.2.1 s.2.2.2.2.2.1 s.2.2.2.2.2.2.1 s.2.2.2.2.2.2.2.1 s.2.2.2.2.2.2.2.2 hI (fun b1 b2 b3 b4 b5 b6 b7 b8 b9 h9 hm => hk (b1, b2, b3, b4, b5, b6, b7, b8, b9) h9 hm)) (a1, a2, a3, a4, a5, a6, a7, a8, a9) h
theorem lp10 {A1 A2 A3 A4 A5 A6 A7 A8 A9 A10 : Type} (W : Nat → A1 → A2 → A3 → A4 → A5 → A6 → A7 → A8 → A9 → A10 → Prop) (I : A1 → A2 → A3 → A4 → A5 → A6 → A7 → A8 → A9 → A10 → Prop) (μ : A1 → A2 → A3 → A4 → A5 → A6 → A7 → A8 → A9 → A10 → Nat) (hs : ∀ (n : Nat) (a1 : A1) (a2 : A2) (a3 : A3) (a4 : A4) (a5 : A5) (a6 : A6) (a7 : A7) (a8 : A8) (a9 : A9) (a10 : A10), I a1 a2 a3 a4 a5 a6 a7 a8 a9 a10 → (∀ (b1 : A1) (b2 : A2) (b3 : A3) (b4 : A4) (b5 : A5) (b6 : A6) (b7 : A7) (b8 : A8) (b9 : A9) (b10 : A10), I b1 b2 b3 b4 b5 b6 b7 b8 b9 b10 → μ b1 b2 b3 b4 b5 b6 b7 b8 b9 b10 < μ a1 a2 a3 a4 a5 a6 a7 a8 a9 a10 → W n b1 b2 b3 b4 b5 b6 b7 b8 b9 b10) → W (n + 1) a1 a2 a3 a4 a5 a6 a7 a8 a9 a10) (a1 : A1) (a2 : A2) (a3 : A3) (a4 : A4) (a5 : A5) (a6 : A6) (a7 : A7) (a8 : A8) (a9 : A9) (a10 : A10) (h : I a1 a2 a3 a4 a5 a6 a7 a8 a9 a10) : ∃ n, W n a1 a2 a3 a4 a5 a6 a7 a8 a9 a10 :=
  loop_m (σ := A1 × A2 × A3 × A4 × A5 × A6 × A7 × A8 × A9 × A10) (fun n s => W n s.1 s.2.1 s.2.2.1 s.2.2.2.1 s.2.2.2.2.1 s.2.2.2.2.2.1 s.2.2.2.2.2.2.1 s.2.2.2.2.2.2.2.1 s.2.2.2.2.2.2.2.2.1 s.2.2.2.2.2.2.2.2.2) (fun s => I s.1 s.2.1 s.2.2.1 s.2.2.2.1 s.2.2.2.2.1 s.2.2.2.2.2.1 s.2.2.2.2.2.2.1 s.2.2.2.2.2.2.2.1 s.2.2.2.2.2.2.2.2.1 s.2.2.2.2.2.2.2.2.2) (fun s => μ s.1 s.2.1 s.2.2.1 s.2.2.2.1 s.2.2.2.2.1 s.2.2.2.2.2.1 s.2.2.2.2.2.2.1 s.2.2.2.2.2.2.2.1 s.2.2.2.2.2.2.2.2.1 s.2.2.2.2.2.2.2.2.2) (fun n s hI hk => hs n s.1 s.2.1 s.2.2.1 s.2.2.2.1 s.2.2.2.2.1 s.2.2.2.2.2.1 s.2.2.2.2.2.2.1 s.2.2.2.2.2.2.2.1 s.2.2.2.2.2.2.2.2.1 s.2.2.2.2.2.2.2.2.2 hI (fun b1 b2 b3 b4 b5 b6 b7 b8 b9 b10 h9 hm => hk (b1, b2, b3, b4, b5, b6, b7, b8, b9, b10) h9 hm)) (a1, a2, a3, a4, a5, a6, a7, a8, a9, a10) h
theorem lp11 {A1 A2 A3 A4 A5 A6 A7 A8 A9 A10 A11 : Type} (W : Nat → A1 → A2 → A3 → A4 → A5 → A6 → A7 → A8 → A9 → A10 → A11 → Prop) (I : A1 → A2 → A3 → A4 → A5 → A6 → A7 → A8 → A9 → A10 → A11 → Prop) (μ : A1 → A2 → A3 → A4 → A5 → A6 → A7 → A8 → A9 → A10 → A11 → Nat) (hs : ∀ (n : Nat) (a1 : A1) (a2 : A2) (a3 : A3) (a4 : A4) (a5 : A5) (a6 : A6) (a7 : A7) (a8 : A8) (a9 : A9) (a10 : A10) (a11 : A11), I a1 a2 a3 a4 a5 a6 a7 a8 a9 a10 a11 → (∀ (b1 : A1) (b2 : A2) (b3 : A3) (b4 : A4) (b5 : A5) (b6 : A6) (b7 : A7) (b8 : A8) (b9 : A9) (b10 : A10) (b11 : A11), I b1 b2 b3 b4 b5 b6 b7 b8 b9 b10 b11 → μ b1 b2 b3 b4 b5 b6 b7 b8 b9 b10 b11 < μ a1 a2 a3 a4 a5 a6 a7 a8 a9 a10 a11 → W n b1 b2 b3 b4 b5 b6 b7 b8 b9 b10 b11) → W (n + 1) a1 a2 a3 a4 a5 a6 a7 a8 a9 a10 a11) (a1 : A1) (a2 : A2) (a3 : A3) (a4 : A4) (a5 : A5) (a6 : A6) (a7 : A7) (a8 : A8) (a9 : A9) (a10 : A10) (a11 : A11) (h : I a1 a2 a3 a4 a5 a6 a7 a8 a9 a10 a11) : ∃ n, W n a1 a2 a3 a4 a5 a6 a7 a8 a9 a10 a11 :=
  loop_m (σ := A1 × A2 × A3 × A4 × A5 × A6 × A7 × A8 × A9 × A10 × A11) (fun n s => W n s.1 s.2.1 s.2.2.1 s.2.2.2.1 s.2.2.2.2.1 s.2.2.2.2.2.1 s.2.2.2.2.2.2.1 s.2.2.2.2.2.2.2.1 s.2.2.2.2.2.2.2.2.1 s.2.2.2.2.2.2.2.2.2.1 s.2.2.2.2.2.2.2.2.2.2) (fun s => I s.1 s.2.1 s.2.2.1 s.2.2.2.1 s.2.2.2.2.1 s.2.2.2.2.2.1 s.2.2.2.2.2.2.1 s.2.2.2.2.2.2.2.1 s.2.2.2.2.2.2.2.2.1 s.2.2.2.2.2.2.2.2.2.1 s.2.2.2.2.2.2.2.2.2.2) (fun s => μ s.1 s.2.1 s.2.2.1 s.2.2.2.1 s.2.2.2.2.1 s.2.2.2.2.2.1 s.2.2.2.2.2.2.1 s.2.2.2.2.2.2.2.1 s.2.2.2.2.2.2.2.2.1 s.2.2.2.2.2.2.2.2.2.1 s.2.2.2.2.2.2.2.2.2.2) (fun n s hI hk => hs n s.1 s.2.1 s.2.2.1 s.2.2.2.1 s.2.2.2.2.1 s.2.2.2.2.2.1 s.2.2.2.2.2.2.1 s.2.2.2.2.2.2.2.1 s.2.2.2.2.2.2.2.2.1 s.2.2.2.2.2.2.2.2.2.1 s.2.2.2.2.2.2.2.2.2.2 hI (fun b1 b2 b3 b4 b5 b6 b7 b8 b9 b10 b11 h9 hm => hk (b1, b2, b3, b4, b5, b6, b7, b8, b9, b10, b11) h9 hm)) (a1, a2, a3, a4, a5, a6, a7, a8, a9, a10, a11) h
theorem lp12 {A1 A2 A3 A4 A5 A6 A7 A8 A9 A10 A11 A12 : Type} (W : Nat → A1 → A2 → A3 → A4 → A5 → A6 → A7 → A8 → A9 → A10 → A11 → A12 → Prop) (I : A1 → A2 → A3 → A4 → A5 → A6 → A7 → A8 → A9 → A10 → A11 → A12 → Prop) (μ : A1 → A2 → A3 → A4 → A5 → A6 → A7 → A8 → A9 → A10 → A11 → A12 → Nat) (hs : ∀ (n : Nat) (a1 : A1) (a2 : A2) (a3 : A3) (a4 : A4) (a5 : A5) (a6 : A6) (a7 : A7) (a8 : A8) (a9 : A9) (a10 : A10) (a11 : A11) (a12 : A12), I a1 a2 a3 a4 a5 a6 a7 a8 a9 a10 a11 a12 → (∀ (b1 : A1) (b2 : A2) (b3 : A3) (b4 : A4) (b5 : A5) (b6 : A6) (b7 : A7) (b8 : A8) (b9 : A9) (b10 : A10) (b11 : A11) (b12 : A12), I b1 b2 b3 b4 b5 b6 b7 b8 b9 b10 b11 b12 → μ b1 b2 b3 b4 b5 b6 b7 b8 b9 b10 b11 b12 < μ a1 a2 a3 a4 a5 a6 a7 a8 a9 a10 a11 a12 → W n b1 b2 b3 b4 b5 b6 b7 b8 b9 b10 b11 b12) → W (n + 1) a1 a2 a3 a4 a5 a6 a7 a8 a9 a10 a11 a12) (a1 : A1) (a2 : A2) (a3 : A3) (a4 : A4) (a5 : A5) (a6 : A6) (a7 : A7) (a8 : A8) (a9 : A9) (a10 : A10) (a11 : A11) (a12 : A12) (h : I a1 a2 a3 a4 a5 a6 a7 a8 a9 a10 a11 a12) : ∃ n, W n a1 a2 a3 a4 a5 a6 a7 a8 a9 a10 a11 a12 :=
  loop_m (σ := A1 × A2 × A3 × A4 × A5 × A6 × A7 × A8 × A9 × A10 × A11 × A12) (fun n s => W n s.1 s.2.1 s.2.2.1 s.2.2.2.1 s.2.2.2.2.1 s.2.2.2.2.2.1 s.2.2.2.2.2.2.1 s.2.2.2.2.2.2.2.1 s.2.2.2.2.2.2.2.2.1 s.2.2.2.2.2.2.2.2.2.1 s.2.2.2.2.2.2.2.2.2.2.1 s.2.2.2.2.2.2.2.2.2.2.2) (fun s => I s.1 s.2.1 s.2.2.1 s.2.2.2.1 s.2.2.2.2.1 s.2.2.2.2.2.1 s.2.2.2.2.2.2.1 s.2.2.2.2.2.2.2.1 s.2.2.2.2.2.2.2.2.1 s.2.2.2.2.2.2.2.2.2.1 s.2.2.2.2.2.2.2.2.2.2.1 s.2.2.2.2.2.2.2.2.2.2.2) (fun s => μ s.1 s.2.1 s.2.2.1 s.2.2.2.1 s.2.2.2.2.1 s.2.2.2.2.2.1 s.2.2.2.2.2.2.1 s.2.2.2.2.2.2.2.1 s.2.2.2.2.2.2.2.2.1 s.2.2.2.2.2.2.2.2.2.1 s.2.2.2.2.2.2.2.2.2.2.1 s.2.2.2.2.2.2.2.2.2.2.2) (fun n s hI hk => hs n s.1 s.2.1 s.2.2.1 s.2.2.2.1 s.2.2.2.2.1 s.2.2.2.2.2.1 s.2.2.2.2.2.2.1 s.2.2.2.2.2.2.2.1 s.2.2.2.2.2.2.2.2.1 s.2.2.2.2.2.2.2.2.2.1 s.2.2.2.2.2.2.2.2.2.2.1 s.2.2.2.2.2.2.2.2.2.2.2 hI (fun b1 b2 b3 b4 b5 b6 b7 b8 b9 b10 b11 b12 h9 hm => hk (b1, b2, b3, b4, b5, b6, b7, b8, b9, b10, b11, b12) h9 hm)) (a1, a2, a3, a4, a5, a6, a7, a8, a9, a10, a11, a12) h
theorem lp13 {A1 A2 A3 A4 A5 A6 A7 A8 A9 A10 A11 A12 A13 : Type} (W : Nat → A1 → A2 → A3 → A4 → A5 → A6 → A7 → A8 → A9 → A10 → A11 → A12 → A13 → Prop) (I : A1 → A2 → A3 → A4 → A5 → A6 → A7 → A8 → A9 → A10 → A11 → A12 → A13 → Prop) (μ : A1 → A2 → A3 → A4 → A5 → A6 → A7 → A8 → A9 → A10 → A11 → A12 → A13 → Nat) (hs : ∀ (n : Nat) (a1 : A1) (a2 : A2) (a3 : A3) (a4 : A4) (a5 : A5) (a6 : A6) (a7 : A7) (a8 : A8) (a9 : A9) (a10 : A10) (a11 : A11) (a12 : A12) (a13 : A13), I a1 a2 a3 a4 a5 a6 a7 a8 a9 a10 a11 a12 a13 → (∀ (b1 : A1) (b2 : A2) (b3 : A3) (b4 : A4) (b5 : A5) (b6 : A6) (b7 : A7) (b8 : A8) (b9 : A9) (b10 : A10) (b11 : A11) (b12 : A12) (b13 : A13), I b1 b2 b3 b4 b5 b6 b7 b8 b9 b10 b11 b12 b13 → μ b1 b2 b3 b4 b5 b6 b7 b8 b9 b10 b11 b12 b13 < μ a1 a2 a3 a4 a5 a6 a7 a8 a9 a10 a11 a12 a13 → W n b1 b2 b3 b4 b5 b6 b7 b8 b9 b10 b11 b12 b13) → W (n + 1) a1 a2 a3 a4 a5 a6 a7 a8 a9 a10 a11 a12 a13) (a1 : A1) (a2 : A2) (a3 : A3) (a4 : A4) (a5 : A5) (a6 : A6) (a7 : A7) (a8 : A8) (a9 : A9) (a10 : A10) (a11 : A11) (a12 : A12) (a13 : A13) (h : I a1 a2 a3 a4 a5 a6 a7 a8 a9 a10 a11 a12 a13) : ∃ n, W n a1 a2 a3 a4 a5 a6 a7 a8 a9 a10 a11 a12 a13 :=
  loop_m (σ := A1 × A2 × A3 × A4 × A5 × A6 × A7 × A8 × A9 × A10 × A11 × A12 × A13) (fun n s => W n s.1 s.2.1 s.2.2.1 s.2.2.2.1 s.2.2.2.2.1 s.2.2.2.2.2.1 s.2.2.2.2.2.2.1 s.2.2.2.2.2.2.2.1 s.2.2.2.2.2.2.2.2.1 s.2.2.2.2.2.2.2.2.2.1 s.2.2.2.2.2.2.2.2.2.2.1 s.2.2.2.2.2.2.2.2.2.2.2.1 s.2.2.2.2.2.2.2.2.2.2.2.2) (fun s => I s.1 s.2.1 s.2.2.1 s.2.2.2.1 s.2.2.2.2.1 s.2.2.2.2.2.1 s.2.2.2.2.2.2.1 s.2.2.2.2.2.2.2.1 s.2.2.2.2.2.2.2.2.1 s.2.2.2.2.2.2.2.2.2.1 s.2.2.2.2.2.2.2.2.2.2.1 s.2.2.2.2.2.2.2.2.2.2.2.1 s.2.2.2.2.2.2.2.2.2.2.2.2) (fun s => μ s.1 s.2.1 s.2.2.1 s.2.2.2.1 s.2.2.2.2.1 s.2.2.2.2.2.1 s.2.2.2.2.2.2.1 s.2.2.2.2.2.2.2.1 s.2.2.2.2.2.2.2.2.1 s.2.2.2.2.2.2.2.2.2.1 s.2.2.2.2.2.2.2.2.2.2.1 s.2.2.2.2.2.2.2.2.2.2.2.1 s.2.2.2.2.2.2.2.2.2.2.2.2) (fun n s hI hk => hs n s.1 s.2.1 s.2.2.1 s.2.2.2.1 s.2.2.2.2.1 s.2.2.2.2.2.1 s.2.2.2.2.2.2.1 s.2.2.2.2.2.2.2.1 s.2.2.2.2.2.2.2.2.1 s.2.2.2.2.2.2.2.2.2.1 s.2.2.2.2.2.2.2.2.2.2.1 s.2.2.2.2.2.2.2.2.2.2.2.1 s.2.2.2.2.2.2.2.2.2.2.2.2 hI (fun b1 b2 b3 b4 b5 b6 b7 b8 b9 b10 b11 b12 b13 h9 hm => hk (b1, b2, b3, b4, b5, b6, b7, b8, b9, b10, b11, b12, b13) h9 hm)) (a1, a2, a3, a4, a5, a6, a7, a8, a9, a10, a11, a12, a13) h
theorem lp14 {A1 A2 A3 A4 A5 A6 A7 A8 A9 A10 A11 A12 A13 A14 : Type} (W : Nat → A1 → A2 → A3 → A4 → A5 → A6 → A7 → A8 → A9 → A10 → A11 → A12 → A13 → A14 → Prop) (I : A1 → A2 → A3 → A4 → A5 → A6 → A7 → A8 → A9 → A10 → A11 → A12 → A13 → A14 → Prop) (μ : A1 → A2 → A3 → A4 → A5 → A6 → A7 → A8 → A9 → A10 → A11 → A12 → A13 → A14 → Nat) (hs : ∀ (n : Nat) (a1 : A1) (a2 : A2) (a3 : A3) (a4 : A4) (a5 : A5) (a6 : A6) (a7 : A7) (a8 : A8) (a9 : A9) (a10 : A10) (a11 : A11) (a12 : A12) (a13 : A13) (a14 : A14), I a1 a2 a3 a4 a5 a6 a7 a8 a9 a10 a11 a12 a13 a14 → (∀ (b1 : A1) (b2 : A2) (b3 : A3) (b4 : A4) (b5 : A5) (b6 : A6) (b7 : A7) (b8 : A8) (b9 : A9) (b10 : A10) (b11 : A11) (b12 : A12) (b13 : A13) (b14 : A14), I b1 b2 b3 b4 b5 b6 b7 b8 b9 b10 b11 b12 b13 b14 → μ b1 b2 b3 b4 b5 b6 b7 b8 b9 b10 b11 b12 b13 b14 < μ a1 a2 a3 a4 a5 a6 a7 a8 a9 a10 a11 a12 a13 a14 → W n b1 b2 b3 b4 b5 b6 b7 b8 b9 b10 b11 b12 b13 b14) → W (n + 1) a1 a2 a3 a4 a5 a6 a7 a8 a9 a10 a11 a12 a13 a14) (a1 : A1) (a2 : A2) (a3 : A3) (a4 : A4) (a5 : A5) (a6 : A6) (a7 : A7) (a8 : A8) (a9 : A9) (a10 : A10) (a11 : A11) (a12 : A12) (a13 : A13) (a14 : A14) (h : I a1 a2 a3 a4 a5 a6 a7 a8 a9 a10 a11 a12 a13 a14) : ∃ n, W n a1 a2 a3 a4 a5 a6 a7 a8 a9 a10 a11 a12 a13 a14 :=
  loop_m (σ := A1 × A2 × A3 × A4 × A5 × A6 × A7 × A8 × A9 × A10 × A11 × A12 × A13 × A14) (fun n s => W n s.1 s.2.1 s.2.2.1 s.2.2.2.1 s.2.2.2.2.1 s.2.2.2.2.2.1 s.2.2.2.2.2.2.1 s.2.2.2.2.2.2.2.1 s.2.2.2.2.2.2.2.2.1 s.2.2.2.2.2.2.2.2.2.1 s.2.2.2.2.2.2.2.2.2.2.1 s.2.2.2.2.2.2.2.2.2.2.2.1 s.2.2.2.2.2.2.2.2.2.2.2.2.1 s.2.2.2.2.2.2.2.2.2.2.2.2.2) (fun s => I s.1 s.2.1 s.2.2.1 s.2.2.2.1 s.2.2.2.2.1 s.2.2.2.2.2.1 s.2.2.2.2.2.2.1 s.2.2.2.2.2.2.2.1 s.2.2.2.2.2.2.2.2.1 s.2.2.2.2.2.2.2.2.2.1 s.2.2.2.2.2.2.2.2.2.2.1 s.2.2.2.2.2.2.2.2.2.2.2.1 s.2.2.2.2.2.2.2.2.2.2.2.2.1 s.2.2.2.2.2.2.2.2.2.2.2.2.2) (fun s => μ s.1 s.2.1 s.2.2.1 s.2.2.2.1 s.2.2.2.2.1 s.2.2.2.2.2.1 s.2.2.2.2.2.2.1 s.2.2.2.2.2.2.2.1 s.2.2.2.2.2.2.2.2.1 s.2.2.2.2.2.2.2.2.2.1 s.2.2.2.2.2.2.2.2.2.2.1 s.2.2.2.2.2.2.2.2.2.2.2.1 s.2.2.2.2.2.2.2.2.2.2.2.2.1 s.2.2.2.2.2.2.2.2.2.2.2.2.2) (fun n s hI hk => hs n s.1 s.2.1 s.2.2.1 s.2.2.2.1 s.2.2.2.2.1 s.2.2.2.2.2.1 s.2.2.2.2.2.2.1 s.2.2.2.2.2.2.2.1 s.2.2.2.2.2.2.2.2.1 s.2.2.2.2.2.2.2.2.2.1 s.2.2.2.2.2.2.2.2.2.2.1 s.2.2.2.2.2.2.2.2.2.2.2.1 s.2.2.2.2.2.2.2.2.2.2.2.2.1 s.2.2.2.2.2.2.2.2.2.2.2.2.2 hI (fun b1 b2 b3 b4 b5 b6 b7 b8 b9 b10 b11 b12 b13 b14 h9 hm => hk (b1, b2, b3, b4, b5, b6, b7, b8, b9, b10, b11, b12, b13, b14) h9 hm)) (a1, a2, a3, a4, a5, a6, a7, a8, a9, a10, a11, a12, a13, a14) h
theorem lp15 {A1 A2 A3 A4 A5 A6 A7 A8 A9 A10 A11 A12 A13 A14 A15 : Type} (W : Nat → A1 → A2 → A3 → A4 → A5 → A6 → A7 → A8 → A9 → A10 → A11 → A12 → A13 → A14 → A15 → Prop) (I : A1 → A2 → A3 → A4 → A5 → A6 → A7 → A8 → A9 → A10 → A11 → A12 → A13 → A14 → A15 → Prop) (μ : A1 → A2 → A3 → A4 → A5 → A6 → A7 → A8 → A9 → A10 → A11 → A12 → A13 → A14 → A15 → Nat) (hs : ∀ (n : Nat) (a1 : A1) (a2 : A2) (a3 : A3) (a4 : A4) (a5 : A5) (a6 : A6) (a7 : A7) (a8 : A8) (a9 : A9) (a10 : A10) (a11 : A11) (a12 : A12) (a13 : A13) (a14 : A14) (a15 : A15), I a1 a2 a3 a4 a5 a6 a7 a8 a9 a10 a11 a12 a13 a14 a15 → (∀ (b1 : A1) (b2 : A2) (b3 : A3) (b4 : A4) (b5 : A5) (b6 : A6) (b7 : A7) (b8 : A8) (b9 : A9) (b10 : A10) (b11 : A11) (b12 : A12) (b13 : A13) (b14 : A14) (b15 : A15), I b1 b2 b3 b4 b5 b6 b7 b8 b9 b10 b11 b12 b13 b14 b15 → μ b1 b2 b3 b4 b5 b6 b7 b8 b9 b10 b11 b12 b13 b14 b15 < μ a1 a2 a3 a4 a5 a6 a7 a8 a9 a10 a11 a12 a13 a14 a15 → W n b1 b2 b3 b4 b5 b6 b7 b8 b9 b10 b11 b12 b13 b14 b15) → W (n + 1) a1 a2 a3 a4 a5 a6 a7 a8 a9 a10 a11 a12 a13 a14 a15) (a1 : A1) (a2 : A2) (a3 : A3) (a4 : A4) (a5 : A5) (a6 : A6) (a7 : A7) (a8 : A8) (a9 : A9) (a10 : A10) (a11 : A11) (a12 : A12) (a13 : A13) (a14 : A14) (a15 : A15) (h : I a1 a2 a3 a4 a5 a6 a7 a8 a9 a10 a11 a12 a13 a14 a15) : ∃ n, W n a1 a2 a3 a4 a5 a6 a7 a8 a9 a10 a11 a12 a13 a14 a15 :=
  loop_m (σ := A1 × A2 × A3 × A4 × A5 × A6 × A7 × A8 × A9 × A10 × A11 × A12 × A13 × A14 × A15) (fun n s => W n s.1 s.2.1 s.2.2.1 s.2.2.2.1 s.2.2.2.2.1 s.2.2.2.2.2.1 s.2.2.2.2.2.2.1 s.2.2.2.2.2.2.2.1 s.2.2.2.2.2.2.2.2.1 s.2.2.2.2.2.2.2.2.2.1 s.2.2.2.2.2.2.2.2.2.2.1 s.2.2.2.2.2.2.2.2.2.2.2.1 s.2.2.2.2.2.2.2.2.2.2.2.2.1 s.2.2.2.2.2.2.2.2.2.2.2.2.2.1 s.2.2.2.2.2.2.2.2.2.2.2.2.2.2) (fun s => I s.1 s.2.1 s.2.2.1 s.2.2.2.1 s.2.2.2.2.1 s.2.2.2.2.2.1 s.2.2.2.2.2.2.1 s.2.2.2.2.2.2.2.1 s.2.2.2.2.2.2.2.2.1 s.2.2.2.2.2.2.2.2.2.1 s.2.2.2.2.2.2.2.2.2.2.1 s.2.2.2.2.2.2.2.2.2.2.2.1 s.2.2.2.2.2.2.2.2.2.2.2.2.1 s.2.2.2.2.2.2.2.2.2.2.2.2.2.1 s.2.2.2.2.2.2.2.2.2.2.2.2.2.2) (fun s => μ s.1 s.2.1 s.2.2.1 s.2.2.2.1 s.2.2.2.2.1 s.2.2.2.2.2.1 s.2.2.2.2.2.2.1 s.2.2.2.2.2.2.2.1 s.2.2.2.2.2.2.2.2.1 s.2.2.2.2.2.2.2.2.2.1 s.2.2.2.2.2.2.2.2.2.2.1 s.2.2.2.2.2.2.2.2.2.2.2.1 s.2.2.2.2.2.2.2.2.2.2.2.2.1 s.2.2.2.2.2.2.2.2.2.2.2.2.2.1 s.2.2.2.2.2.2.2.2.2.2.2.2.2.2) (fun n s hI hk => hs n s.1 s.2.1 s.2.2.1 s.2.2.2.1 s.2.2.2.2.1 s.2.2.2.2.2.1 s.2.2.2.2.2.2.1 s.2.2.2.2.2.2.2.1 s.2.2.2.2.2.2.2.2.1 s.2.2.2.2.2.2.2.2.2.1 s.2.2.2.2.2.2.2.2.2.2.1 s.2.2.2.2.2.2.2.2.2.2.2.1 s.2.2.2.2.2.2.2.2.2.2.2.2.1 s.2.2.2.2.2.2.2.2.2.2.2.2.2.1 s.2.2.2.2.2.2.2.2.2.2.2.2.2.2 hI (fun b1 b2 b3 b4 b5 b6 b7 b8 b9 b10 b11 b12 b13 b14 b15 h9 hm => hk (b1, b2, b3, b4, b5, b6, b7, b8, b9, b10, b11, b12, b13, b14, b15) h9 hm)) (a1, a2, a3, a4, a5, a6, a7, a8, a9, a10, a11, a12, a13, a14, a15) h
theorem lp16 {A1 A2 A3 A4 A5 A6 A7 A8 A9 A10 A11 A12 A13 A14 A15 A16 : Type} (W : Nat → A1 → A2 → A3 → A4 → A5 → A6 → A7 → A8 → A9 → A10 → A11 → A12 → A13 → A14 → A15 → A16 → Prop) (I : A1 → A2 → A3 → A4 → A5 → A6 → A7 → A8 → A9 → A10 → A11 → A12 → A13 → A14 → A15 → A16 → Prop) (μ : A1 → A2 → A3 → A4 → A5 → A6 → A7 → A8 → A9 → A10 → A11 → A12 → A13 → A14 → A15 → A16 → Nat) (hs : ∀ (n : Nat) (a1 : A1) (a2 : A2) (a3 : A3) (a4 : A4) (a5 : A5) (a6 : A6) (a7 : A7) (a8 : A8) (a9 : A9) (a10 : A10) (a11 : A11) (a12 : A12) (a13 : A13) (a14 : A14) (a15 : A15) (a16 : A16), I a1 a2 a3 a4 a5 a6 a7 a8 a9 a10 a11 a12 a13 a14 a15 a16 → (∀ (b1 : A1) (b2 : A2) (b3 : A3) (b4 : A4) (b5 : A5) (b6 : A6) (b7 : A7) (b8 : A8) (b9 : A9) (b10 : A10) (b11 : A11) (b12 : A12) (b13 : A13) (b14 : A14) (b15 : A15) (b16 : A16), I b1 b2 b3 b4 b5 b6 b7 b8 b9 b10 b11 b12 b13 b14 b15 b16 → μ b1 b2 b3 b4 b5 b6 b7 b8 b9 b10 b11 b12 b13 b14 b15 b16 < μ a1 a2 a3 a4 a5 a6 a7 a8 a9 a10 a11 a12 a13 a14 a15 a16 → W n b1 b2 b3 b4 b5 b6 b7 b8 b9 b10 b11 b12 b13 b14 b15 b16) → W (n + 1) a1 a2 a3 a4 a5 a6 a7 a8 a9 a10 a11 a12 a13 a14 a15 a16) (a1 : A1) (a2 : A2) (a3 : A3) (a4 : A4) (a5 : A5) (a6 : A6) (a7 : A7) (a8 : A8) (a9 : A9) (a10 : A10) (a11 : A11) (a12 : A12) (a13 : A13) (a14 : A14) (a15 : A15) (a16 : A16) (h : I a1 a2 a3 a4 a5 a6 a7 a8 a9 a10 a11 a12 a13 a14 a15 a16) : ∃ n, W n a1 a2 a3 a4 a5 a6 a7 a8 a9 a10 a11 a12 a13 a14 a15 a16 :=
  loop_m (σ := A1 × A2 × A3 × A4 × A5 × A6 × A7 × A8 × A9 × A10 × A11 × A12 × A13 × A14 × A15 × A16) (fun n s => W n s.1 s.2.1 s.2.2.1 s.2.2.2.1 s.2.2.2.2.1 s.2.2.2.2.2.1 s.2.2.2.2.2.2.1 s.2.2.2.2.2.2.2.1 s.2.2.2.2.2.2.2.2.1 s.2.2.2.2.2.2.2.2.2.1 s.2.2.2.2.2.2.2.2.2.2.1 s.2.2.2.2.2.2.2.2.2.2.2.1 s.2.2.2.2.2.2.2.2.2.2.2.2.1 s.2.2.2.2.2.2.2.2.2.2.2.2.2.1 s.2.2.2.2.2.2.2.2.2.2.2.2.2.2.1 s.2.2.2.2.2.2.2.2.2.2.2.2.2.2.2) (fun s => I s.1 s.2.1 s.2.2.1 s.2.2.2.1 s.2.2.2.2.1 s.2.2.2.2.2.1 s.2.2.2.2.2.2.1 s.2.2.2.2.2.2.2.1 s.2.2.2.2.2.2.2.2.1 s.2.2.2.2.2.2.2.2.2.1 s.2.2.2.2.2.2.2.2.2.2.1 s.2.2.2.2.2.2.2.2.2.2.2.1 s.2.2.2.2.2.2.2.2.2.2.2.2.1 s.2.2.2.2.2.2.2.2.2.2.2.2.2.1 s.2.2.2.2.2.2.2.2.2.2.2.2.2.2.1 s.2.2.2.2.2.2.2.2.2.2.2.2.2.2.2) (fun s => μ s.1 s.2.1 s.2.2.1 s.2.2.2.1 s.2.2.2.2.1 s.2.2.2.2.2.1 s.2.2.2.2.2.2.1 s.2.2.2.2.2.2.2.1 s.2.2.2.2.2.2.2.2.1 s.2.2.2.2.2.2.2.2.2.1 s.2.2.2.2.2.2.2.2.2.2.1 s.2.2.2.2.2.2.2.2.2.2.2.1 s.2.2.2.2.2.2.2.2.2.2.2.2.1 s.2.2.2.2.2.2.2.2.2.2.2.2.2.1 s.2.2.2.2.2.2.2.2.2.2.2.2.2.2.1 s.2.2.2.2.2.2.2.2.2.2.2.2.2.2.2) (fun n s hI hk => hs n s.1 s.2.1 s.2.2.1 s.2.2.2.1 s.2.2.2.2.1 s.2.2.2.2.2.1 s.2.2.2.2.2.2.1 s.2.2.2.2.2.2.2.1 s.2.2.2.2.2.2.2.2.1 s.2.2.2.2.2.2.2.2.2.1 s.2.2.2.2.2.2.2.2.2.2.1 s.2.2.2.2.2.2.2.2.2.2.2.1 s.2.2.2.2.2.2.2.2.2.2.2.2.1 s.2.2.2.2.2.2.2.2.2.2.2.2.2.1 s.2.2.2.2.2.2.2.2.2.2.2.2.2.2.1 s.2.2.2.2.2.2.2.2.2.2.2.2.2.2.2 hI (fun b1 b2 b3 b4 b5 b6 b7 b8 b9 b10 b11 b12 b13 b14 b15 b16 h9 hm => hk (b1, b2, b3, b4, b5, b6, b7, b8, b9, b10, b11, b12, b13, b14, b15, b16) h9 hm)) (a1, a2, a3, a4, a5, a6, a7, a8, a9, a10, a11, a12, a13, a14, a15, a16) h
theorem pk_least (P : Nat → Prop) (h : ∃ k, P k) : ∃ k, P k ∧ ∀ j, j < k → ¬ P j := by
  obtain ⟨k, hk⟩ := h
  induction k using Nat.strongRecOn with
  | ind k ih =>
    by_cases e : ∃ j, j < k ∧ P j
    · obtain ⟨j, hj, pj⟩ := e
      exact ih j hj pj
    · exact ⟨k, hk, fun j hj pj => e ⟨j, hj, pj⟩⟩
theorem rp1 {ρ A1 : Type} (W : Nat → (ρ → Prop) → A1 → Prop) (ok : A1 → Prop) (μ : A1 → Nat) (val : A1 → ρ)
    (hs : ∀ (d : Nat) (post : ρ → Prop) (a1 : A1), ok a1 → post (val a1) → (∀ (post' : ρ → Prop) (b1 : A1), ok b1 → μ b1 < μ a1 → post' (val b1) → W d post' b1) → W (d + 1) post a1) :
    ∀ (d : Nat) (post : ρ → Prop) (a1 : A1), ok a1 → μ a1 < d → post (val a1) → W d post a1 := by
  intro d
  induction d with
  | zero => intro post a1 _ h; omega
  | succ d ih =>
    intro post a1 ho hm hp
    exact hs d post a1 ho hp (fun post' b1 ho' hm' hp' => ih post' b1 ho' (by omega) hp')
theorem rp2 {ρ A1 A2 : Type} (W : Nat → (ρ → Prop) → A1 → A2 → Prop) (ok : A1 → A2 → Prop) (μ : A1 → A2 → Nat) (val : A1 → A2 → ρ)
    (hs : ∀ (d : Nat) (post : ρ → Prop) (a1 : A1) (a2 : A2), ok a1 a2 → post (val a1 a2) → (∀ (post' : ρ → Prop) (b1 : A1) (b2 : A2), ok b1 b2 → μ b1 b2 < μ a1 a2 → post' (val b1 b2) → W d post' b1 b2) → W (d + 1) post a1 a2) :
    ∀ (d : Nat) (post : ρ → Prop) (a1 : A1) (a2 : A2), ok a1 a2 → μ a1 a2 < d → post (val a1 a2) → W d post a1 a2 := by
  intro d
  induction d with
  | zero => intro post a1 a2 _ h; omega
  | succ d ih =>
    intro post a1 a2 ho hm hp
    exact hs d post a1 a2 ho hp (fun post' b1 b2 ho' hm' hp' => ih post' b1 b2 ho' (by omega) hp')
theorem rp3 {ρ A1 A2 A3 : Type} (W : Nat → (ρ → Prop) → A1 → A2 → A3 → Prop) (ok : A1 → A2 → A3 → Prop) (μ : A1 → A2 → A3 → Nat) (val : A1 → A2 → A3 → ρ)
    (hs : ∀ (d : Nat) (post : ρ → Prop) (a1 : A1) (a2 : A2) (a3 : A3), ok a1 a2 a3 → post (val a1 a2 a3) → (∀ (post' : ρ → Prop) (b1 : A1) (b2 : A2) (b3 : A3), ok b1 b2 b3 → μ b1 b2 b3 < μ a1 a2 a3 → post' (val b1 b2 b3) → W d post' b1 b2 b3) → W (d + 1) post a1 a2 a3) :
    ∀ (d : Nat) (post : ρ → Prop) (a1 : A1) (a2 : A2) (a3 : A3), ok a1 a2 a3 → μ a1 a2 a3 < d → post (val a1 a2 a3) → W d post a1 a2 a3 := by
  intro d
  induction d with
  | zero => intro post a1 a2 a3 _ h; omega
  | succ d ih =>
    intro post a1 a2 a3 ho hm hp
    exact hs d post a1 a2 a3 ho hp (fun post' b1 b2 b3 ho' hm' hp' => ih post' b1 b2 b3 ho' (by omega) hp')
theorem rp4 {ρ A1 A2 A3 A4 : Type} (W : Nat → (ρ → Prop) → A1 → A2 → A3 → A4 → Prop) (ok : A1 → A2 → A3 → A4 → Prop) (μ : A1 → A2 → A3 → A4 → Nat) (val : A1 → A2 → A3 → A4 → ρ)
    (hs : ∀ (d : Nat) (post : ρ → Prop) (a1 : A1) (a2 : A2) (a3 : A3) (a4 : A4), ok a1 a2 a3 a4 → post (val a1 a2 a3 a4) → (∀ (post' : ρ → Prop) (b1 : A1) (b2 : A2) (b3 : A3) (b4 : A4), ok b1 b2 b3 b4 → μ b1 b2 b3 b4 < μ a1 a2 a3 a4 → post' (val b1 b2 b3 b4) → W d post' b1 b2 b3 b4) → W (d + 1) post a1 a2 a3 a4) :
    ∀ (d : Nat) (post : ρ → Prop) (a1 : A1) (a2 : A2) (a3 : A3) (a4 : A4), ok a1 a2 a3 a4 → μ a1 a2 a3 a4 < d → post (val a1 a2 a3 a4) → W d post a1 a2 a3 a4 := by
  intro d
  induction d with
  | zero => intro post a1 a2 a3 a4 _ h; omega
  | succ d ih =>
    intro post a1 a2 a3 a4 ho hm hp
    exact hs d post a1 a2 a3 a4 ho hp (fun post' b1 b2 b3 b4 ho' hm' hp' => ih post' b1 b2 b3 b4 ho' (by omega) hp')
theorem rp5 {ρ A1 A2 A3 A4 A5 : Type} (W : Nat → (ρ → Prop) → A1 → A2 → A3 → A4 → A5 → Prop) (ok : A1 → A2 → A3 → A4 → A5 → Prop) (μ : A1 → A2 → A3 → A4 → A5 → Nat) (val : A1 → A2 → A3 → A4 → A5 → ρ)
    (hs : ∀ (d : Nat) (post : ρ → Prop) (a1 : A1) (a2 : A2) (a3 : A3) (a4 : A4) (a5 : A5), ok a1 a2 a3 a4 a5 → post (val a1 a2 a3 a4 a5) → (∀ (post' : ρ → Prop) (b1 : A1) (b2 : A2) (b3 : A3) (b4 : A4) (b5 : A5), ok b1 b2 b3 b4 b5 → μ b1 b2 b3 b4 b5 < μ a1 a2 a3 a4 a5 → post' (val b1 b2 b3 b4 b5) → W d post' b1 b2 b3 b4 b5) → W (d + 1) post a1 a2 a3 a4 a5) :
    ∀ (d : Nat) (post : ρ → Prop) (a1 : A1) (a2 : A2) (a3 : A3) (a4 : A4) (a5 : A5), ok a1 a2 a3 a4 a5 → μ a1 a2 a3 a4 a5 < d → post (val a1 a2 a3 a4 a5) → W d post a1 a2 a3 a4 a5 := by
  intro d
  induction d with
  | zero => intro post a1 a2 a3 a4 a5 _ h; omega
  | succ d ih =>
    intro post a1 a2 a3 a4 a5 ho hm hp
    exact hs d post a1 a2 a3 a4 a5 ho hp (fun post' b1 b2 b3 b4 b5 ho' hm' hp' => ih post' b1 b2 b3 b4 b5 ho' (by omega) hp')
theorem rp6 {ρ A1 A2 A3 A4 A5 A6 : Type} (W : Nat → (ρ → Prop) → A1 → A2 → A3 → A4 → A5 → A6 → Prop) (ok : A1 → A2 → A3 → A4 → A5 → A6 → Prop) (μ : A1 → A2 → A3 → A4 → A5 → A6 → Nat) (val : A1 → A2 → A3 → A4 → A5 → A6 → ρ)
    (hs : ∀ (d : Nat) (post : ρ → Prop) (a1 : A1) (a2 : A2) (a3 : A3) (a4 : A4) (a5 : A5) (a6 : A6), ok a1 a2 a3 a4 a5 a6 → post (val a1 a2 a3 a4 a5 a6) → (∀ (post' : ρ → Prop) (b1 : A1) (b2 : A2) (b3 : A3) (b4 : A4) (b5 : A5) (b6 : A6), ok b1 b2 b3 b4 b5 b6 → μ b1 b2 b3 b4 b5 b6 < μ a1 a2 a3 a4 a5 a6 → post' (val b1 b2 b3 b4 b5 b6) → W d post' b1 b2 b3 b4 b5 b6) → W (d + 1) post a1 a2 a3 a4 a5 a6) :
    ∀ (d : Nat) (post : ρ → Prop) (a1 : A1) (a2 : A2) (a3 : A3) (a4 : A4) (a5 : A5) (a6 : A6), ok a1 a2 a3 a4 a5 a6 → μ a1 a2 a3 a4 a5 a6 < d → post (val a1 a2 a3 a4 a5 a6) → W d post a1 a2 a3 a4 a5 a6 := by
  intro d
  induction d with
  | zero => intro post a1 a2 a3 a4 a5 a6 _ h; omega
  | succ d ih =>
    intro post a1 a2 a3 a4 a5 a6 ho hm hp
    exact hs d post a1 a2 a3 a4 a5 a6 ho hp (fun post' b1 b2 b3 b4 b5 b6 ho' hm' hp' => ih post' b1 b2 b3 b4 b5 b6 ho' (by omega) hp')
theorem rec_p {σ ρ : Type} (W : Nat → (ρ → Prop) → σ → Prop) (ok : σ → Prop) (μ : σ → Nat) (val : σ → ρ)
    (hs : ∀ d s post, ok s → post (val s) → (∀ s' post', ok s' → μ s' < μ s → post' (val s') → W d post' s') → W (d + 1) post s) :
    ∀ d s post, ok s → μ s < d → post (val s) → W d post s := by
  intro d
  induction d with
  | zero => intro s post _ h; omega
  | succ d ih =>
    intro s post ho hm hp
    exact hs d s post ho hp (fun s' post' ho' hm' hp' => ih s' post' ho' (by omega) hp')
theorem rec_q {σ ρ : Type} (W : Nat → (ρ → Prop) → σ → Prop) (ok : σ → Prop) (μ : σ → Nat) (Q : σ → ρ → Prop)
    (hs : ∀ d s post, ok s → (∀ r, Q s r → post r) → (∀ s' post', ok s' → μ s' < μ s → (∀ r, Q s' r → post' r) → W d post' s') → W (d + 1) post s) :
    ∀ d s post, ok s → μ s < d → (∀ r, Q s r → post r) → W d post s := by
  intro d
  induction d with
  | zero => intro s post _ h; omega
  | succ d ih =>
    intro s post ho hm hp
    exact hs d s post ho hp (fun s' post' ho' hm' hp' => ih s' post' ho' (by omega) hp')
def bx_sum (f : Nat → Int32) : Nat → Int32
  | 0 => 0
  | n + 1 => bx_sum f n + f n
theorem ek_u {A : Prop} {B : Nat → Prop} {k N : Nat} (hk : k < N) (h : B k) : (some k = none → A) ∧ (∀ y : Nat, some k = some y → (y < N ∧ B y)) :=
  ⟨fun z => absurd z (Option.some_ne_none k), fun _ e => (by cases e; exact ⟨hk, h⟩)⟩
theorem ek_nu {A : Prop} {B : Nat → Prop} (h : A) : ((none : Option Nat) = none → A) ∧ (∀ y : Nat, (none : Option Nat) = some y → B y) :=
  ⟨fun _ => h, fun _ e => (by cases e)⟩
theorem ek_if {c d A B : Prop} (e : c ↔ d) (f : d → A) (g : ¬ d → B) : (c → A) ∧ (¬ c → B) :=
  ⟨fun z => f (e.mp z), fun z => g (fun y => z (e.mpr y))⟩
theorem ek_v {α : Sort _} {P : α → Prop} {a b : α} (e : a = b) (h : P b) : P a := e ▸ h
theorem co_some {x : Option Nat} {A : Prop} {B : Nat → Prop} (i : Nat) (h : B i) (hx : x = some i := by rfl) : (x = none → A) ∧ (∀ y : Nat, x = some y → B y) := by
  subst hx
  exact ⟨fun e => (nomatch e), fun y e => Option.some.inj e ▸ h⟩
theorem co_none {x : Option Nat} {A : Prop} {B : Nat → Prop} (h : A) (hx : x = none := by rfl) : (x = none → A) ∧ (∀ y : Nat, x = some y → B y) := by
  subst hx
  exact ⟨fun _ => h, fun y e => (nomatch e)⟩
theorem co_any {x : Option Nat} {A : Prop} {B : Nat → Prop} (hn : x = none → A) (hs : ∀ i : Nat, x = some i → B i) : (x = none → A) ∧ (∀ y : Nat, x = some y → B y) := ⟨hn, hs⟩
theorem co_2 {P : Nat → Prop} (h0 : P 0) (h1 : P 1) {i : Nat} (hi : i < 2) : P i :=
  match i, hi with
  | 0, _ => h0
  | 1, _ => h1
theorem co_3 {P : Nat → Prop} (h0 : P 0) (h1 : P 1) (h2 : P 2) {i : Nat} (hi : i < 3) : P i :=
  match i, hi with
  | 0, _ => h0
  | 1, _ => h1
  | 2, _ => h2
theorem co_4 {P : Nat → Prop} (h0 : P 0) (h1 : P 1) (h2 : P 2) (h3 : P 3) {i : Nat} (hi : i < 4) : P i :=
  match i, hi with
  | 0, _ => h0
  | 1, _ => h1
  | 2, _ => h2
  | 3, _ => h3
theorem co_dec {N : Nat} {P : Nat → Prop} [DecidablePred P] (h : (List.range N).all (fun i => decide (P i)) = true) {i : Nat} (hi : i < N) : P i := by
  have := List.all_eq_true.mp h i (List.mem_range.mpr hi)
  exact of_decide_eq_true this
theorem co_tab {α : Type} {l : List α} {d : α} {P : α → Prop} (h : ∀ a, a ∈ l → P a) {i : Nat} (hi : i < l.length) : P (l.getD i d) := by
  rw [List.getD_eq_getElem?_getD, List.getElem?_eq_getElem hi]
  exact h _ (List.getElem_mem hi)
theorem pk_mu {x : Int32} {L : Nat} (h0 : ¬ x < 0) (h : ¬ nI L ≤ x) (hL : L < 2 ^ 31) : ∃ j : Nat, j < L ∧ x = nI j ∧ x + 1 = nI (j + 1) ∧ x.toNatClampNeg = j ∧ L - (x + 1).toNatClampNeg < L - x.toNatClampNeg := by
  obtain ⟨j, hj, rfl⟩ := nI_of h0
  have hl : j < L := Nat.not_le.mp fun q => h (nI_le q hj)
  refine ⟨j, hl, rfl, nI_1 j, nI_clamp hj, ?_⟩
  rw [nI_1, nI_clamp (by omega), nI_clamp hj]
  omega
theorem op_s {α : Type} {r : Option α} {A : Prop} {B : α → Prop} {y : α} (h : r = some y) (b : B y) : (r = none → A) ∧ ∀ z, r = some z → B z :=
  ⟨fun e => (by rw [h] at e; cases e), fun z e => (by rw [h] at e; cases e; exact b)⟩
def l_holds {α : Type} (a : Nat → Option Nat) (LP : List Nat) (p : Nat → α) (c : Nat) (b : Nat → α) : Prop :=
  ∀ j, j < c → ∃ y, a j = some y ∧ y ∈ LP ∧ p y = b j
theorem l_holds_0 {α : Type} {a : Nat → Option Nat} {LP : List Nat} {p b : Nat → α} : l_holds a LP p 0 b := fun j h => absurd h (Nat.not_lt_zero j)
theorem l_in_new (LP : List Nat) (q : Nat) : q ∈ LP ++ [q] := List.mem_append.mpr (Or.inr (List.mem_singleton.mpr rfl))
def l_sum (b : Nat → Int32) : Nat → Int32
  | 0 => 0
  | k + 1 => l_sum b k + b k
theorem sb_shr0 (x : Int32) : x >>> ((0 : Int32) &&& 31) = x := by
  rw [show ((0 : Int32) &&& 31) = 0 by decide]
  simp
theorem sb_shl0 (x : Int32) : x <<< ((0 : Int32) &&& 31) = x := by
  rw [show ((0 : Int32) &&& 31) = 0 by decide]
  simp
theorem sb_cl0 : (0 : Int32).toNatClampNeg = 0 := by decide
theorem sb_m1 {p : Nat} (h : 0 < p) : nI p + (-1) = nI (p - 1) := by
  obtain ⟨q, rfl⟩ : ∃ q, p = q + 1 := ⟨p - 1, by omega⟩
  exact pk_m1 q
def sb_b (c : Nat) : Int32 := (nI c).toInt8.toInt32
theorem sb_byte : ∀ c, c < 256 → sb_b c &&& 255 = nI c ∧ ((nI c).toUInt32 % 65536).toInt32 = nI c ∧ nI c ≤ 255 := by decide +kernel
def sb_Fit (a : Nat → Int32) : Prop := ∀ j, fits .byte (.int (a j)) = true
def sb_Lat (t : Nat → Nat) (n : Nat) (a : Nat → Int32) : Prop := ∀ j, j < n → t j < 256 ∧ a j = sb_b (t j)
theorem sb_fitB (c : Nat) : fits .byte (.int (sb_b c)) = true := pk_fb _
theorem sb_fit0 : sb_Fit (fun _ => 0) := fun _ => by
  show fits .byte (.int 0) = true
  decide
theorem sb_fitU {a : Nat → Int32} {k : Nat} {x : Int32} (h : sb_Fit a) (hx : fits .byte (.int x) = true) : sb_Fit (upd a k x) := by
  intro j
  by_cases e : j = k
  · subst e
    rw [pk_us]
    exact hx
  · rw [pk_un e]
    exact h j
def sb_cat (t : Nat → Nat) (n : Nat) (s : Nat → Nat) : Nat → Nat := fun j => if j < n then t j else s (j - n)
theorem sb_cat_lo {t s : Nat → Nat} {n j : Nat} (h : j < n) : sb_cat t n s j = t j := if_pos h
theorem sb_cat_hi {t s : Nat → Nat} {n j : Nat} : sb_cat t n s (n + j) = s j := by
  show (if n + j < n then t (n + j) else s (n + j - n)) = s j
  rw [if_neg (by omega), Nat.add_sub_cancel_left]
theorem sb_latPut {t s : Nat → Nat} {n w : Nat} {a a' : Nat → Int32} (h : sb_Lat t n a) (hk : ∀ j, j < n → a' j = a j) (hs : ∀ i, i < w → s i < 256 ∧ a' (n + i) = sb_b (s i)) : sb_Lat (sb_cat t n s) (n + w) a' := by
  intro j hj
  by_cases e : j < n
  · rw [sb_cat_lo e, hk j e]
    exact h j e
  · obtain ⟨i, rfl⟩ : ∃ i, j = n + i := ⟨j - n, by omega⟩
    rw [sb_cat_hi]
    exact hs i (by omega)
theorem sb_latKeep {t : Nat → Nat} {n : Nat} {a a' : Nat → Int32} (h : sb_Lat t n a) (hk : ∀ j, j < n → a' j = a j) : sb_Lat t n a' := fun j hj => by
  rw [hk j hj]
  exact h j hj
def sb_cap (q m : Nat) : Nat := if q ≤ m then m else if 2 * m + 2 < q then q else 2 * m + 2
def sb_Room (q m mc ms : Nat) : Prop := q ≤ m ∨ (1 ≤ mc ∧ sb_cap q m ≤ ms ∧ sb_cap q m ≤ 65536)
theorem sb_cap_ge (q m : Nat) : q ≤ sb_cap q m := by
  unfold sb_cap
  split
  · omega
  · split <;> omega
theorem sb_cap_gem (q m : Nat) : m ≤ sb_cap q m := by
  unfold sb_cap
  split
  · omega
  · split <;> omega
theorem sb_cap_le {q m mc ms : Nat} (hm : m ≤ 65536) (hr : sb_Room q m mc ms) : sb_cap q m ≤ 65536 := by
  rcases hr with h | h
  · rw [sb_cap, if_pos h]
    exact hm
  · exact h.2.2
theorem sb_at {P : Int32 → Prop} {x y : Int32} (e : x = y) (h : P y) : P x := e ▸ h
def sb_dg (w : Nat) : Nat := if w < 10 then 1 else if w < 100 then 2 else if w < 1000 then 3 else if w < 10000 then 4 else if w < 100000 then 5 else if w < 1000000 then 6 else if w < 10000000 then 7 else if w < 100000000 then 8 else if w < 1000000000 then 9 else 10
def sb_dec (v : Nat) : Nat → Nat := fun i => 48 + v / 10 ^ (sb_dg v - 1 - i) % 10
theorem sb_dg_in (w : Nat) : 1 ≤ sb_dg w ∧ sb_dg w ≤ 10 := by
  unfold sb_dg
  constructor <;> (repeat' split) <;> omega
theorem sb_dg100 {w : Nat} (h : 100 ≤ w) (hw : w < 2 ^ 31) : sb_dg w = sb_dg (w / 100) + 2 := by
  rw [sb_dg, sb_dg, if_neg (show ¬ w < 10 by omega), if_neg (show ¬ w < 100 by omega)]
  by_cases h3 : w < 1000
  · rw [if_pos h3, if_pos (show w / 100 < 10 by omega)]
  rw [if_neg h3, if_neg (show ¬ w / 100 < 10 by omega)]
  by_cases h4 : w < 10000
  · rw [if_pos h4, if_pos (show w / 100 < 100 by omega)]
  rw [if_neg h4, if_neg (show ¬ w / 100 < 100 by omega)]
  by_cases h5 : w < 100000
  · rw [if_pos h5, if_pos (show w / 100 < 1000 by omega)]
  rw [if_neg h5, if_neg (show ¬ w / 100 < 1000 by omega)]
  by_cases h6 : w < 1000000
  · rw [if_pos h6, if_pos (show w / 100 < 10000 by omega)]
  rw [if_neg h6, if_neg (show ¬ w / 100 < 10000 by omega)]
  by_cases h7 : w < 10000000
  · rw [if_pos h7, if_pos (show w / 100 < 100000 by omega)]
  rw [if_neg h7, if_neg (show ¬ w / 100 < 100000 by omega)]
  by_cases h8 : w < 100000000
  · rw [if_pos h8, if_pos (show w / 100 < 1000000 by omega)]
  rw [if_neg h8, if_neg (show ¬ w / 100 < 1000000 by omega)]
  by_cases h9 : w < 1000000000
  · rw [if_pos h9, if_pos (show w / 100 < 10000000 by omega)]
  rw [if_neg h9, if_neg (show ¬ w / 100 < 10000000 by omega)]
  rw [if_pos (show w / 100 < 100000000 by omega)]
theorem sb_negT {w : Nat} (h : w < 2 ^ 31) : (-nI w).toInt = -(w : Int) := by
  rw [Int32.toInt_neg, nI_toInt h]
  exact Int.bmod_eq_of_le (by omega) (by omega)
theorem sb_nle {a b : Nat} (ha : a < 2 ^ 31) (hb : b < 2 ^ 31) : -nI a ≤ -nI b ↔ b ≤ a := by
  rw [Int32.le_iff_toInt_le, sb_negT ha, sb_negT hb]
  omega
theorem sb_nlt {a b : Nat} (ha : a < 2 ^ 31) (hb : b < 2 ^ 31) : -nI a < -nI b ↔ b < a := by
  rw [Int32.lt_iff_toInt_lt, sb_negT ha, sb_negT hb]
  omega
theorem sb_cmp {A B : Prop} {x : Int32} (v c : Nat) (f : c ≤ v → A) (g : v < c → B) (hv : v < 2 ^ 31) (hx : x = -nI c := by rfl) (hc : c < 2 ^ 31 := by omega) : (-nI v ≤ x → A) ∧ (¬ -nI v ≤ x → B) := by
  subst hx
  rw [sb_nle hv hc]
  exact ⟨f, fun z => g (by omega)⟩
theorem sb_ndiv {w : Nat} (hw : w < 2 ^ 31) : (-nI w) / 100 = -nI (w / 100) := by
  apply Int32.toInt_inj.mp
  have h100 : (100 : Int32).toInt = 100 := by decide
  rw [Int32.toInt_div, sb_negT hw, h100, sb_negT (by omega), Int.neg_tdiv, Int.tdiv_eq_ediv_of_nonneg (by omega), Int.bmod_eq_of_le (by omega) (by omega)]
  omega
theorem sb_nrem {w : Nat} (hw : w < 2 ^ 31) : (-nI (w / 100)) * 100 - (-nI w) = nI (w % 100) := by
  have h := pk_rem (a := w) (d := 100) hw (by decide) (by decide)
  rw [pk_div hw (by decide) (by decide)] at h
  rw [← h]
  show (-nI (w / 100)) * nI 100 - (-nI w) = nI w - nI (w / 100) * nI 100
  rw [Int32.neg_mul, Int32.sub_neg, Int32.add_comm, ← Int32.sub_eq_add_neg]
end
section
/-! ===== lN n to 2^64: shifts, and, or, masks, one bit ===== -/
theorem wb_tb (n : Nat) : (lN n).toBitVec = BitVec.ofNat 64 n := rfl
theorem wb_inj {a b : Int64} (h : a.toBitVec = b.toBitVec) : a = b := Int64.toBitVec_inj.mp h
theorem wb_tn {n : Nat} (h : n < 2 ^ 64) : (lN n).toBitVec.toNat = n := by rw [wb_tb, BitVec.toNat_ofNat, Nat.mod_eq_of_lt h]
theorem wb_of (x : Int64) : ∃ n, n < 2 ^ 64 ∧ x = lN n := ⟨x.toBitVec.toNat, x.toBitVec.isLt, wb_inj (by rw [wb_tb]; simp)⟩
theorem wb_of32 (x : Int32) : ∃ n, n < 2 ^ 32 ∧ x = nI n := ⟨x.toBitVec.toNat, x.toBitVec.isLt, Int32.toBitVec_inj.mp (by show _ = BitVec.ofNat 32 _; simp)⟩
theorem wb_c : ∀ k, k < 64 → ((nI k).toInt64 &&& 63) = lN k := by decide +kernel
theorem wb_cu : ∀ k, k < 64 → ((nI k).toInt64.toUInt64 &&& Int64.toUInt64 63) = UInt64.ofNat k := by decide +kernel
theorem wb_sm : ∀ k, k < 64 → (BitVec.ofNat 64 k).smod 64 = BitVec.ofNat 64 k := by decide +kernel
theorem wb_pw {a b : Nat} (h : a ≤ b) : 2 ^ b = 2 ^ a * 2 ^ (b - a) := by rw [← Nat.pow_add]; congr 1; omega
theorem wb_lt2 {a b : Nat} (h : a < b) : 2 ^ a < 2 ^ b := Nat.pow_lt_pow_right (by decide) h
theorem wb_mod (n : Nat) : lN n = lN (n % 2 ^ 64) := wb_inj (by rw [wb_tb, wb_tb]; apply BitVec.eq_of_toNat_eq; rw [BitVec.toNat_ofNat, BitVec.toNat_ofNat, Nat.mod_mod])
theorem wb_shr {n k : Nat} (hn : n < 2 ^ 64) (hk : k < 64) : ((lN n).toUInt64 >>> ((nI k).toInt64.toUInt64 &&& Int64.toUInt64 63)).toInt64 = lN (n / 2 ^ k) := by
  rw [wb_cu k hk]
  apply wb_inj
  apply BitVec.eq_of_toNat_eq
  show ((lN n).toUInt64 >>> UInt64.ofNat k).toNat = (BitVec.ofNat 64 _).toNat
  have h1 : (UInt64.ofNat k).toNat = k := by
    show (BitVec.ofNat 64 k).toNat = k
    rw [BitVec.toNat_ofNat, Nat.mod_eq_of_lt (by omega)]
  have h2 : (lN n).toUInt64.toNat = n := wb_tn hn
  rw [UInt64.toNat_shiftRight, h1, h2, Nat.mod_eq_of_lt hk, Nat.shiftRight_eq_div_pow, BitVec.toNat_ofNat, Nat.mod_eq_of_lt (Nat.lt_of_le_of_lt (Nat.div_le_self _ _) hn)]
theorem wb_shl (n : Nat) {k : Nat} (hk : k < 64) : lN n <<< ((nI k).toInt64 &&& 63) = lN (n * 2 ^ k) := by
  rw [wb_c k hk]
  apply wb_inj
  rw [Int64.toBitVec_shiftLeft, wb_tb, wb_tb, wb_tb, wb_sm k hk]
  apply BitVec.eq_of_toNat_eq
  rw [BitVec.shiftLeft_eq', BitVec.toNat_shiftLeft, BitVec.toNat_ofNat, BitVec.toNat_ofNat, BitVec.toNat_ofNat, Nat.mod_eq_of_lt (show k < 2 ^ 64 by omega), Nat.shiftLeft_eq, Nat.mul_mod, Nat.mod_mod, ← Nat.mul_mod]
theorem wb_and {a b : Nat} (ha : a < 2 ^ 64) (hb : b < 2 ^ 64) : lN a &&& lN b = lN (a &&& b) := by
  apply wb_inj
  rw [Int64.toBitVec_and, wb_tb, wb_tb, wb_tb]
  apply BitVec.eq_of_toNat_eq
  rw [BitVec.toNat_and, BitVec.toNat_ofNat, BitVec.toNat_ofNat, BitVec.toNat_ofNat, Nat.mod_eq_of_lt ha, Nat.mod_eq_of_lt hb, Nat.mod_eq_of_lt (Nat.and_lt_two_pow _ hb)]
theorem wb_or {a b : Nat} (ha : a < 2 ^ 64) (hb : b < 2 ^ 64) : lN a ||| lN b = lN (a ||| b) := by
  apply wb_inj
  rw [Int64.toBitVec_or, wb_tb, wb_tb, wb_tb]
  apply BitVec.eq_of_toNat_eq
  rw [BitVec.toNat_or, BitVec.toNat_ofNat, BitVec.toNat_ofNat, BitVec.toNat_ofNat, Nat.mod_eq_of_lt ha, Nat.mod_eq_of_lt hb, Nat.mod_eq_of_lt (Nat.or_lt_two_pow ha hb)]
theorem wb_mask {n k : Nat} (hn : n < 2 ^ 64) (hk : k < 64) : lN n &&& lN (2 ^ k - 1) = lN (n % 2 ^ k) := by
  rw [wb_and hn (by have := wb_lt2 hk; omega), Nat.and_two_pow_sub_one_eq_mod]
theorem wb_a1 {n : Nat} (hn : n < 2 ^ 64) : lN n &&& 1 = lN (n % 2) := wb_mask (k := 1) hn (by decide)
theorem wb_bit {n k : Nat} (hn : n < 2 ^ 64) (hk : k < 64) : ((lN n).toUInt64 >>> ((nI k).toInt64.toUInt64 &&& Int64.toUInt64 63)).toInt64 &&& 1 = lN (n / 2 ^ k % 2) := by
  rw [wb_shr hn hk, wb_a1 (Nat.lt_of_le_of_lt (Nat.div_le_self _ _) hn)]
theorem wb_xor {q k : Nat} (hk : k < 63) (h : 2 ^ k ≤ q) (h2 : q < 2 ^ (k + 1)) : lN q ^^^ lN (2 ^ k) = lN (q - 2 ^ k) := by
  obtain ⟨r, rfl⟩ : ∃ r, q = 2 ^ k + r := ⟨q - 2 ^ k, by omega⟩
  have hr : r < 2 ^ k := by rw [Nat.pow_succ] at h2; omega
  have hx : (2 ^ k + r) ^^^ 2 ^ k = r := by
    apply Nat.eq_of_testBit_eq
    intro i
    rw [Nat.testBit_xor, Nat.testBit_two_pow]
    rcases Nat.lt_trichotomy i k with h | h | h
    · rw [Nat.testBit_two_pow_add_gt h]
      simp [show ¬ k = i by omega]
    · subst h
      rw [Nat.testBit_two_pow_add_eq]
      simp
    · have a1 : 2 ^ (k + 1) ≤ 2 ^ i := Nat.pow_le_pow_right (by decide) h
      rw [Nat.testBit_lt_two_pow (show 2 ^ k + r < 2 ^ i by omega), Nat.testBit_lt_two_pow (show r < 2 ^ i by omega)]
      simp [show ¬ k = i by omega]
  have b1 := wb_lt2 (show k + 1 < 64 by omega)
  have b2 := wb_lt2 (show k < 64 by omega)
  apply wb_inj
  rw [Int64.toBitVec_xor, wb_tb, wb_tb, wb_tb]
  apply BitVec.eq_of_toNat_eq
  rw [BitVec.toNat_xor, BitVec.toNat_ofNat, BitVec.toNat_ofNat, BitVec.toNat_ofNat, Nat.mod_eq_of_lt (by omega : 2 ^ k + r < 2 ^ 64), Nat.mod_eq_of_lt b2, hx, Nat.add_sub_cancel_left, Nat.mod_eq_of_lt (by omega)]
end
section
/-! ===== counting: how many of the first n numbers a test takes ===== -/
def cs_cn (f : Nat → Bool) : Nat → Nat
  | 0 => 0
  | n + 1 => cs_cn f n + (if f n = true then 1 else 0)
theorem cs_cn0 (f : Nat → Bool) : cs_cn f 0 = 0 := rfl
theorem cs_cns (f : Nat → Bool) (n : Nat) : cs_cn f (n + 1) = cs_cn f n + (if f n = true then 1 else 0) := rfl
theorem cs_cnT {f : Nat → Bool} {n : Nat} (h : f n = true) : cs_cn f (n + 1) = cs_cn f n + 1 := by rw [cs_cns, if_pos h]
theorem cs_cnF {f : Nat → Bool} {n : Nat} (h : f n = false) : cs_cn f (n + 1) = cs_cn f n := by
  rw [cs_cns, if_neg (by rw [h]; decide)]; rfl
theorem cs_cn_le (f : Nat → Bool) : ∀ n, cs_cn f n ≤ n := by
  intro n
  induction n with
  | zero => exact Nat.le_refl 0
  | succ n ih => rw [cs_cns]; split <;> omega
theorem cs_cn_mono (f : Nat → Bool) {a b : Nat} (h : a ≤ b) : cs_cn f a ≤ cs_cn f b := by
  obtain ⟨d, rfl⟩ : ∃ d, b = a + d := ⟨b - a, by omega⟩
  clear h
  induction d with
  | zero => exact Nat.le_refl _
  | succ d ih => rw [← Nat.add_assoc, cs_cns]; omega
theorem cs_cn_lt {f : Nat → Bool} {a b : Nat} (h : a < b) (ha : f a = true) : cs_cn f a < cs_cn f b := by
  have h1 := cs_cn_mono f (show a + 1 ≤ b from h)
  rw [cs_cnT ha] at h1
  omega
theorem cs_cn_inj {f : Nat → Bool} {a b : Nat} (ha : f a = true) (hb : f b = true) (h : cs_cn f a = cs_cn f b) : a = b := by
  rcases Nat.lt_trichotomy a b with l | l | l
  · have := cs_cn_lt l ha; omega
  · exact l
  · have := cs_cn_lt l hb; omega
theorem cs_cn_rev {f : Nat → Bool} {a b : Nat} (h : cs_cn f a < cs_cn f b) : a < b := by
  rcases Nat.lt_or_ge a b with l | l
  · exact l
  · have := cs_cn_mono f l; omega
theorem cs_cn_cong {f g : Nat → Bool} : ∀ {n : Nat}, (∀ i, i < n → f i = g i) → cs_cn f n = cs_cn g n := by
  intro n
  induction n with
  | zero => intro _; rfl
  | succ n ih =>
    intro h
    rw [cs_cns, cs_cns, ih (fun i hi => h i (by omega)), h n (by omega)]
theorem cs_cn_add (f : Nat → Bool) (a : Nat) : ∀ b, cs_cn f (a + b) = cs_cn f a + cs_cn (fun i => f (a + i)) b := by
  intro b
  induction b with
  | zero => rfl
  | succ b ih => rw [← Nat.add_assoc, cs_cns, ih, cs_cns, Nat.add_assoc]
theorem cs_cn_T {f : Nat → Bool} {a : Nat} : ∀ {d : Nat}, (∀ j, a ≤ j → j < a + d → f j = true) → cs_cn f (a + d) = cs_cn f a + d := by
  intro d
  induction d with
  | zero => intro _; rfl
  | succ d ih =>
    intro h
    rw [← Nat.add_assoc, cs_cnT (h (a + d) (by omega) (by omega)), ih (fun j h1 h2 => h j h1 (by omega))]
    omega
theorem cs_cn_F {f : Nat → Bool} {a b : Nat} (hab : a ≤ b) (h : ∀ j, a ≤ j → j < b → f j = false) : cs_cn f b = cs_cn f a := by
  obtain ⟨d, rfl⟩ : ∃ d, b = a + d := ⟨b - a, by omega⟩
  clear hab
  induction d with
  | zero => rfl
  | succ d ih =>
    rw [← Nat.add_assoc, cs_cnF (h (a + d) (by omega) (by omega)), ih (fun j h1 h2 => h j h1 (by omega))]
theorem cs_cn_ex {f : Nat → Bool} {k : Nat} : ∀ {n : Nat}, k < cs_cn f n → ∃ j, j < n ∧ f j = true ∧ cs_cn f j = k := by
  intro n
  induction n with
  | zero => intro h; exact absurd h (Nat.not_lt_zero k)
  | succ n ih =>
    intro h
    by_cases hk : k < cs_cn f n
    · obtain ⟨j, h1, h2, h3⟩ := ih hk
      exact ⟨j, by omega, h2, h3⟩
    · by_cases hf : f n = true
      · rw [cs_cnT hf] at h
        exact ⟨n, by omega, hf, by omega⟩
      · rw [cs_cnF (by simpa using hf)] at h
        exact absurd h hk
theorem cs_cn_set {f g : Nat → Bool} {v : Nat} (h : ∀ i, i ≠ v → g i = f i) (hf : f v = false) (hg : g v = true) : ∀ n, cs_cn g n = cs_cn f n + (if v < n then 1 else 0) := by
  intro n
  induction n with
  | zero => rfl
  | succ n ih =>
    by_cases hv : n = v
    · subst hv
      rw [cs_cnT hg, cs_cnF hf, ih, if_neg (Nat.lt_irrefl n), if_pos (Nat.lt_succ_self n)]
    · rw [cs_cns, cs_cns, ih, h n hv]
      by_cases hl : v < n
      · rw [if_pos hl, if_pos (show v < n + 1 by omega)]; omega
      · rw [if_neg hl, if_neg (show ¬ v < n + 1 by omega), Nat.add_zero, Nat.add_zero]
theorem cs_cn_split (f g : Nat → Bool) : ∀ n, cs_cn f n = cs_cn (fun i => f i && g i) n + cs_cn (fun i => f i && !g i) n := by
  intro n
  induction n with
  | zero => rfl
  | succ n ih =>
    rw [cs_cns, cs_cns, cs_cns, ih]
    cases f n <;> cases g n <;> simp <;> omega
theorem cs_cn_all0 {f : Nat → Bool} {n : Nat} (h : ∀ j, j < n → f j = false) : cs_cn f n = 0 := by
  rw [cs_cn_F (Nat.zero_le n) (fun j _ hj => h j hj)]; rfl
theorem cs_cn_0all {f : Nat → Bool} {n : Nat} (h : cs_cn f n = 0) : ∀ j, j < n → f j = false := by
  intro j hj
  cases hf : f j with
  | false => rfl
  | true => have := cs_cn_lt hj hf; omega
/-! ===== the first number from p on that a test takes, 64 if none is ===== -/
def cs_ld (f : Nat → Bool) : Nat → Nat → Nat
  | 0, p => p
  | d + 1, p => if f p = true then p else cs_ld f d (p + 1)
theorem cs_ld_spec (f : Nat → Bool) : ∀ d p, p ≤ cs_ld f d p ∧ cs_ld f d p ≤ p + d ∧ (∀ j, p ≤ j → j < cs_ld f d p → f j = false) ∧ (cs_ld f d p < p + d → f (cs_ld f d p) = true) := by
  intro d
  induction d with
  | zero =>
    intro p
    refine ⟨Nat.le_refl p, Nat.le_refl p, fun j h1 h2 => ?_, fun h => absurd h (Nat.lt_irrefl p)⟩
    have h2' : j < p := h2
    omega
  | succ d ih =>
    intro p
    by_cases h : f p = true
    · have e : cs_ld f (d + 1) p = p := if_pos h
      rw [e]
      exact ⟨Nat.le_refl p, by omega, fun j h1 h2 => by omega, fun _ => h⟩
    · have e : cs_ld f (d + 1) p = cs_ld f d (p + 1) := if_neg h
      rw [e]
      obtain ⟨a, b, c, q⟩ := ih (p + 1)
      refine ⟨by omega, by omega, fun j h1 h2 => ?_, fun z => q (by omega)⟩
      by_cases hj : j = p
      · subst hj; simpa using h
      · exact c j (by omega) h2
def cs_fs (f : Nat → Bool) (p : Nat) : Nat := cs_ld f (64 - p) p
theorem cs_fs_ge (f : Nat → Bool) (p : Nat) : p ≤ cs_fs f p := (cs_ld_spec f (64 - p) p).1
theorem cs_fs_le (f : Nat → Bool) {p : Nat} (hp : p ≤ 64) : cs_fs f p ≤ 64 := by
  have h := (cs_ld_spec f (64 - p) p).2.1
  have e : cs_fs f p = cs_ld f (64 - p) p := rfl
  rw [e]; omega
theorem cs_fs_f (f : Nat → Bool) (p : Nat) : ∀ j, p ≤ j → j < cs_fs f p → f j = false := (cs_ld_spec f (64 - p) p).2.2.1
theorem cs_fs_t (f : Nat → Bool) {p : Nat} (hp : p ≤ 64) (h : cs_fs f p < 64) : f (cs_fs f p) = true := by
  refine (cs_ld_spec f (64 - p) p).2.2.2 ?_
  have e : cs_fs f p = cs_ld f (64 - p) p := rfl
  rw [← e]; omega
/-! ===== stretches of a test: the i-th begins at cs_ra f i and ends ahead of cs_re f i ===== -/
def cs_nt (f : Nat → Bool) : Nat → Bool := fun j => !f j
def cs_ra (f : Nat → Bool) : Nat → Nat
  | 0 => cs_fs f 0
  | i + 1 => cs_fs f (cs_fs (cs_nt f) (cs_ra f i))
def cs_re (f : Nat → Bool) (i : Nat) : Nat := cs_fs (cs_nt f) (cs_ra f i)
theorem cs_ra_s (f : Nat → Bool) (i : Nat) : cs_ra f (i + 1) = cs_fs f (cs_re f i) := rfl
theorem cs_ra_le (f : Nat → Bool) : ∀ i, cs_ra f i ≤ 64 := by
  intro i
  induction i with
  | zero => exact cs_fs_le f (by omega)
  | succ i ih => exact cs_fs_le f (cs_fs_le _ ih)
theorem cs_re_le (f : Nat → Bool) (i : Nat) : cs_re f i ≤ 64 := cs_fs_le _ (cs_ra_le f i)
theorem cs_ra_re (f : Nat → Bool) (i : Nat) : cs_ra f i ≤ cs_re f i := cs_fs_ge _ _
theorem cs_re_ra (f : Nat → Bool) (i : Nat) : cs_re f i ≤ cs_ra f (i + 1) := cs_fs_ge _ _
theorem cs_ra_t (f : Nat → Bool) {i : Nat} (h : cs_ra f i < 64) : f (cs_ra f i) = true := by
  cases i with
  | zero => exact cs_fs_t f (by omega) h
  | succ i => exact cs_fs_t f (cs_re_le f i) h
theorem cs_in (f : Nat → Bool) (i : Nat) : ∀ j, cs_ra f i ≤ j → j < cs_re f i → f j = true := by
  intro j h1 h2
  have h := cs_fs_f (cs_nt f) (cs_ra f i) j h1 h2
  have e : cs_nt f j = !f j := rfl
  rw [e] at h
  cases hf : f j with
  | true => rfl
  | false => rw [hf] at h; exact absurd h (by decide)
theorem cs_out (f : Nat → Bool) (i : Nat) : ∀ j, cs_re f i ≤ j → j < cs_ra f (i + 1) → f j = false := cs_fs_f f (cs_re f i)
theorem cs_out0 (f : Nat → Bool) : ∀ j, j < cs_ra f 0 → f j = false := fun j h => cs_fs_f f 0 j (Nat.zero_le j) h
theorem cs_ra_lt (f : Nat → Bool) {i : Nat} (h : cs_ra f i < 64) : cs_ra f i < cs_re f i := by
  rcases Nat.lt_or_ge (cs_ra f i) (cs_re f i) with l | l
  · exact l
  · have e : cs_re f i = cs_ra f i := Nat.le_antisymm l (cs_ra_re f i)
    have h2 := cs_fs_t (cs_nt f) (cs_ra_le f i) (show cs_fs (cs_nt f) (cs_ra f i) < 64 from by show cs_re f i < 64; omega)
    have h3 : cs_nt f (cs_re f i) = true := h2
    rw [e] at h3
    have h4 : (!f (cs_ra f i)) = true := h3
    rw [cs_ra_t f h] at h4
    exact absurd h4 (by decide)
theorem cs_re_f (f : Nat → Bool) {i : Nat} (h : cs_re f i < 64) : f (cs_re f i) = false := by
  have h2 : (!f (cs_re f i)) = true := cs_fs_t (cs_nt f) (cs_ra_le f i) h
  cases hf : f (cs_re f i) with
  | false => rfl
  | true => rw [hf] at h2; exact absurd h2 (by decide)
theorem cs_ra_mono (f : Nat → Bool) (i : Nat) : cs_ra f i ≤ cs_ra f (i + 1) := Nat.le_trans (cs_ra_re f i) (cs_re_ra f i)
theorem cs_ra_le2 (f : Nat → Bool) {a b : Nat} (h : a ≤ b) : cs_ra f a ≤ cs_ra f b := by
  obtain ⟨d, rfl⟩ : ∃ d, b = a + d := ⟨b - a, by omega⟩
  clear h
  induction d with
  | zero => exact Nat.le_refl _
  | succ d ih => exact Nat.le_trans ih (cs_ra_mono f (a + d))
/-- the count over a stretch -/
theorem cs_cn_re (f : Nat → Bool) (i : Nat) : cs_cn f (cs_re f i) = cs_cn f (cs_ra f i) + (cs_re f i - cs_ra f i) := by
  have h := cs_cn_T (f := f) (a := cs_ra f i) (d := cs_re f i - cs_ra f i) (fun j h1 h2 => cs_in f i j h1 (by have := cs_ra_re f i; omega))
  have e : cs_ra f i + (cs_re f i - cs_ra f i) = cs_re f i := by have := cs_ra_re f i; omega
  rw [e] at h
  exact h
theorem cs_cn_ras (f : Nat → Bool) (i : Nat) : cs_cn f (cs_ra f (i + 1)) = cs_cn f (cs_ra f i) + (cs_re f i - cs_ra f i) := by
  rw [← cs_cn_re]
  exact cs_cn_F (cs_re_ra f i) (cs_out f i)
theorem cs_cn_ra0 (f : Nat → Bool) : cs_cn f (cs_ra f 0) = 0 := cs_cn_all0 (cs_out0 f)
/-- where stretches begin -/
def cs_st (f : Nat → Bool) : Nat → Bool := fun j => f j && !(decide (0 < j) && f (j - 1))
theorem cs_st_t {f : Nat → Bool} {j : Nat} (h : f j = true) (h2 : 0 < j → f (j - 1) = false) : cs_st f j = true := by
  show (f j && !(decide (0 < j) && f (j - 1))) = true
  rw [h]
  by_cases z : 0 < j
  · rw [h2 z]; simp
  · rw [decide_eq_false z]; rfl
theorem cs_st_f1 {f : Nat → Bool} {j : Nat} (h : f j = false) : cs_st f j = false := by
  show (f j && !(decide (0 < j) && f (j - 1))) = false
  rw [h]; rfl
theorem cs_st_f2 {f : Nat → Bool} {j : Nat} (h0 : 0 < j) (h : f (j - 1) = true) : cs_st f j = false := by
  show (f j && !(decide (0 < j) && f (j - 1))) = false
  rw [h, decide_eq_true h0]
  cases f j <;> rfl
theorem cs_st_ra (f : Nat → Bool) {i : Nat} (h : cs_ra f i < 64) : cs_st f (cs_ra f i) = true := by
  refine cs_st_t (cs_ra_t f h) (fun z => ?_)
  cases i with
  | zero => exact cs_out0 f _ (by omega)
  | succ i =>
    by_cases hl : cs_re f i ≤ cs_ra f (i + 1) - 1
    · exact cs_out f i _ hl (by omega)
    · have h1 := cs_re_ra f i
      have h2 := cs_re_f f (i := i) (by omega)
      have h3 := cs_ra_t f h
      have e : cs_re f i = cs_ra f (i + 1) := by omega
      rw [e, h3] at h2
      exact absurd h2 (by decide)
theorem cs_cn_st (f : Nat → Bool) : ∀ i, (∀ k, k < i → cs_ra f k < 64) → cs_cn (cs_st f) (cs_ra f i) = i := by
  intro i
  induction i with
  | zero =>
    intro _
    exact cs_cn_all0 (fun j h => cs_st_f1 (cs_out0 f j h))
  | succ i ih =>
    intro hk
    have hi := hk i (by omega)
    have h1 := ih (fun k h => hk k (by omega))
    have h2 := cs_cnT (cs_st_ra f hi)
    have h3 : cs_cn (cs_st f) (cs_re f i) = cs_cn (cs_st f) (cs_ra f i + 1) := by
      refine cs_cn_F (cs_ra_lt f hi) (fun j a b => cs_st_f2 (by omega) (cs_in f i _ (by omega) (by omega)))
    have h4 : cs_cn (cs_st f) (cs_ra f (i + 1)) = cs_cn (cs_st f) (cs_re f i) :=
      cs_cn_F (cs_re_ra f i) (fun j a b => cs_st_f1 (cs_out f i j a b))
    omega
/-- as many stretches as beginnings -/
theorem cs_ra_runs (f : Nat → Bool) : cs_ra f (cs_cn (cs_st f) 64) = 64 ∧ ∀ i, i < cs_cn (cs_st f) 64 → cs_ra f i < 64 := by
  have key : ∀ i, i ≤ cs_cn (cs_st f) 64 → ∀ k, k < i → cs_ra f k < 64 := by
    intro i
    induction i with
    | zero => intro _ k hk; omega
    | succ i ih =>
      intro hi k hk
      by_cases e : k = i
      · subst e
        have h1 := cs_cn_st f k (ih (by omega))
        have h2 := cs_ra_le f k
        rcases Nat.lt_or_ge (cs_ra f k) 64 with l | l
        · exact l
        · have e2 : cs_ra f k = 64 := by omega
          rw [e2] at h1
          omega
      · exact ih (by omega) k (by omega)
  have h1 := cs_cn_st f _ (key _ (Nat.le_refl _))
  refine ⟨?_, key _ (Nat.le_refl _)⟩
  have h2 := cs_ra_le f (cs_cn (cs_st f) 64)
  rcases Nat.lt_or_ge (cs_ra f (cs_cn (cs_st f) 64)) 64 with l | l
  · have h3 := cs_cn_lt l (cs_st_ra f l)
    omega
  · omega
end
section
/-! ===== a long by its bits ===== -/
def cs_b (w : Int64) (i : Nat) : Bool := w.toBitVec.getLsbD i
theorem cs_bext {x y : Int64} (h : ∀ i, i < 64 → cs_b x i = cs_b y i) : x = y := Int64.toBitVec_inj.mp (BitVec.eq_of_getLsbD_eq h)
theorem cs_bor (x y : Int64) (i : Nat) : cs_b (x ||| y) i = (cs_b x i || cs_b y i) := by
  unfold cs_b; rw [Int64.toBitVec_or, BitVec.getLsbD_or]
theorem cs_band (x y : Int64) (i : Nat) : cs_b (x &&& y) i = (cs_b x i && cs_b y i) := by
  unfold cs_b; rw [Int64.toBitVec_and, BitVec.getLsbD_and]
theorem cs_bxor (x y : Int64) (i : Nat) : cs_b (x ^^^ y) i = (cs_b x i ^^ cs_b y i) := by
  unfold cs_b; rw [Int64.toBitVec_xor, BitVec.getLsbD_xor]
theorem cs_bge {w : Int64} {i : Nat} (h : 64 ≤ i) : cs_b w i = false := BitVec.getLsbD_of_ge _ _ h
theorem cs_blN (n i : Nat) : cs_b (lN n) i = (decide (i < 64) && n.testBit i) := by
  unfold cs_b; rw [wb_tb, BitVec.getLsbD_ofNat]
theorem cs_b0 (i : Nat) : cs_b 0 i = false := by
  have h := cs_blN 0 i
  rw [Nat.zero_testBit, Bool.and_false] at h
  exact h
theorem cs_bm1 {i : Nat} (h : i < 64) : cs_b (-1) i = true := by
  unfold cs_b
  have e : (-1 : Int64).toBitVec = BitVec.allOnes 64 := by decide
  rw [e, BitVec.getLsbD_allOnes]
  exact decide_eq_true h
theorem cs_bnot (x : Int64) {i : Nat} (h : i < 64) : cs_b (x ^^^ (-1)) i = !cs_b x i := by
  rw [cs_bxor, cs_bm1 h, Bool.xor_true]
theorem cs_bneg_t {x : Int64} {i : Nat} (hi : i < 64) (h : ∃ j, j < i ∧ cs_b x j = true) : cs_b (-x) i = !cs_b x i := by
  unfold cs_b at h
  unfold cs_b
  rw [Int64.toBitVec_neg, BitVec.getLsbD_neg, decide_eq_true hi, decide_eq_true h]
  cases x.toBitVec.getLsbD i <;> rfl
theorem cs_bneg_f {x : Int64} {i : Nat} (h : ∀ j, j < i → cs_b x j = false) : cs_b (-x) i = cs_b x i := by
  have h2 : ¬ ∃ j, j < i ∧ x.toBitVec.getLsbD j = true := by
    rintro ⟨j, h1, h2⟩
    have h3 : x.toBitVec.getLsbD j = false := h j h1
    rw [h3] at h2
    exact absurd h2 (by decide)
  unfold cs_b
  rw [Int64.toBitVec_neg, BitVec.getLsbD_neg, decide_eq_false h2]
  cases x.toBitVec.getLsbD i <;> cases decide (i < 64) <;> rfl
theorem cs_bsub1 (x : Int64) {i : Nat} (hi : i < 64) : cs_b (x - 1) i = !cs_b (-x) i := by
  have e : (x - 1).toBitVec = ~~~(-x.toBitVec) := by
    rw [BitVec.not_neg]; rfl
  unfold cs_b
  rw [e, BitVec.getLsbD_not, decide_eq_true hi, Int64.toBitVec_neg, Bool.true_and]
theorem cs_tbig {n i : Nat} (hn : n < 2 ^ 64) (hi : 64 ≤ i) : n.testBit i = false :=
  Nat.testBit_lt_two_pow (Nat.lt_of_lt_of_le hn (Nat.pow_le_pow_right (by decide) hi))
theorem cs_bshl {k : Nat} (hk : k < 64) (w : Int64) {i : Nat} (hi : i < 64) : cs_b (w <<< ((nI k).toInt64 &&& 63)) i = (decide (k ≤ i) && cs_b w (i - k)) := by
  obtain ⟨n, hn, rfl⟩ := wb_of w
  rw [wb_shl n hk, cs_blN, cs_blN, Nat.testBit_mul_two_pow, decide_eq_true hi, decide_eq_true (show i - k < 64 by omega), Bool.true_and, Bool.true_and]
theorem cs_bshr {k : Nat} (hk : k < 64) (w : Int64) (i : Nat) : cs_b ((w.toUInt64 >>> ((nI k).toInt64.toUInt64 &&& Int64.toUInt64 63)).toInt64) i = cs_b w (k + i) := by
  obtain ⟨n, hn, rfl⟩ := wb_of w
  rw [wb_shr hn hk, cs_blN, cs_blN, Nat.testBit_div_two_pow, Nat.add_comm i k]
  by_cases h : k + i < 64
  · rw [decide_eq_true h, decide_eq_true (show i < 64 by omega)]
  · rw [cs_tbig hn (show 64 ≤ k + i by omega), Bool.and_false, Bool.and_false]
theorem cs_bpow {k : Nat} (hk : k < 64) (i : Nat) : cs_b (lN (2 ^ k)) i = decide (i = k) := by
  rw [cs_blN, Nat.testBit_two_pow]
  by_cases h : i = k
  · subst h; rw [decide_eq_true hk, decide_eq_true rfl]; rfl
  · rw [decide_eq_false h, decide_eq_false (show ¬ k = i from fun z => h z.symm), Bool.and_false]
theorem cs_one {k : Nat} (hk : k < 64) : (1 : Int64) <<< ((nI k).toInt64 &&& 63) = lN (2 ^ k) := by
  have h := wb_shl 1 hk
  rw [Nat.one_mul] at h
  exact h
theorem cs_bone {k : Nat} (hk : k < 64) (i : Nat) : cs_b ((1 : Int64) <<< ((nI k).toInt64 &&& 63)) i = decide (i = k) := by
  rw [cs_one hk, cs_bpow hk]
/-- the bits below the lowest one -/
theorem cs_low {w : Int64} {v : Nat} (hv : v ≤ 64) (h0 : ∀ j, j < v → cs_b w j = false) (h1 : v < 64 → cs_b w v = true) : ∀ i, i < 64 → cs_b ((w &&& (-w)) - 1) i = decide (i < v) := by
  intro i hi
  by_cases hv4 : v < 64
  · have e : w &&& (-w) = lN (2 ^ v) := by
      apply cs_bext
      intro j hj
      rw [cs_band, cs_bpow hv4]
      rcases Nat.lt_trichotomy j v with l | l | l
      · rw [h0 j l, decide_eq_false (by omega)]; rfl
      · subst l
        rw [cs_bneg_f h0, h1 hv4, decide_eq_true rfl]; rfl
      · rw [cs_bneg_t hj ⟨v, l, h1 hv4⟩, decide_eq_false (by omega)]
        cases cs_b w j <;> rfl
    have e2 : lN (2 ^ v) - 1 = lN (2 ^ v - 1) := lN_sub (b := 1) Nat.one_le_two_pow
    rw [e, e2, cs_blN, Nat.testBit_two_pow_sub_one, decide_eq_true hi, Bool.true_and]
  · have ev : v = 64 := by omega
    subst ev
    have e : w = 0 := cs_bext (fun j hj => by rw [h0 j hj, cs_b0])
    rw [e, decide_eq_true hi]
    have e2 : ((0 : Int64) &&& (-0)) - 1 = -1 := by decide
    rw [e2, cs_bm1 hi]
/-- without the lowest bit -/
theorem cs_drop {w : Int64} {v : Nat} (h0 : ∀ j, j < v → cs_b w j = false) (h1 : cs_b w v = true) : ∀ i, i < 64 → cs_b (w &&& (w - 1)) i = (cs_b w i && decide (i ≠ v)) := by
  intro i hi
  rw [cs_band, cs_bsub1 w hi]
  rcases Nat.lt_trichotomy i v with l | l | l
  · rw [h0 i l]; rfl
  · subst l
    rw [cs_bneg_f h0, h1, decide_eq_false (fun z => z rfl)]; rfl
  · rw [cs_bneg_t hi ⟨v, l, h1⟩, decide_eq_true (show i ≠ v by omega)]
    cases cs_b w i <;> rfl
/-- the bits from a on -/
theorem cs_bfrom {a : Nat} (ha : a < 64) {i : Nat} (hi : i < 64) : cs_b (-((1 : Int64) <<< ((nI a).toInt64 &&& 63))) i = decide (a ≤ i) := by
  rcases Nat.lt_or_ge a i with l | l
  · rw [cs_bneg_t hi ⟨a, l, by rw [cs_bone ha]; exact decide_eq_true rfl⟩, cs_bone ha, decide_eq_false (show ¬ i = a by omega), decide_eq_true (show a ≤ i by omega)]; rfl
  · rw [cs_bneg_f (fun j hj => by rw [cs_bone ha]; exact decide_eq_false (by omega)), cs_bone ha]
    by_cases e : i = a
    · rw [decide_eq_true e, decide_eq_true (show a ≤ i by omega)]
    · rw [decide_eq_false e, decide_eq_false (show ¬ a ≤ i by omega)]
/-! ===== the number of ones ===== -/
def cs_lanes (f : Nat → Nat) : Nat → Nat → Nat
  | 0, _ => 0
  | k + 1, n => 256 * cs_lanes f k (n / 256) + f (n % 256)
def cs_rep (c : Nat) : Nat → Nat
  | 0 => 0
  | k + 1 => 256 * cs_rep c k + c
def cs_lsum (f : Nat → Nat) : Nat → Nat → Nat
  | 0, _ => 0
  | k + 1, n => f (n % 256) + cs_lsum f k (n / 256)
theorem cs_andlane (q m : Nat) {b c : Nat} (hb : b < 256) (hc : c < 256) : (256 * q + b) &&& (256 * m + c) = 256 * (q &&& m) + (b &&& c) := by
  have h1 : ((256 * q + b) &&& (256 * m + c)) / 2 ^ 8 = q &&& m := by
    rw [Nat.and_div_two_pow, show (256 * q + b) / 2 ^ 8 = q by omega, show (256 * m + c) / 2 ^ 8 = m by omega]
  have h2 : ((256 * q + b) &&& (256 * m + c)) % 2 ^ 8 = b &&& c := by
    rw [Nat.and_mod_two_pow, show (256 * q + b) % 2 ^ 8 = b by omega, show (256 * m + c) % 2 ^ 8 = c by omega]
  have h3 := Nat.div_add_mod ((256 * q + b) &&& (256 * m + c)) (2 ^ 8)
  rw [h1, h2] at h3
  exact h3.symm
def cs_f1 (b : Nat) : Nat := b - (b / 2 &&& 85)
def cs_f2 (b : Nat) : Nat := (b &&& 51) + (b / 4 &&& 51)
def cs_f3 (b : Nat) : Nat := (cs_f2 (cs_f1 b) + cs_f2 (cs_f1 b) / 16) &&& 15
theorem cs_t1 : ∀ b, b < 256 → ∀ t, t < 2 → ((128 * t + b / 2) &&& 85) = (b / 2 &&& 85) := by decide +kernel
theorem cs_t1b : ∀ b, b < 256 → (b / 2 &&& 85) ≤ b := by decide +kernel
theorem cs_t1c : ∀ b, b < 256 → cs_f1 b < 256 := by decide +kernel
theorem cs_t2 : ∀ b, b < 256 → ∀ t, t < 4 → ((64 * t + b / 4) &&& 51) = (b / 4 &&& 51) := by decide +kernel
theorem cs_t3 : ∀ b, b < 256 → cs_f2 (cs_f1 b) ≤ 68 ∧ cs_f2 (cs_f1 b) % 16 ≤ 4 := by decide +kernel
theorem cs_t4 : ∀ b, b < 256 → cs_f3 b = cs_cn (fun i => b.testBit i) 8 := by decide +kernel
theorem cs_L1 : ∀ k n, n < 256 ^ k → (n / 2 &&& cs_rep 85 k) ≤ n ∧ n - (n / 2 &&& cs_rep 85 k) = cs_lanes cs_f1 k n := by
  intro k
  induction k with
  | zero =>
    intro n hn
    have e : n = 0 := by rw [Nat.pow_zero] at hn; omega
    subst e
    exact ⟨Nat.le_refl 0, rfl⟩
  | succ k ih =>
    intro n hn
    have hq : n / 256 < 256 ^ k := by rw [Nat.pow_succ] at hn; exact Nat.div_lt_of_lt_mul (by rw [Nat.mul_comm]; exact hn)
    obtain ⟨i1, i2⟩ := ih (n / 256) hq
    have hb : n % 256 < 256 := Nat.mod_lt _ (by decide)
    have e1 : n / 2 = 256 * (n / 256 / 2) + (128 * (n / 256 % 2) + n % 256 / 2) := by omega
    have e2 : n / 2 &&& cs_rep 85 (k + 1) = 256 * (n / 256 / 2 &&& cs_rep 85 k) + (n % 256 / 2 &&& 85) := by
      show n / 2 &&& (256 * cs_rep 85 k + 85) = _
      rw [e1, cs_andlane _ _ (by omega) (by decide), cs_t1 _ hb _ (Nat.mod_lt _ (by decide))]
    have i3 := cs_t1b _ hb
    have e3 : cs_lanes cs_f1 (k + 1) n = 256 * cs_lanes cs_f1 k (n / 256) + (n % 256 - (n % 256 / 2 &&& 85)) := rfl
    rw [e2, e3, ← i2]
    generalize (n / 256 / 2 &&& cs_rep 85 k) = X at *
    generalize (n % 256 / 2 &&& 85) = Y at *
    omega
theorem cs_L2 : ∀ k n, n < 256 ^ k → (n &&& cs_rep 51 k) + (n / 4 &&& cs_rep 51 k) = cs_lanes cs_f2 k n := by
  intro k
  induction k with
  | zero =>
    intro n hn
    have e : n = 0 := by rw [Nat.pow_zero] at hn; omega
    subst e
    rfl
  | succ k ih =>
    intro n hn
    have hq : n / 256 < 256 ^ k := by rw [Nat.pow_succ] at hn; exact Nat.div_lt_of_lt_mul (by rw [Nat.mul_comm]; exact hn)
    have i2 := ih (n / 256) hq
    have hb : n % 256 < 256 := Nat.mod_lt _ (by decide)
    have e0 : n = 256 * (n / 256) + n % 256 := by omega
    have e1 : n / 4 = 256 * (n / 256 / 4) + (64 * (n / 256 % 4) + n % 256 / 4) := by omega
    have e2 : n / 4 &&& cs_rep 51 (k + 1) = 256 * (n / 256 / 4 &&& cs_rep 51 k) + (n % 256 / 4 &&& 51) := by
      show n / 4 &&& (256 * cs_rep 51 k + 51) = _
      rw [e1, cs_andlane _ _ (by omega) (by decide), cs_t2 _ hb _ (Nat.mod_lt _ (by decide))]
    have e2' : n &&& cs_rep 51 (k + 1) = 256 * (n / 256 &&& cs_rep 51 k) + (n % 256 &&& 51) := by
      have h := cs_andlane (n / 256) (cs_rep 51 k) hb (show 51 < 256 by decide)
      rw [← e0] at h
      exact h
    have e3 : cs_lanes cs_f2 (k + 1) n = 256 * cs_lanes cs_f2 k (n / 256) + ((n % 256 &&& 51) + (n % 256 / 4 &&& 51)) := rfl
    rw [e2, e2', e3, ← i2]
    omega
theorem cs_lanes_mod (g : Nat → Nat) (hg : ∀ b, b < 256 → g b % 16 ≤ 4) : ∀ k n, cs_lanes g k n % 16 ≤ 4 := by
  intro k n
  cases k with
  | zero => exact Nat.zero_le _
  | succ k =>
    have h := hg (n % 256) (Nat.mod_lt _ (by decide))
    have e : cs_lanes g (k + 1) n = 256 * cs_lanes g k (n / 256) + g (n % 256) := rfl
    rw [e]; omega
theorem cs_L3 (g : Nat → Nat) (hg : ∀ b, b < 256 → g b ≤ 68 ∧ g b % 16 ≤ 4) : ∀ k n, ((cs_lanes g k n + cs_lanes g k n / 16) &&& cs_rep 15 k) = cs_lanes (fun b => (g b + g b / 16) &&& 15) k n := by
  intro k
  induction k with
  | zero => intro n; simp [cs_lanes, cs_rep]
  | succ k ih =>
    intro n
    have i2 := ih (n / 256)
    have hb := hg (n % 256) (Nat.mod_lt _ (by decide))
    have hm := cs_lanes_mod g (fun b h => (hg b h).2) k (n / 256)
    have e : cs_lanes g (k + 1) n = 256 * cs_lanes g k (n / 256) + g (n % 256) := rfl
    have e3 : cs_lanes (fun b => (g b + g b / 16) &&& 15) (k + 1) n = 256 * cs_lanes (fun b => (g b + g b / 16) &&& 15) k (n / 256) + ((g (n % 256) + g (n % 256) / 16) &&& 15) := rfl
    rw [e, e3, ← i2]
    generalize cs_lanes g k (n / 256) = Q at *
    generalize g (n % 256) = b at *
    have e1 : 256 * Q + b + (256 * Q + b) / 16 = 256 * (Q + Q / 16) + (b + b / 16 + 16 * (Q % 16)) := by omega
    show (256 * Q + b + (256 * Q + b) / 16) &&& (256 * cs_rep 15 k + 15) = _
    rw [e1, cs_andlane _ _ (by omega) (by decide)]
    have a1 : (b + b / 16 + 16 * (Q % 16)) &&& 15 = (b + b / 16 + 16 * (Q % 16)) % 16 := Nat.and_two_pow_sub_one_eq_mod _ 4
    have a2 : (b + b / 16) &&& 15 = (b + b / 16) % 16 := Nat.and_two_pow_sub_one_eq_mod _ 4
    rw [a1, a2]
    congr 1
    omega
theorem cs_lanes_comp (f g : Nat → Nat) (hg : ∀ b, b < 256 → g b < 256) : ∀ k n, cs_lanes f k (cs_lanes g k n) = cs_lanes (fun b => f (g b)) k n := by
  intro k
  induction k with
  | zero => intro n; rfl
  | succ k ih =>
    intro n
    have hb := hg (n % 256) (Nat.mod_lt _ (by decide))
    have e : cs_lanes g (k + 1) n = 256 * cs_lanes g k (n / 256) + g (n % 256) := rfl
    show 256 * cs_lanes f k (cs_lanes g (k + 1) n / 256) + f (cs_lanes g (k + 1) n % 256) = 256 * cs_lanes (fun b => f (g b)) k (n / 256) + f (g (n % 256))
    rw [e, show (256 * cs_lanes g k (n / 256) + g (n % 256)) / 256 = cs_lanes g k (n / 256) by omega, show (256 * cs_lanes g k (n / 256) + g (n % 256)) % 256 = g (n % 256) by omega, ih]
theorem cs_lanes_lt (g : Nat → Nat) (hg : ∀ b, b < 256 → g b < 256) : ∀ k n, cs_lanes g k n < 256 ^ k := by
  intro k
  induction k with
  | zero => intro n; exact Nat.zero_lt_one
  | succ k ih =>
    intro n
    have hb := hg (n % 256) (Nat.mod_lt _ (by decide))
    have h := ih (n / 256)
    have e : cs_lanes g (k + 1) n = 256 * cs_lanes g k (n / 256) + g (n % 256) := rfl
    rw [e, Nat.pow_succ]
    omega
theorem cs_lsum_cn : ∀ k n, cs_cn (fun i => n.testBit i) (8 * k) = cs_lsum cs_f3 k n := by
  intro k
  induction k with
  | zero => intro n; rfl
  | succ k ih =>
    intro n
    have e : cs_lsum cs_f3 (k + 1) n = cs_f3 (n % 256) + cs_lsum cs_f3 k (n / 256) := rfl
    rw [e, ← ih, show 8 * (k + 1) = 8 + 8 * k by omega, cs_cn_add, cs_t4 _ (Nat.mod_lt _ (by decide))]
    congr 1
    · exact cs_cn_cong (fun i hi => by
        have h := Nat.testBit_mod_two_pow n 8 i
        rw [decide_eq_true hi, Bool.true_and] at h
        exact h.symm)
    · exact cs_cn_cong (fun i hi => by
        have h := Nat.testBit_div_two_pow (n := 8) n i
        rw [Nat.add_comm] at h
        exact h.symm)
end
section
theorem cs_mulE (a b c d e f g h : Nat) : (256 * (256 * (256 * (256 * (256 * (256 * (256 * (256 * 0 + h) + g) + f) + e) + d) + c) + b) + a) * 72340172838076673 = 18446744073709551616 * (b + c + d + e + f + g + h + 256 * (c + d + e + f + g + h) + 65536 * (d + e + f + g + h) + 16777216 * (e + f + g + h) + 4294967296 * (f + g + h) + 1099511627776 * (g + h) + 281474976710656 * h) + (72057594037927936 * (a + b + c + d + e + f + g + h) + (a + 256 * (a + b) + 65536 * (a + b + c) + 16777216 * (a + b + c + d) + 4294967296 * (a + b + c + d + e) + 1099511627776 * (a + b + c + d + e + f) + 281474976710656 * (a + b + c + d + e + f + g))) := by omega
theorem cs_mulR {a b c d e f g h : Nat} (ha : a ≤ 8) (hb : b ≤ 8) (hc : c ≤ 8) (hd : d ≤ 8) (he : e ≤ 8) (hf : f ≤ 8) (hg : g ≤ 8) (hh : h ≤ 8) : (a + 256 * (a + b) + 65536 * (a + b + c) + 16777216 * (a + b + c + d) + 4294967296 * (a + b + c + d + e) + 1099511627776 * (a + b + c + d + e + f) + 281474976710656 * (a + b + c + d + e + f + g)) < 72057594037927936 := by omega
theorem cs_mulF {r s H : Nat} (hr : r < 72057594037927936) (hs : s ≤ 64) : (18446744073709551616 * H + (72057594037927936 * s + r)) % 18446744073709551616 / 72057594037927936 = s := by
  rw [Nat.mul_add_mod, Nat.mod_eq_of_lt (by omega)]; omega
theorem cs_mul {a b c d e f g h : Nat} (ha : a ≤ 8) (hb : b ≤ 8) (hc : c ≤ 8) (hd : d ≤ 8) (he : e ≤ 8) (hf : f ≤ 8) (hg : g ≤ 8) (hh : h ≤ 8) : (256 * (256 * (256 * (256 * (256 * (256 * (256 * (256 * 0 + h) + g) + f) + e) + d) + c) + b) + a) * 72340172838076673 % 18446744073709551616 / 72057594037927936 = a + (b + (c + (d + (e + (f + (g + (h + 0))))))) := by
  rw [cs_mulE, cs_mulF (cs_mulR ha hb hc hd he hf hg hh) (by omega)]; omega
theorem cs_lanes8 (n : Nat) : cs_lanes cs_f3 8 n * 72340172838076673 % 18446744073709551616 / 72057594037927936 = cs_lsum cs_f3 8 n := by
  have hb : ∀ m, cs_f3 (m % 256) ≤ 8 := fun m => by
    rw [cs_t4 _ (Nat.mod_lt _ (by decide))]; exact cs_cn_le _ 8
  simp only [cs_lanes, cs_lsum]
  exact cs_mul (hb _) (hb _) (hb _) (hb _) (hb _) (hb _) (hb _) (hb _)
end
section
theorem cs_swar {n : Nat} (hn : n < 256 ^ 8) : ∀ x1 x2 x3, x1 = n - (n / 2 &&& 6148914691236517205) → x2 = (x1 &&& 3689348814741910323) + (x1 / 4 &&& 3689348814741910323) → x3 = ((x2 + x2 / 16) &&& 1085102592571150095) → (n / 2 &&& 6148914691236517205) ≤ n ∧ x1 < 256 ^ 8 ∧ x2 < 4919131752989213765 ∧ x3 < 256 ^ 8 ∧ x3 * 72340172838076673 % 18446744073709551616 / 72057594037927936 = cs_cn (fun i => n.testBit i) 64 := by
  intro x1 x2 x3 e1 e2 e3
  obtain ⟨a1, a2⟩ := cs_L1 8 n hn
  have r1 : cs_rep 85 8 = 6148914691236517205 := by decide +kernel
  have r2 : cs_rep 51 8 = 3689348814741910323 := by decide +kernel
  have r3 : cs_rep 15 8 = 1085102592571150095 := by decide +kernel
  rw [r1] at a1 a2
  have b1 : x1 = cs_lanes cs_f1 8 n := e1.trans a2
  have b1' : x1 < 256 ^ 8 := by rw [b1]; exact cs_lanes_lt _ cs_t1c 8 n
  have b2 := cs_L2 8 x1 b1'
  rw [r2] at b2
  have b3 : x2 = cs_lanes (fun b => cs_f2 (cs_f1 b)) 8 n := by
    rw [e2, b2, b1, cs_lanes_comp _ _ cs_t1c]
  have b4 := cs_L3 (fun b => cs_f2 (cs_f1 b)) cs_t3 8 n
  rw [r3, ← b3] at b4
  have b5 : x3 = cs_lanes cs_f3 8 n := e3.trans b4
  refine ⟨a1, b1', ?_, ?_, ?_⟩
  · have h0 : ∀ m, cs_f2 (cs_f1 (m % 256)) ≤ 68 := fun m => (cs_t3 _ (Nat.mod_lt _ (by decide))).1
    have hx : ∀ k m, cs_lanes (fun b => cs_f2 (cs_f1 b)) k m ≤ cs_rep 68 k := by
      intro k
      induction k with
      | zero => intro m; exact Nat.le_refl 0
      | succ k ih =>
        intro m
        have h1 := ih (m / 256)
        have h2 := h0 m
        show 256 * cs_lanes (fun b => cs_f2 (cs_f1 b)) k (m / 256) + cs_f2 (cs_f1 (m % 256)) ≤ 256 * cs_rep 68 k + 68
        omega
    have h := hx 8 n
    rw [← b3, show cs_rep 68 8 = 4919131752989213764 by decide +kernel] at h
    omega
  · rw [b5]
    refine cs_lanes_lt _ (fun b hb => ?_) 8 n
    rw [cs_t4 b hb]
    have := cs_cn_le (fun i => b.testBit i) 8
    omega
  · rw [b5, cs_lanes8, ← cs_lsum_cn]
end
section
/-- the number of ones of a long -/
theorem cs_ones {post : Int32 → Prop} {w : Int64} (h : post (nI (cs_cn (cs_b w) 64))) : wpX_ones post w := by
  obtain ⟨n, hn, rfl⟩ := wb_of w
  have hn' : n < 256 ^ 8 := by omega
  intro x1 e1 x2 e2 x3 e3
  obtain ⟨a1, a2, a3, a4, a5⟩ := cs_swar hn' _ _ _ rfl rfl rfl
  have b5 : n / 2 < 2 ^ 64 := Nat.lt_of_le_of_lt (Nat.div_le_self _ _) hn
  have s1 : ((lN n).toUInt64 >>> ((1 : Int32).toInt64.toUInt64 &&& Int64.toUInt64 63)).toInt64 = lN (n / 2 ^ 1) := wb_shr (k := 1) hn (by decide)
  have l1 : lN (n / 2 ^ 1) &&& 6148914691236517205 = lN (n / 2 &&& 6148914691236517205) := wb_and b5 (by decide)
  have f1 : x1 = lN (n - (n / 2 &&& 6148914691236517205)) := by rw [e1, s1, l1, lN_sub a1]
  generalize n - (n / 2 &&& 6148914691236517205) = y1 at *
  have c1 : y1 < 2 ^ 64 := by omega
  have s2 : ((lN y1).toUInt64 >>> ((2 : Int32).toInt64.toUInt64 &&& Int64.toUInt64 63)).toInt64 = lN (y1 / 2 ^ 2) := wb_shr (k := 2) c1 (by decide)
  have l2 : lN (y1 / 2 ^ 2) &&& 3689348814741910323 = lN (y1 / 4 &&& 3689348814741910323) := wb_and (Nat.lt_of_le_of_lt (Nat.div_le_self _ _) c1) (by decide)
  have l2' : lN y1 &&& 3689348814741910323 = lN (y1 &&& 3689348814741910323) := wb_and c1 (by decide)
  have f2 : x2 = lN ((y1 &&& 3689348814741910323) + (y1 / 4 &&& 3689348814741910323)) := by rw [e2, f1, s2, l2, l2', lN_add]
  generalize (y1 &&& 3689348814741910323) + (y1 / 4 &&& 3689348814741910323) = y2 at *
  have c2 : y2 < 2 ^ 64 := by omega
  have s3 : ((lN y2).toUInt64 >>> ((4 : Int32).toInt64.toUInt64 &&& Int64.toUInt64 63)).toInt64 = lN (y2 / 2 ^ 4) := wb_shr (k := 4) c2 (by decide)
  have l3 : lN (y2 + y2 / 2 ^ 4) &&& 1085102592571150095 = lN ((y2 + y2 / 16) &&& 1085102592571150095) := wb_and (by omega) (by decide)
  have f3 : x3 = lN ((y2 + y2 / 16) &&& 1085102592571150095) := by rw [e3, f2, s3, lN_add, l3]
  generalize ((y2 + y2 / 16) &&& 1085102592571150095) = y3 at *
  have m1 : lN y3 * 72340172838076673 = lN (y3 * 72340172838076673 % 2 ^ 64) := by rw [← wb_mod]; exact lN_mul y3 72340172838076673
  have s4 : ((lN (y3 * 72340172838076673 % 2 ^ 64)).toUInt64 >>> ((56 : Int32).toInt64.toUInt64 &&& Int64.toUInt64 63)).toInt64 = lN (y3 * 72340172838076673 % 2 ^ 64 / 2 ^ 56) := wb_shr (k := 56) (Nat.mod_lt _ (by decide)) (by decide)
  have a6 : cs_cn (cs_b (lN n)) 64 = cs_cn (fun i => n.testBit i) 64 := cs_cn_cong (fun i hi => by rw [cs_blN, decide_eq_true hi, Bool.true_and])
  rw [f3, m1, s4, lN_i]
  have a7 : y3 * 72340172838076673 % 2 ^ 64 / 2 ^ 56 = cs_cn (cs_b (lN n)) 64 := a5.trans a6.symm
  rw [a7]
  exact h
/-- the number of the lowest bit, 64 if there is none -/
theorem cs_cn_below {v : Nat} : ∀ n, cs_cn (fun i => decide (i < v)) n = if n ≤ v then n else v := by
  intro n
  induction n with
  | zero => rw [if_pos (Nat.zero_le v)]; rfl
  | succ n ih =>
    by_cases h : n < v
    · rw [cs_cnT (f := fun i => decide (i < v)) (decide_eq_true h), ih, if_pos (show n ≤ v by omega), if_pos (show n + 1 ≤ v by omega)]
    · rw [cs_cnF (f := fun i => decide (i < v)) (decide_eq_false h), ih]
      split <;> split <;> omega
theorem cs_lowest {post : Int32 → Prop} {w : Int64} {v : Nat} (hv : v ≤ 64) (h0 : ∀ j, j < v → cs_b w j = false) (h1 : v < 64 → cs_b w v = true) (h : post (nI v)) : wpX_lowest post w := by
  refine cs_ones (post := fun r => post r) ?_
  have e : cs_cn (cs_b ((w &&& (-w)) - 1)) 64 = v := by
    rw [cs_cn_cong (cs_low hv h0 h1), cs_cn_below]
    split <;> omega
  rw [e]
  exact h
theorem cs_runsIn {post : Int32 → Prop} {w : Int64} (h : post (nI (cs_cn (cs_st (cs_b w)) 64))) : wpX_runsIn post w := by
  refine cs_ones (post := fun r => post r) ?_
  have e : cs_cn (cs_b (w &&& ((w <<< ((1 : Int32).toInt64 &&& 63)) ^^^ (-1)))) 64 = cs_cn (cs_st (cs_b w)) 64 := by
    refine cs_cn_cong (fun i hi => ?_)
    have h2 : cs_b (w <<< ((1 : Int32).toInt64 &&& 63)) i = (decide (1 ≤ i) && cs_b w (i - 1)) := cs_bshl (k := 1) (by decide) w hi
    rw [cs_band, cs_bnot _ hi, h2]
    rfl
  rw [e]
  exact h
/-- the bits from a to b - 1 -/
theorem cs_stretch {post : Int64 → Prop} {a b : Nat} (ha : a ≤ 64) (hb : b ≤ 64) (h : ∀ s : Int64, (∀ i, i < 64 → cs_b s i = (decide (a ≤ i) && decide (i < b))) → post s) : wpX_stretch post (nI a) (nI b) := by
  refine pk_lt a b (fun hab => ?_) (fun hab => ?_)
  · have h64 : a < 64 := by omega
    refine pk_eq b 64 (fun e => ?_) (fun e => ?_)
    · refine h _ (fun i hi => ?_)
      rw [cs_band, cs_bm1 hi, cs_bfrom h64 hi, decide_eq_true (show i < b by omega), Bool.true_and, Bool.and_true]
    · refine h _ (fun i hi => ?_)
      have e2 : lN (2 ^ b) - 1 = lN (2 ^ b - 1) := lN_sub (b := 1) Nat.one_le_two_pow
      rw [cs_one (show b < 64 by omega), e2, cs_band, cs_bfrom h64 hi, cs_blN, Nat.testBit_two_pow_sub_one, decide_eq_true hi, Bool.true_and, Bool.and_comm]
  · refine h _ (fun i hi => ?_)
    rw [cs_b0]
    by_cases z : a ≤ i
    · rw [decide_eq_false (show ¬ i < b by omega), Bool.and_false]
    · rw [decide_eq_false z, Bool.false_and]
end
section
/-! ===== numbers ===== -/
theorem cs_m8 (c : Nat) : nI c * 8 = nI (8 * c) := by
  have h := pk_mul c 8
  rw [Nat.mul_comm] at h
  exact h
theorem cs_m16 (c : Nat) : nI c * 16 = nI (16 * c) := by
  have h := pk_mul c 16
  rw [Nat.mul_comm] at h
  exact h
theorem cs_m1024 (c : Nat) : nI c * 1024 = nI (1024 * c) := by
  have h := pk_mul c 1024
  rw [Nat.mul_comm] at h
  exact h
theorem cs_2m (c : Nat) : 2 * nI c = nI (2 * c) := pk_mul 2 c
theorem cs_64m (c : Nat) : 64 * nI c = nI (64 * c) := pk_mul 64 c
theorem cs_p2 (a : Nat) : nI a + 2 = nI (a + 2) := nI_add a 2
theorem cs_p16 (a : Nat) : nI a + 16 = nI (a + 16) := nI_add a 16
theorem cs_s1 {a : Nat} (h : 0 < a) : nI a - 1 = nI (a - 1) := pk_sub (b := 1) h
/-! ===== containers ===== -/
/-- a container holds the word w -/
def cs_C (w : Int64) (k c f : Int32) (s : Nat → Int32) (d : Int64) : Prop :=
  c = nI (cs_cn (cs_b w) 64) ∧
  ((k = 1 ∧ d = w) ∨
   (k = 0 ∧ f = nI (cs_cn (cs_b w) 64) ∧ cs_cn (cs_b w) 64 ≤ 8 ∧ ∀ i, i < cs_cn (cs_b w) 64 → ∃ v, v < 64 ∧ s i = nI v ∧ cs_b w v = true ∧ cs_cn (cs_b w) v = i) ∨
   (k = 2 ∧ ∃ r, r ≤ 4 ∧ f = nI (2 * r) ∧ cs_ra (cs_b w) r = 64 ∧ ∀ i, i < r → cs_ra (cs_b w) i < 64 ∧ s (2 * i) = nI (cs_ra (cs_b w) i) ∧ s (2 * i + 1) = nI (cs_re (cs_b w) i - 1)))
theorem cs_C_cong {w : Int64} {k c f : Int32} {s s' : Nat → Int32} {d : Int64} (h : cs_C w k c f s d) (hs : ∀ i, i < 8 → s' i = s i) : cs_C w k c f s' d := by
  obtain ⟨h1, h2 | h2 | h2⟩ := h
  · exact ⟨h1, Or.inl h2⟩
  · obtain ⟨a, b, e, g⟩ := h2
    refine ⟨h1, Or.inr (Or.inl ⟨a, b, e, fun i hi => ?_⟩)⟩
    rw [hs i (by omega)]
    exact g i hi
  · obtain ⟨a, r, b, e, g, q⟩ := h2
    refine ⟨h1, Or.inr (Or.inr ⟨a, r, b, e, g, fun i hi => ?_⟩)⟩
    rw [hs (2 * i) (by omega), hs (2 * i + 1) (by omega)]
    exact q i hi
/-- all containers hold the words W -/
def cs_X (W : Nat → Int64) (kd ct fl sl : Nat → Int32) (wd : Nat → Int64) : Prop :=
  ∀ c, c < 64 → cs_C (W c) (kd c) (ct c) (fl c) (fun i => sl (8 * c + i)) (wd c)
theorem cs_X_up {W : Nat → Int64} {kd ct fl sl : Nat → Int32} {wd : Nat → Int64} {kd' ct' fl' sl' : Nat → Int32} {wd' : Nat → Int64} (h : cs_X W kd ct fl sl wd) {c : Nat} {w : Int64}
    (hk : ∀ j, j ≠ c → kd' j = kd j) (hc : ∀ j, j ≠ c → ct' j = ct j) (hf : ∀ j, j ≠ c → fl' j = fl j) (hs : ∀ j, j < 8 * c ∨ 8 * c + 8 ≤ j → sl' j = sl j) (hw : ∀ j, j ≠ c → wd' j = wd j)
    (hC : cs_C w (kd' c) (ct' c) (fl' c) (fun i => sl' (8 * c + i)) (wd' c)) : cs_X (vp_updL W c w) kd' ct' fl' sl' wd' := by
  intro j hj
  by_cases e : j = c
  · subst e
    rw [pk_uLs]
    exact hC
  · rw [pk_uLn e, hk j e, hc j e, hf j e, hw j e]
    exact cs_C_cong (h j hj) (fun i hi => hs _ (by omega))
theorem cs_upn {f : Nat → Int32} {c : Nat} {x : Int32} : ∀ j, j ≠ c → upd f c x j = f j := fun _ h => pk_un h
theorem cs_uLn {f : Nat → Int64} {c : Nat} {x : Int64} : ∀ j, j ≠ c → vp_updL f c x j = f j := fun _ h => pk_uLn h
theorem cs_same {f : Nat → Int32} {c : Nat} : ∀ j, j ≠ c → f j = f j := fun _ _ => rfl
theorem cs_sameL {f : Nat → Int64} {c : Nat} : ∀ j, j ≠ c → f j = f j := fun _ _ => rfl
/-! ===== wordOf ===== -/
theorem cs_wordOf31 {post : Int64 → Prop} {me : Int32} {kd ct fl sl : Nat → Int32} {wd mv : Nat → Int64} {mg : Nat → Int32} {c m : Nat} {w : Int64} (hc : c < 64) (hf : fl c = nI m) (hm : cs_cn (cs_b w) 64 = m) (hm8 : m ≤ 8)
    (hs : ∀ i, i < m → ∃ v, v < 64 ∧ sl (8 * c + i) = nI v ∧ cs_b w v = true ∧ cs_cn (cs_b w) v = i) (h : post w) :
    ∀ n i x, m < n + i → i ≤ m → (∀ j, j < 64 → cs_b x j = (cs_b w j && decide (cs_cn (cs_b w) j < i))) → wX_wordOf_31 post (nI c) me kd ct fl sl wd mv mg n x (nI i) := by
  intro n
  induction n with
  | zero => intro i x h1 h2; omega
  | succ n ih =>
    intro i x h1 h2 hx
    simp (disch := omega) only [wX_wordOf_31, cs_m8, nI_add, nI_1, nI_clamp, hf]
    refine ⟨vp_in_nI hc (by decide), pk_le m i (fun hle => ?_) (fun hlt => ?_)⟩
    · have e : x = w := by
        refine cs_bext (fun j hj => ?_)
        rw [hx j hj]
        cases hb : cs_b w j with
        | false => rfl
        | true =>
          have := cs_cn_lt hj hb
          rw [decide_eq_true (by omega)]; rfl
      rw [e]; exact h
    · obtain ⟨v, v1, v2, v3, v4⟩ := hs i hlt
      refine ⟨vp_in_nI (by omega) (by decide), nm_e (nm_e (ih (i + 1) _ (by omega) (by omega) (fun j hj => ?_)))⟩
      rw [v2, cs_bor, cs_bone v1, hx j hj]
      by_cases e : j = v
      · subst e
        rw [v3, decide_eq_true rfl, Bool.or_true, decide_eq_true (show cs_cn (cs_b w) j < i + 1 by omega)]; rfl
      · rw [decide_eq_false e, Bool.or_false]
        cases hb : cs_b w j with
        | false => rfl
        | true =>
          have hne : cs_cn (cs_b w) j ≠ i := fun z => e (cs_cn_inj hb v3 (z.trans v4.symm))
          rw [Bool.true_and, Bool.true_and]
          exact decide_eq_decide.mpr ⟨fun z => by omega, fun z => by omega⟩
theorem cs_wordOf70 {post : Int64 → Prop} {me : Int32} {kd ct fl sl : Nat → Int32} {wd mv : Nat → Int64} {mg : Nat → Int32} {c r : Nat} {w : Int64} (hc : c < 64) (hf : fl c = nI (2 * r)) (hr : r ≤ 4) (hr64 : cs_ra (cs_b w) r = 64)
    (hs : ∀ i, i < r → cs_ra (cs_b w) i < 64 ∧ sl (8 * c + 2 * i) = nI (cs_ra (cs_b w) i) ∧ sl (8 * c + (2 * i + 1)) = nI (cs_re (cs_b w) i - 1)) (h : post w) :
    ∀ n i x, r < n + i → i ≤ r → (∀ j, j < 64 → cs_b x j = (cs_b w j && decide (j < cs_ra (cs_b w) i))) → wX_wordOf_70 post (nI c) me kd ct fl sl wd mv mg n x (nI (2 * i)) := by
  intro n
  induction n with
  | zero => intro i x h1 h2; omega
  | succ n ih =>
    intro i x h1 h2 hx
    simp (disch := omega) only [wX_wordOf_70, cs_m8, nI_add, nI_1, cs_p2, nI_clamp, hf]
    refine ⟨vp_in_nI hc (by decide), pk_le (2 * r) (2 * i) (fun hle => ?_) (fun hlt => ?_)⟩
    · have e : x = w := by
        have ei : i = r := by omega
        subst ei
        refine cs_bext (fun j hj => ?_)
        rw [hx j hj, hr64, decide_eq_true hj, Bool.and_true]
      rw [e]; exact h
    · obtain ⟨v1, v2, v3⟩ := hs i (by omega)
      have g1 := cs_ra_lt (cs_b w) v1
      have g2 := cs_re_le (cs_b w) i
      have g3 := cs_re_ra (cs_b w) i
      rw [v2, show 8 * c + 2 * i + 1 = 8 * c + (2 * i + 1) by omega, v3, nI_1, show cs_re (cs_b w) i - 1 + 1 = cs_re (cs_b w) i by omega]
      refine ⟨vp_in_nI (by omega) (by decide), vp_in_nI (by omega) (by decide), cs_stretch (by omega) g2 (fun s hsb => nm_e (nm_r (e' := nI (2 * (i + 1))) (congrArg nI (by omega)) (ih (i + 1) _ (by omega) (by omega) (fun j hj => ?_))))⟩
      rw [cs_bor, hx j hj, hsb j hj]
      rcases Nat.lt_or_ge j (cs_ra (cs_b w) i) with l1 | l1
      · rw [decide_eq_true l1, decide_eq_false (show ¬ cs_ra (cs_b w) i ≤ j by omega), decide_eq_true (show j < cs_ra (cs_b w) (i + 1) by omega), Bool.false_and, Bool.or_false]
      · rcases Nat.lt_or_ge j (cs_re (cs_b w) i) with l2 | l2
        · rw [cs_in (cs_b w) i j l1 l2, decide_eq_true l1, decide_eq_true l2, decide_eq_true (show j < cs_ra (cs_b w) (i + 1) by omega)]
          cases decide (j < cs_ra (cs_b w) i) <;> rfl
        · rw [decide_eq_false (show ¬ j < cs_ra (cs_b w) i by omega), decide_eq_false (show ¬ j < cs_re (cs_b w) i by omega), Bool.and_false, Bool.and_false, Bool.or_false]
          rcases Nat.lt_or_ge j (cs_ra (cs_b w) (i + 1)) with l3 | l3
          · rw [cs_out (cs_b w) i j l2 l3, Bool.false_and]
          · rw [decide_eq_false (show ¬ j < cs_ra (cs_b w) (i + 1) by omega), Bool.and_false]
theorem cs_wordOf {post : Int64 → Prop} {W : Nat → Int64} {me : Int32} {kd ct fl sl : Nat → Int32} {wd mv : Nat → Int64} {mg : Nat → Int32} (hX : cs_X W kd ct fl sl wd) {c : Nat} (hc : c < 64) (h : post (W c)) : wpX_wordOf post (me, kd, ct, fl, sl, wd, mv, mg) (nI c) := by
  have hi : vp_in (nI c) 64 := vp_in_nI hc (by decide)
  simp (disch := omega) only [wpX_wordOf, nI_clamp]
  obtain ⟨h1, h2 | h2 | h2⟩ := hX c hc
  · obtain ⟨a, b⟩ := h2
    rw [b]
    exact ⟨hi, br_t a ⟨hi, h⟩⟩
  · obtain ⟨a, b, e, g⟩ := h2
    refine ⟨hi, br_f (by rw [a]; decide) ⟨hi, br_t a ⟨9, ?_⟩⟩⟩
    refine cs_wordOf31 hc b rfl e g h 9 0 0 (by omega) (by omega) (fun j hj => ?_)
    rw [cs_b0, decide_eq_false (Nat.not_lt_zero _), Bool.and_false]
  · obtain ⟨a, r, b, e, g, q⟩ := h2
    refine ⟨hi, br_f (by rw [a]; decide) ⟨hi, br_f (by rw [a]; decide) ⟨5, ?_⟩⟩⟩
    refine cs_wordOf70 hc e b g q h 5 0 0 (by omega) (by omega) (fun j hj => ?_)
    rw [cs_b0]
    rcases Nat.lt_or_ge j (cs_ra (cs_b (W c)) 0) with l | l
    · rw [cs_out0 _ j l]; rfl
    · rw [decide_eq_false (show ¬ j < cs_ra (cs_b (W c)) 0 by omega), Bool.and_false]
end
section
/-! ===== storeList, storeRuns, store ===== -/
theorem cs_storeList13 {post : SX → Prop} {me : Int32} {kd ct fl sl0 : Nat → Int32} {wd mv : Nat → Int64} {mg : Nat → Int32} {c m : Nat} {w : Int64} (hc : c < 64) (hct : ct c = nI m) (hm : cs_cn (cs_b w) 64 = m) (hm8 : m ≤ 8)
    (h : ∀ sl', (∀ j, j < 8 * c ∨ 8 * c + 8 ≤ j → sl' j = sl0 j) → (∀ i, i < m → ∃ v, v < 64 ∧ sl' (8 * c + i) = nI v ∧ cs_b w v = true ∧ cs_cn (cs_b w) v = i) → post (me, kd, ct, upd fl c (nI m), sl', wd, mv, mg)) :
    ∀ n i x sl, m < n + i → i ≤ m → (∀ j, j < 64 → cs_b x j = (cs_b w j && decide (i ≤ cs_cn (cs_b w) j))) → (∀ j, j < 8 * c ∨ 8 * c + 8 ≤ j → sl j = sl0 j) → (∀ k, k < i → ∃ v, v < 64 ∧ sl (8 * c + k) = nI v ∧ cs_b w v = true ∧ cs_cn (cs_b w) v = k) → wX_storeList_13 post (nI c) me n x (nI i) kd ct fl sl wd mv mg := by
  intro n
  induction n with
  | zero => intro i x sl h1 h2; omega
  | succ n ih =>
    intro i x sl h1 h2 hx ho hk
    have hi : vp_in (nI c) 64 := vp_in_nI hc (by decide)
    simp (disch := omega) only [wX_storeList_13, cs_m8, nI_add, nI_1, nI_clamp, hct]
    refine ⟨hi, pk_le m i (fun hle => ?_) (fun hlt => ?_)⟩
    · have e : i = m := by omega
      subst e
      exact ⟨hi, hi, nm_e (h sl ho hk)⟩
    · obtain ⟨v, v1, v2, v3⟩ := cs_cn_ex (f := cs_b w) (k := i) (n := 64) (by omega)
      have b1 : ∀ j, j < v → cs_b x j = false := fun j hj => by
        rw [hx j (by omega)]
        cases hb : cs_b w j with
        | false => rfl
        | true =>
          have := cs_cn_lt hj hb
          rw [decide_eq_false (by omega)]; rfl
      have b2 : cs_b x v = true := by rw [hx v v1, v2, decide_eq_true (by omega)]; rfl
      refine cs_lowest (v := v) (by omega) b1 (fun _ => b2) ⟨vp_in_nI (by omega) (by decide), nm_e (nm_e (nm_e (ih (i + 1) _ _ (by omega) (by omega) (fun j hj => ?_) (fun j hj => ?_) (fun k hki => ?_))))⟩
      · rw [cs_drop b1 b2 j hj, hx j hj]
        by_cases e : j = v
        · subst e
          rw [decide_eq_false (show ¬ j ≠ j from fun z => z rfl), decide_eq_false (show ¬ i + 1 ≤ cs_cn (cs_b w) j by omega), Bool.and_false, Bool.and_false]
        · rw [decide_eq_true e, Bool.and_true]
          cases hb : cs_b w j with
          | false => rfl
          | true =>
            have hne : cs_cn (cs_b w) j ≠ i := fun z => e (cs_cn_inj hb v2 (z.trans v3.symm))
            rw [Bool.true_and, Bool.true_and]
            exact decide_eq_decide.mpr ⟨fun z => by omega, fun z => by omega⟩
      · rw [pk_un (by omega)]
        exact ho j hj
      · by_cases e : k = i
        · subst e
          exact ⟨v, v1, pk_us, v2, v3⟩
        · rw [pk_un (by omega)]
          exact hk k (by omega)
theorem cs_storeRuns13 {post : SX → Prop} {me : Int32} {kd ct fl sl0 : Nat → Int32} {wd mv : Nat → Int64} {mg : Nat → Int32} {c r : Nat} {w : Int64} (hc : c < 64) (hr : r ≤ 4) (hlt : ∀ i, i < r → cs_ra (cs_b w) i < 64)
    (h : ∀ sl', (∀ j, j < 8 * c ∨ 8 * c + 8 ≤ j → sl' j = sl0 j) → (∀ i, i < r → sl' (8 * c + 2 * i) = nI (cs_ra (cs_b w) i) ∧ sl' (8 * c + (2 * i + 1)) = nI (cs_re (cs_b w) i - 1)) → post (me, kd, ct, upd fl c (nI (2 * r)), sl', wd, mv, mg)) :
    ∀ n i x sl, r < n + i → i ≤ r → (∀ j, j < 64 → cs_b x j = (cs_b w j && decide (cs_ra (cs_b w) i ≤ j))) → (∀ j, j < 8 * c ∨ 8 * c + 8 ≤ j → sl j = sl0 j) → (∀ k, k < i → sl (8 * c + 2 * k) = nI (cs_ra (cs_b w) k) ∧ sl (8 * c + (2 * k + 1)) = nI (cs_re (cs_b w) k - 1)) → wX_storeRuns_13 post (nI c) (nI r) me n x (nI i) kd ct fl sl wd mv mg := by
  intro n
  induction n with
  | zero => intro i x sl h1 h2; omega
  | succ n ih =>
    intro i x sl h1 h2 hx ho hk
    have hi : vp_in (nI c) 64 := vp_in_nI hc (by decide)
    simp (disch := omega) only [wX_storeRuns_13, cs_2m, nI_clamp]
    refine pk_le r i (fun hle => ?_) (fun hil => ?_)
    · have e : i = r := by omega
      subst e
      exact ⟨hi, nm_e (h sl ho hk)⟩
    · have a1 := hlt i hil
      have a2 := cs_ra_lt (cs_b w) a1
      have a3 := cs_re_le (cs_b w) i
      have a4 := cs_re_ra (cs_b w) i
      have b1 : ∀ j, j < cs_ra (cs_b w) i → cs_b x j = false := fun j hj => by
        rw [hx j (by omega), decide_eq_false (show ¬ cs_ra (cs_b w) i ≤ j by omega), Bool.and_false]
      have b2 : cs_b x (cs_ra (cs_b w) i) = true := by
        rw [hx _ a1, cs_ra_t _ a1, decide_eq_true (Nat.le_refl _)]; rfl
      have J : wX_storeRuns_60 post (wX_storeRuns_13 post (nI c) (nI r) me n) (nI c) (nI r) x (nI i) (nI (cs_ra (cs_b w) i)) (nI (cs_re (cs_b w) i - 1)) me kd ct fl sl wd mv mg := by
        simp (disch := omega) only [wX_storeRuns_60, cs_m8, cs_2m, nI_add, nI_1, nI_clamp]
        rw [show cs_re (cs_b w) i - 1 + 1 = cs_re (cs_b w) i by omega]
        refine ⟨vp_in_nI (by omega) (by decide), nm_e ⟨vp_in_nI (by omega) (by decide), nm_e (cs_stretch (by omega) a3 (fun s hs => nm_e (nm_e (ih (i + 1) _ _ (by omega) (by omega) (fun j hj => ?_) (fun j hj => ?_) (fun k hki => ?_)))))⟩⟩
        · rw [cs_band, cs_bnot _ hj, hs j hj, hx j hj]
          rcases Nat.lt_or_ge j (cs_ra (cs_b w) i) with l1 | l1
          · rw [decide_eq_false (show ¬ cs_ra (cs_b w) i ≤ j by omega), decide_eq_false (show ¬ cs_ra (cs_b w) (i + 1) ≤ j by omega), Bool.and_false, Bool.false_and]
          · rcases Nat.lt_or_ge j (cs_re (cs_b w) i) with l2 | l2
            · rw [decide_eq_true l1, decide_eq_true l2, decide_eq_false (show ¬ cs_ra (cs_b w) (i + 1) ≤ j by omega), Bool.and_false]
              cases cs_b w j <;> rfl
            · rw [decide_eq_true l1, decide_eq_false (show ¬ j < cs_re (cs_b w) i by omega), Bool.and_false, Bool.not_false, Bool.and_true, Bool.and_true]
              rcases Nat.lt_or_ge j (cs_ra (cs_b w) (i + 1)) with l3 | l3
              · rw [cs_out (cs_b w) i j l2 l3, Bool.false_and]
              · rw [decide_eq_true l3, Bool.and_true]
        · rw [pk_un (by omega), pk_un (by omega)]
          exact ho j hj
        · by_cases e : k = i
          · subst e
            refine ⟨?_, ?_⟩
            · rw [pk_un (by omega), pk_us]
            · rw [show 8 * c + (2 * k + 1) = 8 * c + 2 * k + 1 by omega, pk_us]
          · rw [pk_un (by omega), pk_un (by omega), pk_un (by omega), pk_un (by omega)]
            exact hk k (by omega)
      have hbits : ∀ j, j < 64 → cs_b ((x ^^^ (-1)) &&& (-((1 : Int64) <<< ((nI (cs_ra (cs_b w) i)).toInt64 &&& 63)))) j = (decide (cs_ra (cs_b w) i ≤ j) && !cs_b w j) := by
        intro j hj
        rw [cs_band, cs_bnot _ hj, cs_bfrom a1 hj, hx j hj]
        cases decide (cs_ra (cs_b w) i ≤ j) <;> cases cs_b w j <;> rfl
      refine cs_lowest (v := cs_ra (cs_b w) i) (by omega) b1 (fun _ => b2) (nm_e (br_c (fun hz => ?_) (fun hz => ?_)))
      · have e64 : cs_re (cs_b w) i = 64 := by
          rcases Nat.lt_or_ge (cs_re (cs_b w) i) 64 with l | l
          · have q := hbits _ l
            rw [hz, cs_b0, cs_re_f _ l, decide_eq_true (show cs_ra (cs_b w) i ≤ cs_re (cs_b w) i by omega)] at q
            exact absurd q (by decide)
          · omega
        rw [e64] at J
        exact J
      · refine cs_lowest (v := cs_re (cs_b w) i) a3 (fun j hj => ?_) (fun l => ?_) ?_
        · rw [hbits j (by omega)]
          rcases Nat.lt_or_ge j (cs_ra (cs_b w) i) with l1 | l1
          · rw [decide_eq_false (show ¬ cs_ra (cs_b w) i ≤ j by omega), Bool.false_and]
          · rw [cs_in (cs_b w) i j l1 hj, Bool.not_true, Bool.and_false]
        · rw [hbits _ l, cs_re_f _ l, decide_eq_true (show cs_ra (cs_b w) i ≤ cs_re (cs_b w) i by omega)]; rfl
        · rw [cs_s1 (by omega)]
          exact J
/-- storing the word w into the container c -/
theorem cs_store {post : SX → Prop} {W : Nat → Int64} {me : Int32} {kd ct fl sl : Nat → Int32} {wd mv : Nat → Int64} {mg : Nat → Int32} (hX : cs_X W kd ct fl sl wd) {c : Nat} (hc : c < 64) (w : Int64)
    (h : ∀ kd' ct' fl' sl' wd', cs_X (vp_updL W c w) kd' ct' fl' sl' wd' → post (me, kd', ct', fl', sl', wd', mv, mg)) : wpX_store post (me, kd, ct, fl, sl, wd, mv, mg) (nI c) w := by
  have hi : vp_in (nI c) 64 := vp_in_nI hc (by decide)
  have ec : (nI c).toNatClampNeg = c := nI_clamp (by omega)
  have hn := cs_cn_le (cs_b w) 64
  have hrn := cs_cn_le (cs_st (cs_b w)) 64
  have J : wX_store_46 post (nI c) w (nI (cs_cn (cs_b w) 64)) me kd (upd ct c (nI (cs_cn (cs_b w) 64))) fl sl wd mv mg := by
    simp (disch := omega) only [wX_store_46, ec]
    refine pk_lt 8 (cs_cn (cs_b w) 64) (fun _ => ?_) (fun h8 => ?_)
    · refine ⟨hi, nm_e ⟨hi, nm_e (h _ _ _ _ _ (cs_X_up hX cs_upn cs_upn cs_same (fun _ _ => rfl) cs_uLn ?_))⟩⟩
      rw [pk_us, pk_us, pk_uLs]
      exact ⟨rfl, Or.inl ⟨rfl, rfl⟩⟩
    · unfold wpX_storeList
      simp (disch := omega) only [ec]
      refine ⟨hi, nm_e ⟨9, ?_⟩⟩
      refine cs_storeList13 (sl0 := sl) hc pk_us rfl h8 (fun sl' ho hk => ?_) 9 0 w sl (by omega) (by omega) (fun j hj => by rw [decide_eq_true (Nat.zero_le _), Bool.and_true]) (fun _ _ => rfl) (fun k hk => absurd hk (Nat.not_lt_zero k))
      refine h _ _ _ _ _ (cs_X_up hX cs_upn cs_upn cs_upn ho cs_sameL ?_)
      dsimp only
      rw [pk_us, pk_us, pk_us]
      exact ⟨rfl, Or.inr (Or.inl ⟨rfl, rfl, h8, hk⟩)⟩
  unfold wpX_store
  refine cs_ones (cs_runsIn ?_)
  rw [ec, cs_2m]
  refine ⟨hi, nm_e (pk_le (cs_cn (cs_b w) 64) (2 * cs_cn (cs_st (cs_b w)) 64) (fun _ => J) (fun _ => pk_lt 4 (cs_cn (cs_st (cs_b w)) 64) (fun _ => J) (fun h4 => ?_)))⟩
  unfold wpX_storeRuns
  simp (disch := omega) only [ec]
  obtain ⟨r1, r2⟩ := cs_ra_runs (cs_b w)
  refine ⟨hi, nm_e ⟨5, ?_⟩⟩
  refine cs_storeRuns13 (sl0 := sl) (w := w) hc h4 r2 (fun sl' ho hk => ?_) 5 0 w sl (by omega) (by omega) (fun j hj => ?_) (fun _ _ => rfl) (fun k hk => absurd hk (Nat.not_lt_zero k))
  · refine h _ _ _ _ _ (cs_X_up hX cs_upn cs_upn cs_upn ho cs_sameL ?_)
    dsimp only
    rw [pk_us, pk_us, pk_us]
    exact ⟨rfl, Or.inr (Or.inr ⟨rfl, _, h4, rfl, r1, fun i hi => ⟨r2 i hi, hk i hi⟩⟩)⟩
  · rcases Nat.lt_or_ge j (cs_ra (cs_b w) 0) with l | l
    · rw [cs_out0 _ j l]; rfl
    · rw [decide_eq_true l, Bool.and_true]
end
section
/-! ===== seek, contains ===== -/
theorem cs_d2 {a : Nat} (h : a < 2 ^ 31) : nI a / 2 = nI (a / 2) := pk_div h (by decide) (by decide)
def cs_01 (b : Bool) : Int32 := if b = true then 1 else 0
theorem cs_seek10 {post : Int32 → Prop} {me : Int32} {kd ct fl sl : Nat → Int32} {wd mv : Nat → Int64} {mg : Nat → Int32} {c m v : Nat} {w : Int64} (hc : c < 64) (hm8 : m ≤ 8) (hv : v ≤ 64)
    (hs : ∀ i, i < m → ∃ p, p < 64 ∧ sl (8 * c + i) = nI p ∧ cs_b w p = true ∧ cs_cn (cs_b w) p = i) (h : post (nI (cs_cn (cs_b w) v))) :
    ∀ n lo hi, hi < n + lo → lo ≤ cs_cn (cs_b w) v → cs_cn (cs_b w) v ≤ hi → hi ≤ m → wX_seek_10 post (nI c) (nI v) me kd ct fl sl wd mv mg n (nI lo) (nI hi) := by
  intro n
  induction n with
  | zero => intro lo hi h1 h2 h3; omega
  | succ n ih =>
    intro lo hi h1 h2 h3 h4
    simp (disch := omega) only [wX_seek_10, cs_m8, nI_add, nI_1, nI_clamp, cs_d2]
    refine pk_le hi lo (fun hle => ?_) (fun hlt => ⟨by decide, nm_e ?_⟩)
    · rw [show lo = cs_cn (cs_b w) v by omega]
      exact h
    · obtain ⟨p, p1, p2, p3, p4⟩ := hs ((lo + hi) / 2) (by omega)
      simp (disch := omega) only [nI_add, nI_1, nI_clamp]
      rw [p2]
      refine ⟨vp_in_nI (by omega) (by decide), pk_le v p (fun hvp => ?_) (fun hvp => nm_e ?_)⟩
      · have := cs_cn_mono (cs_b w) hvp
        exact ih lo ((lo + hi) / 2) (by omega) h2 (by omega) (by omega)
      · have := cs_cn_lt hvp p3
        exact ih ((lo + hi) / 2 + 1) hi (by omega) (by omega) h3 h4
theorem cs_seek {post : Int32 → Prop} {me : Int32} {kd ct fl sl : Nat → Int32} {wd mv : Nat → Int64} {mg : Nat → Int32} {c m v : Nat} {w : Int64} (hc : c < 64) (hf : fl c = nI m) (hm : cs_cn (cs_b w) 64 = m) (hm8 : m ≤ 8) (hv : v ≤ 64)
    (hs : ∀ i, i < m → ∃ p, p < 64 ∧ sl (8 * c + i) = nI p ∧ cs_b w p = true ∧ cs_cn (cs_b w) p = i) (h : post (nI (cs_cn (cs_b w) v))) :
    wpX_seek post (me, kd, ct, fl, sl, wd, mv, mg) (nI c) (nI v) := by
  have hi : vp_in (nI c) 64 := vp_in_nI hc (by decide)
  have hle := cs_cn_mono (cs_b w) hv
  simp (disch := omega) only [wpX_seek, nI_clamp, hf]
  exact ⟨hi, nm_e ⟨9, cs_seek10 hc hm8 hv hs h 9 0 m (by omega) (Nat.zero_le _) (by omega) (Nat.le_refl m)⟩⟩
theorem cs_b1 (j : Nat) : cs_b 1 j = decide (j = 0) := cs_bpow (k := 0) (by decide) j
theorem cs_and1 (x : Int64) : (x &&& 1 = 1) ↔ cs_b x 0 = true := by
  constructor
  · intro h
    have h2 := congrArg (fun y => cs_b y 0) h
    simp only [cs_band, cs_b1] at h2
    simpa using h2
  · intro h
    refine cs_bext (fun j hj => ?_)
    rw [cs_band, cs_b1]
    by_cases e : j = 0
    · subst e; rw [h]; rfl
    · rw [decide_eq_false e, Bool.and_false]
theorem cs_contains80 {post : Int32 → Prop} {me : Int32} {kd ct fl sl : Nat → Int32} {wd mv : Nat → Int64} {mg : Nat → Int32} {c r v : Nat} {w : Int64} (hc : c < 64) (hf : fl c = nI (2 * r)) (hr : r ≤ 4) (hr64 : cs_ra (cs_b w) r = 64) (hv : v < 64)
    (hs : ∀ i, i < r → cs_ra (cs_b w) i < 64 ∧ sl (8 * c + 2 * i) = nI (cs_ra (cs_b w) i) ∧ sl (8 * c + (2 * i + 1)) = nI (cs_re (cs_b w) i - 1)) (h : post (cs_01 (cs_b w v))) :
    ∀ n i, r < n + i → i ≤ r → (cs_b w v = true → cs_ra (cs_b w) i ≤ v) → wX_contains_80 post (nI c) (nI v) me kd ct fl sl wd mv mg n (nI (2 * i)) := by
  intro n
  induction n with
  | zero => intro i h1 h2; omega
  | succ n ih =>
    intro i h1 h2 hx
    have e2 : 2 * i + 2 = 2 * (i + 1) := by omega
    simp (disch := omega) only [wX_contains_80, cs_m8, nI_add, nI_1, cs_p2, nI_clamp, hf]
    rw [e2]
    refine ⟨vp_in_nI hc (by decide), pk_le (2 * r) (2 * i) (fun hle => ?_) (fun hlt => ?_)⟩
    · have ei : i = r := by omega
      subst ei
      have e : cs_b w v = false := by
        cases hb : cs_b w v with
        | false => rfl
        | true => have := hx hb; omega
      rw [e] at h
      exact h
    · obtain ⟨v1, v2, v3⟩ := hs i (by omega)
      have g1 := cs_ra_lt (cs_b w) v1
      have g2 := cs_re_le (cs_b w) i
      have g3 := cs_re_ra (cs_b w) i
      rw [v2, show 8 * c + 2 * i + 1 = 8 * c + (2 * i + 1) by omega, v3]
      refine ⟨vp_in_nI (by omega) (by decide), pk_lt v (cs_ra (cs_b w) i) (fun hl => nm_e (ih (i + 1) (by omega) (by omega) (fun hb => ?_))) (fun hl => ⟨vp_in_nI (by omega) (by decide), pk_lt (cs_re (cs_b w) i - 1) v (fun hl2 => nm_e (ih (i + 1) (by omega) (by omega) (fun hb => ?_))) (fun hl2 => ?_)⟩)⟩
      · have := hx hb; omega
      · rcases Nat.lt_or_ge v (cs_ra (cs_b w) (i + 1)) with l | l
        · rw [cs_out (cs_b w) i v (by omega) l] at hb
          exact absurd hb (by decide)
        · exact l
      · have e : cs_b w v = true := cs_in (cs_b w) i v hl (by omega)
        rw [e] at h
        exact h
theorem cs_contains {post : Int32 → Prop} {W : Nat → Int64} {me : Int32} {kd ct fl sl : Nat → Int32} {wd mv : Nat → Int64} {mg : Nat → Int32} (hX : cs_X W kd ct fl sl wd) {c v : Nat} (hc : c < 64) (hv : v < 64) (h : post (cs_01 (cs_b (W c) v))) : wpX_contains post (me, kd, ct, fl, sl, wd, mv, mg) (nI c) (nI v) := by
  have hi : vp_in (nI c) 64 := vp_in_nI hc (by decide)
  have ec : (nI c).toNatClampNeg = c := nI_clamp (by omega)
  unfold wpX_contains
  dsimp only
  rw [ec]
  obtain ⟨h1, h2 | h2 | h2⟩ := hX c hc
  · obtain ⟨a, b⟩ := h2
    rw [b]
    have hb := cs_and1 (((W c).toUInt64 >>> ((nI v).toInt64.toUInt64 &&& Int64.toUInt64 63)).toInt64)
    rw [cs_bshr hv, Nat.add_zero] at hb
    refine ⟨hi, br_t a ⟨hi, br_c (fun z => ?_) (fun z => ?_)⟩⟩
    · rw [hb.mp z] at h; exact h
    · have e : cs_b (W c) v = false := by
        cases q : cs_b (W c) v with
        | false => rfl
        | true => exact absurd (hb.mpr q) z
      rw [e] at h; exact h
  · obtain ⟨a, b, e, g⟩ := h2
    refine ⟨hi, br_f (by rw [a]; decide) ⟨hi, br_t a (cs_seek hc b rfl e (by omega) g ⟨hi, ?_⟩)⟩⟩
    rw [b]
    have q1 := cs_cn_mono (cs_b (W c)) (show v ≤ 64 by omega)
    refine pk_le (cs_cn (cs_b (W c)) 64) (cs_cn (cs_b (W c)) v) (fun hle => ?_) (fun hlt => ?_)
    · have q : cs_b (W c) v = false := by
        cases hb : cs_b (W c) v with
        | false => rfl
        | true => have := cs_cn_lt hv hb; omega
      rw [q] at h; exact h
    · obtain ⟨p, p1, p2, p3, p4⟩ := g _ hlt
      have p2' : sl (8 * c + cs_cn (cs_b (W c)) v) = nI p := p2
      simp (disch := omega) only [cs_m8, nI_add, nI_clamp, p2']
      refine ⟨vp_in_nI (by omega) (by decide), pk_eq p v (fun e1 => ?_) (fun e1 => ?_)⟩
      · subst e1
        rw [p3] at h; exact h
      · have q : cs_b (W c) v = false := by
          cases hb : cs_b (W c) v with
          | false => rfl
          | true => exact absurd (cs_cn_inj p3 hb p4) e1
        rw [q] at h; exact h
  · obtain ⟨a, r, b, e, g, q⟩ := h2
    refine ⟨hi, br_f (by rw [a]; decide) ⟨hi, br_f (by rw [a]; decide) ⟨5, ?_⟩⟩⟩
    refine cs_contains80 hc e b g hv q h 5 0 (by omega) (by omega) (fun hb => ?_)
    rcases Nat.lt_or_ge v (cs_ra (cs_b (W c)) 0) with l | l
    · rw [cs_out0 _ v l] at hb
      exact absurd hb (by decide)
    · exact l
end
section
/-! ===== insert, erase ===== -/
theorem cs_bset {v : Nat} (hv : v < 64) (w : Int64) (i : Nat) : cs_b (w ||| ((1 : Int64) <<< ((nI v).toInt64 &&& 63))) i = (cs_b w i || decide (i = v)) := by
  rw [cs_bor, cs_bone hv]
theorem cs_bclr {v : Nat} (hv : v < 64) (w : Int64) (i : Nat) : cs_b (w &&& (((1 : Int64) <<< ((nI v).toInt64 &&& 63)) ^^^ (-1))) i = (cs_b w i && !decide (i = v)) := by
  by_cases h : i < 64
  · rw [cs_band, cs_bnot _ h, cs_bone hv]
  · rw [cs_band, cs_bge (w := w) (by omega), Bool.false_and, Bool.false_and]
theorem cs_cnset {v : Nat} (hv : v < 64) {w : Int64} (hf : cs_b w v = false) (n : Nat) : cs_cn (cs_b (w ||| ((1 : Int64) <<< ((nI v).toInt64 &&& 63)))) n = cs_cn (cs_b w) n + (if v < n then 1 else 0) :=
  cs_cn_set (fun i hi => by rw [cs_bset hv, decide_eq_false hi, Bool.or_false]) hf (by rw [cs_bset hv, decide_eq_true rfl, Bool.or_true]) n
theorem cs_cnclr {v : Nat} (hv : v < 64) {w : Int64} (hf : cs_b w v = true) (n : Nat) : cs_cn (cs_b w) n = cs_cn (cs_b (w &&& (((1 : Int64) <<< ((nI v).toInt64 &&& 63)) ^^^ (-1)))) n + (if v < n then 1 else 0) :=
  cs_cn_set (fun i hi => by rw [cs_bclr hv, decide_eq_false hi, Bool.not_false, Bool.and_true]) (by rw [cs_bclr hv, decide_eq_true rfl, Bool.not_true, Bool.and_false]) hf n
theorem cs_insert35 {post : SX → Prop} {me : Int32} {kd ct fl sl0 : Nat → Int32} {wd mv : Nat → Int64} {mg : Nat → Int32} {c m R v : Nat} (hc : c < 64) (hct : ct c = nI m) (hf : fl c = nI m) (hm8 : m < 8) (hR : R ≤ m)
    (h : ∀ sl', (∀ j, j < 8 * c ∨ 8 * c + 8 ≤ j → sl' j = sl0 j) → (∀ k, k < R → sl' (8 * c + k) = sl0 (8 * c + k)) → sl' (8 * c + R) = nI v → (∀ k, R ≤ k → k < m → sl' (8 * c + (k + 1)) = sl0 (8 * c + k)) → post (me, kd, upd ct c (nI (m + 1)), upd fl c (nI (m + 1)), sl', wd, mv, mg)) :
    ∀ n i sl, i < n + R → R ≤ i → i ≤ m → (∀ j, j < 8 * c ∨ 8 * c + 8 ≤ j → sl j = sl0 j) → (∀ k, k < i → sl (8 * c + k) = sl0 (8 * c + k)) → (∀ k, i ≤ k → k < m → sl (8 * c + (k + 1)) = sl0 (8 * c + k)) → wX_insert_35 post (nI c) (nI v) (nI R) me n (nI i) kd ct fl sl wd mv mg := by
  intro n
  induction n with
  | zero => intro i sl h1 h2; omega
  | succ n ih =>
    intro i sl h1 h2 h3 ho hk hk2
    have hi : vp_in (nI c) 64 := vp_in_nI hc (by decide)
    simp (disch := omega) only [wX_insert_35, cs_m8, nI_add, nI_1, nI_clamp, hf, hct]
    refine pk_le i R (fun hle => ?_) (fun hlt => ?_)
    · have e : i = R := by omega
      subst e
      refine ⟨vp_in_nI (by omega) (by decide), nm_e ⟨hi, hi, nm_e ⟨hi, hi, nm_e (h _ (fun j hj => ?_) (fun k hki => ?_) pk_us (fun k h1 h2 => ?_))⟩⟩⟩
      · rw [pk_un (by omega)]; exact ho j hj
      · rw [pk_un (by omega)]; exact hk k hki
      · rw [pk_un (by omega)]; exact hk2 k h1 h2
    · obtain ⟨p, rfl⟩ : ∃ p, i = p + 1 := ⟨i - 1, by omega⟩
      simp (disch := omega) only [cs_s1, nI_clamp]
      refine ⟨vp_in_nI (by omega) (by decide), vp_in_nI (by omega) (by decide), nm_e (nm_r (pk_m1 p) (ih p _ (by omega) (by omega) (by omega) (fun j hj => ?_) (fun k hki => ?_) (fun k h1 h2 => ?_)))⟩
      · rw [pk_un (by omega)]; exact ho j hj
      · rw [pk_un (by omega)]; exact hk k (by omega)
      · by_cases e : k = p
        · subst e
          rw [pk_us, show 8 * c + (k + 1) - 1 = 8 * c + k by omega]
          exact hk k (by omega)
        · rw [pk_un (by omega)]
          exact hk2 k (by omega) h2
theorem cs_insert {post : SX → Prop} {W : Nat → Int64} {me : Int32} {kd ct fl sl : Nat → Int32} {wd mv : Nat → Int64} {mg : Nat → Int32} (hX : cs_X W kd ct fl sl wd) {c v : Nat} (hc : c < 64) (hv : v < 64) (hb : cs_b (W c) v = false)
    (h : ∀ kd' ct' fl' sl' wd', cs_X (vp_updL W c (W c ||| ((1 : Int64) <<< ((nI v).toInt64 &&& 63)))) kd' ct' fl' sl' wd' → post (me, kd', ct', fl', sl', wd', mv, mg)) : wpX_insert post (me, kd, ct, fl, sl, wd, mv, mg) (nI c) (nI v) := by
  have hi : vp_in (nI c) 64 := vp_in_nI hc (by decide)
  have ec : (nI c).toNatClampNeg = c := nI_clamp (by omega)
  have J : ¬ kd c = 1 → wX_insert_108 post (nI c) (nI v) me kd ct fl sl wd mv mg := by
    intro a
    unfold wX_insert_108
    rw [ec]
    exact ⟨hi, br_f a (cs_wordOf hX hc (nm_e (cs_store hX hc _ h)))⟩
  have hC := hX c hc
  unfold wpX_insert
  dsimp only
  rw [ec]
  obtain ⟨h1, h2 | h2 | h2⟩ := hC
  · obtain ⟨a, b⟩ := h2
    refine ⟨hi, br_f (by rw [a]; decide) ?_⟩
    unfold wX_insert_108
    rw [ec, b, h1]
    refine ⟨hi, br_t a ⟨hi, hi, nm_e ⟨hi, hi, nm_e (h _ _ _ _ _ (cs_X_up hX cs_same cs_upn cs_same (fun _ _ => rfl) cs_uLn ?_))⟩⟩⟩
    rw [pk_us, pk_uLs]
    refine ⟨?_, Or.inl ⟨a, rfl⟩⟩
    rw [nI_1, cs_cnset hv hb, if_pos hv]
  · obtain ⟨a, b, e, g⟩ := h2
    refine ⟨hi, br_t a ⟨hi, ?_⟩⟩
    rw [b]
    refine pk_le 8 (cs_cn (cs_b (W c)) 64) (fun _ => J (by rw [a]; decide)) (fun hlt => cs_seek hc b rfl e (by omega) g ⟨hi, nm_e ⟨9, ?_⟩⟩)
    have hR := cs_cn_mono (cs_b (W c)) (show v ≤ 64 by omega)
    refine cs_insert35 (sl0 := sl) (m := cs_cn (cs_b (W c)) 64) hc h1 b hlt hR (fun sl' ho k1 k2 k3 => ?_) 9 _ sl (by omega) hR (Nat.le_refl _) (fun _ _ => rfl) (fun _ _ => rfl) (fun k q1 q2 => absurd q2 (by omega))
    refine h _ _ _ _ _ (cs_X_up hX cs_same cs_upn cs_upn ho cs_sameL ?_)
    have em := cs_cnset hv hb 64
    rw [if_pos hv] at em
    rw [pk_us, pk_us]
    refine ⟨by rw [em], Or.inr (Or.inl ⟨a, by rw [em], by omega, fun i hi2 => ?_⟩)⟩
    rw [em] at hi2
    rcases Nat.lt_trichotomy i (cs_cn (cs_b (W c)) v) with l | l | l
    · obtain ⟨p, p1, p2, p3, p4⟩ := g i (by omega)
      have hpv : p < v := cs_cn_rev (f := cs_b (W c)) (by omega)
      refine ⟨p, p1, (k1 i l).trans p2, ?_, ?_⟩
      · rw [cs_bset hv, p3]; rfl
      · rw [cs_cnset hv hb, if_neg (show ¬ v < p by omega)]; omega
    · refine ⟨v, hv, by rw [l]; exact k2, ?_, ?_⟩
      · rw [cs_bset hv, decide_eq_true rfl, Bool.or_true]
      · rw [cs_cnset hv hb, if_neg (Nat.lt_irrefl v)]; omega
    · obtain ⟨q, rfl⟩ : ∃ q, i = q + 1 := ⟨i - 1, by omega⟩
      obtain ⟨p, p1, p2, p3, p4⟩ := g q (by omega)
      have hpv : v < p := by
        rcases Nat.lt_trichotomy v p with l2 | l2 | l2
        · exact l2
        · subst l2
          rw [hb] at p3
          exact absurd p3 (by decide)
        · have := cs_cn_lt l2 p3; omega
      refine ⟨p, p1, (k3 q (by omega) (by omega)).trans p2, ?_, ?_⟩
      · rw [cs_bset hv, p3]; rfl
      · rw [cs_cnset hv hb, if_pos hpv]; omega
  · obtain ⟨a, r, b⟩ := h2
    exact ⟨hi, br_f (by rw [a]; decide) (J (by rw [a]; decide))⟩
theorem cs_erase39 {post : SX → Prop} {me : Int32} {kd ct fl sl0 : Nat → Int32} {wd mv : Nat → Int64} {mg : Nat → Int32} {c m R : Nat} (hc : c < 64) (hf : fl c = nI m) (hm8 : m < 8) (hR : R ≤ m)
    (h : ∀ sl', (∀ j, j < 8 * c ∨ 8 * c + 8 ≤ j → sl' j = sl0 j) → (∀ k, k < R → sl' (8 * c + k) = sl0 (8 * c + k)) → (∀ k, R ≤ k → k < m → sl' (8 * c + k) = sl0 (8 * c + (k + 1))) → post (me, kd, ct, fl, sl', wd, mv, mg)) :
    ∀ n i sl, m < n + i → R ≤ i → i ≤ m → (∀ j, j < 8 * c ∨ 8 * c + 8 ≤ j → sl j = sl0 j) → (∀ k, k < R → sl (8 * c + k) = sl0 (8 * c + k)) → (∀ k, R ≤ k → k < i → sl (8 * c + k) = sl0 (8 * c + (k + 1))) → (∀ k, i ≤ k → sl (8 * c + k) = sl0 (8 * c + k)) → wX_erase_39 post (nI c) me n (nI i) kd ct fl sl wd mv mg := by
  intro n
  induction n with
  | zero => intro i sl h1 h2; omega
  | succ n ih =>
    intro i sl h1 h2 h3 ho hk hk2 hk3
    have hi : vp_in (nI c) 64 := vp_in_nI hc (by decide)
    simp (disch := omega) only [wX_erase_39, cs_m8, nI_add, nI_1, nI_clamp, hf]
    refine ⟨hi, pk_le m i (fun hle => ?_) (fun hlt => ?_)⟩
    · have e : i = m := by omega
      subst e
      exact h sl ho hk hk2
    · refine ⟨vp_in_nI (by omega) (by decide), vp_in_nI (by omega) (by decide), nm_e (nm_e (ih (i + 1) _ (by omega) (by omega) (by omega) (fun j hj => ?_) (fun k hki => ?_) (fun k q1 q2 => ?_) (fun k q1 => ?_)))⟩
      · rw [pk_un (by omega)]; exact ho j hj
      · rw [pk_un (by omega)]; exact hk k hki
      · by_cases e : k = i
        · subst e
          rw [pk_us, show 8 * c + k + 1 = 8 * c + (k + 1) by omega]
          exact hk3 (k + 1) (by omega)
        · rw [pk_un (by omega)]
          exact hk2 k q1 (by omega)
      · rw [pk_un (by omega)]; exact hk3 k (by omega)
theorem cs_erase {post : SX → Prop} {W : Nat → Int64} {me : Int32} {kd ct fl sl : Nat → Int32} {wd mv : Nat → Int64} {mg : Nat → Int32} (hX : cs_X W kd ct fl sl wd) {c v : Nat} (hc : c < 64) (hv : v < 64) (hb : cs_b (W c) v = true)
    (h : ∀ kd' ct' fl' sl' wd', cs_X (vp_updL W c (W c &&& (((1 : Int64) <<< ((nI v).toInt64 &&& 63)) ^^^ (-1)))) kd' ct' fl' sl' wd' → post (me, kd', ct', fl', sl', wd', mv, mg)) : wpX_erase post (me, kd, ct, fl, sl, wd, mv, mg) (nI c) (nI v) := by
  have hi : vp_in (nI c) 64 := vp_in_nI hc (by decide)
  have ec : (nI c).toNatClampNeg = c := nI_clamp (by omega)
  have hC := hX c hc
  unfold wpX_erase
  dsimp only
  rw [ec]
  obtain ⟨h1, h2 | h2 | h2⟩ := hC
  · obtain ⟨a, b⟩ := h2
    exact ⟨hi, br_f (by rw [a]; decide) (cs_wordOf hX hc (nm_e (cs_store hX hc _ h)))⟩
  · obtain ⟨a, b, e, g⟩ := h2
    have hR := cs_cn_lt hv hb
    have em := cs_cnclr hv hb 64
    rw [if_pos hv] at em
    generalize hw : (W c &&& (((1 : Int64) <<< ((nI v).toInt64 &&& 63)) ^^^ (-1))) = w' at *
    refine ⟨hi, br_t a (cs_seek hc b rfl e (by omega) g ?_)⟩
    rw [b, h1, em, cs_s1 (by omega), Nat.add_sub_cancel]
    refine ⟨hi, hi, nm_e ⟨hi, hi, nm_e ⟨9, ?_⟩⟩⟩
    refine cs_erase39 (sl0 := sl) (m := cs_cn (cs_b w') 64) hc pk_us (by omega) (by omega) (fun sl' ho k1 k2 => ?_) 9 (cs_cn (cs_b (W c)) v) sl (by omega) (Nat.le_refl _) (by omega) (fun _ _ => rfl) (fun _ _ => rfl) (fun k q1 q2 => absurd q2 (by omega)) (fun _ _ => rfl)
    refine h _ _ _ _ _ (cs_X_up hX cs_same cs_upn cs_upn ho cs_sameL ?_)
    rw [pk_us, pk_us]
    refine ⟨rfl, Or.inr (Or.inl ⟨a, rfl, by omega, fun i hi2 => ?_⟩)⟩
    rcases Nat.lt_or_ge i (cs_cn (cs_b (W c)) v) with l | l
    · obtain ⟨p, p1, p2, p3, p4⟩ := g i (by omega)
      have hpv : p < v := cs_cn_rev (f := cs_b (W c)) (by omega)
      have ep := cs_cnclr hv hb p
      rw [if_neg (show ¬ v < p by omega), hw] at ep
      refine ⟨p, p1, (k1 i l).trans p2, ?_, by omega⟩
      rw [← hw, cs_bclr hv, p3, decide_eq_false (show ¬ p = v by omega)]; rfl
    · obtain ⟨p, p1, p2, p3, p4⟩ := g (i + 1) (by omega)
      have hpv : v < p := cs_cn_rev (f := cs_b (W c)) (by omega)
      have ep := cs_cnclr hv hb p
      rw [if_pos hpv, hw] at ep
      refine ⟨p, p1, (k2 i l hi2).trans p2, ?_, by omega⟩
      rw [← hw, cs_bclr hv, p3, decide_eq_false (show ¬ p = v by omega)]; rfl
  · obtain ⟨a, r, b⟩ := h2
    exact ⟨hi, br_f (by rw [a]; decide) (cs_wordOf hX hc (nm_e (cs_store hX hc _ h)))⟩
end
section
/-! ===== a set: its numbers out of its sixteen words ===== -/
def cs_h (W : Nat → Int64) (s : Nat) (x : Nat) : Bool := cs_b (W (16 * s + x / 64)) (x % 64)
theorem cs_h_at (W : Nat → Int64) (s p : Nat) {i : Nat} (hi : i < 64) : cs_h W s (64 * p + i) = cs_b (W (16 * s + p)) i := by
  have e1 : (64 * p + i) / 64 = p := by omega
  have e2 : (64 * p + i) % 64 = i := by omega
  unfold cs_h
  rw [e1, e2]
theorem cs_cn_h (W : Nat → Int64) (s p : Nat) {j : Nat} (hj : j ≤ 64) : cs_cn (cs_h W s) (64 * p + j) = cs_cn (cs_h W s) (64 * p) + cs_cn (cs_b (W (16 * s + p))) j := by
  rw [cs_cn_add]
  congr 1
  exact cs_cn_cong (fun i hi => cs_h_at W s p (by omega))
theorem cs_cn_cut {f : Nat → Bool} {v n : Nat} (h : v ≤ n) : cs_cn (fun i => f i && decide (i < v)) n = cs_cn f v := by
  rw [cs_cn_F (f := fun i => f i && decide (i < v)) h (fun j h1 h2 => by
    show (f j && decide (j < v)) = false
    rw [decide_eq_false (by omega), Bool.and_false])]
  exact cs_cn_cong (fun i hi => by rw [decide_eq_true hi, Bool.and_true])
/-! ===== total ===== -/
theorem cs_total7 {post : Int32 → Prop} {W : Nat → Int64} {me : Int32} {kd ct fl sl : Nat → Int32} {wd mv : Nat → Int64} {mg : Nat → Int32} (hX : cs_X W kd ct fl sl wd) {s : Nat} (hs : s < 4) (h : post (nI (cs_cn (cs_h W s) 1024))) :
    ∀ n p, 16 < n + p → p ≤ 16 → wX_total_7 post (nI s) me kd ct fl sl wd mv mg n (nI (cs_cn (cs_h W s) (64 * p))) (nI (16 * s + p)) := by
  intro n
  induction n with
  | zero => intro p h1 h2; omega
  | succ n ih =>
    intro p h1 h2
    simp (disch := omega) only [wX_total_7, cs_m16, cs_p16, nI_1, nI_clamp]
    refine pk_le (16 * s + 16) (16 * s + p) (fun hle => ?_) (fun hlt => ?_)
    · rw [show p = 16 by omega]
      exact h
    · have e := cs_cn_h W s p (Nat.le_refl 64)
      rw [(hX (16 * s + p) (by omega)).1, nI_add, ← e]
      exact ⟨vp_in_nI (by omega) (by decide), nm_e (nm_e (ih (p + 1) (by omega) (by omega)))⟩
theorem cs_total {post : Int32 → Prop} {W : Nat → Int64} {me : Int32} {kd ct fl sl : Nat → Int32} {wd mv : Nat → Int64} {mg : Nat → Int32} (hX : cs_X W kd ct fl sl wd) {s : Nat} (hs : s < 4) (h : post (nI (cs_cn (cs_h W s) 1024))) : wpX_total post (me, kd, ct, fl, sl, wd, mv, mg) (nI s) := by
  unfold wpX_total
  dsimp only
  rw [cs_m16]
  exact nm_e ⟨17, cs_total7 hX hs h 17 0 (by omega) (by omega)⟩
/-! ===== below, rankOf ===== -/
theorem cs_below49 {post : Int32 → Prop} {me : Int32} {kd ct fl sl : Nat → Int32} {wd mv : Nat → Int64} {mg : Nat → Int32} {c r v : Nat} {w : Int64} (hc : c < 64) (hf : fl c = nI (2 * r)) (hr : r ≤ 4) (hr64 : cs_ra (cs_b w) r = 64) (hv : v ≤ 64)
    (hs : ∀ i, i < r → cs_ra (cs_b w) i < 64 ∧ sl (8 * c + 2 * i) = nI (cs_ra (cs_b w) i) ∧ sl (8 * c + (2 * i + 1)) = nI (cs_re (cs_b w) i - 1)) (h : post (nI (cs_cn (cs_b w) v))) :
    ∀ n i, r < n + i → i ≤ r → wX_below_49 post (nI c) (nI v) me kd ct fl sl wd mv mg n (nI (cs_cn (cs_b w) (min v (cs_ra (cs_b w) i)))) (nI (2 * i)) := by
  intro n
  induction n with
  | zero => intro i h1 h2; omega
  | succ n ih =>
    intro i h1 h2
    have e2 : nI (2 * i + 2) = nI (2 * (i + 1)) := congrArg nI (by omega)
    simp (disch := omega) only [wX_below_49, cs_m8, nI_add, nI_1, cs_p2, nI_clamp, hf]
    refine ⟨vp_in_nI hc (by decide), pk_le (2 * r) (2 * i) (fun hle => ?_) (fun hlt => ?_)⟩
    · have ei : i = r := by omega
      subst ei
      rw [hr64, show min v 64 = v by omega]
      exact h
    · obtain ⟨v1, v2, v3⟩ := hs i (by omega)
      have g1 := cs_ra_lt (cs_b w) v1
      have g2 := cs_re_le (cs_b w) i
      have g3 := cs_re_ra (cs_b w) i
      rw [v2, show 8 * c + 2 * i + 1 = 8 * c + (2 * i + 1) by omega, v3, nI_1, show cs_re (cs_b w) i - 1 + 1 = cs_re (cs_b w) i by omega]
      have K := ih (i + 1) (by omega) (by omega)
      refine ⟨vp_in_nI (by omega) (by decide), nm_e ⟨vp_in_nI (by omega) (by decide), nm_e (pk_le v (cs_ra (cs_b w) i) (fun hl => nm_r e2 ?_) (fun hl => pk_le (cs_re (cs_b w) i) v (fun hl2 => ?_) (fun hl2 => ?_)))⟩⟩
      · rw [show min v (cs_ra (cs_b w) (i + 1)) = v by omega] at K
        rw [show min v (cs_ra (cs_b w) i) = v by omega]
        exact K
      · have e : cs_cn (cs_b w) (min v (cs_ra (cs_b w) (i + 1))) = cs_cn (cs_b w) (min v (cs_ra (cs_b w) i)) + (cs_re (cs_b w) i - cs_ra (cs_b w) i) := by
          rw [show min v (cs_ra (cs_b w) i) = cs_ra (cs_b w) i by omega, ← cs_cn_re]
          exact cs_cn_F (by omega) (fun j j1 j2 => cs_out (cs_b w) i j j1 (by omega))
        rw [e] at K
        rw [pk_sub (by omega), nI_add]
        exact nm_e (nm_r e2 K)
      · have e : cs_cn (cs_b w) (min v (cs_ra (cs_b w) (i + 1))) = cs_cn (cs_b w) (min v (cs_ra (cs_b w) i)) + (v - cs_ra (cs_b w) i) := by
          rw [show min v (cs_ra (cs_b w) i) = cs_ra (cs_b w) i by omega, ← cs_cn_T (fun j j1 j2 => cs_in (cs_b w) i j j1 (by omega))]
          exact congrArg _ (by omega)
        rw [e] at K
        rw [pk_sub (by omega), nI_add]
        exact nm_e (nm_r e2 K)
theorem cs_below {post : Int32 → Prop} {W : Nat → Int64} {me : Int32} {kd ct fl sl : Nat → Int32} {wd mv : Nat → Int64} {mg : Nat → Int32} (hX : cs_X W kd ct fl sl wd) {c v : Nat} (hc : c < 64) (hv : v ≤ 64) (h : post (nI (cs_cn (cs_b (W c)) v))) : wpX_below post (me, kd, ct, fl, sl, wd, mv, mg) (nI c) (nI v) := by
  have hi : vp_in (nI c) 64 := vp_in_nI hc (by decide)
  have ec : (nI c).toNatClampNeg = c := nI_clamp (by omega)
  unfold wpX_below
  dsimp only
  rw [ec]
  obtain ⟨h1, h2 | h2 | h2⟩ := hX c hc
  · obtain ⟨a, b⟩ := h2
    refine ⟨hi, br_f (by rw [a]; decide) ⟨hi, br_t a (cs_stretch (a := 0) (by omega) hv (fun s hsb => ⟨hi, cs_ones ?_⟩))⟩⟩
    rw [b]
    have e : cs_cn (cs_b (W c &&& s)) 64 = cs_cn (cs_b (W c)) v := by
      rw [← cs_cn_cut (f := cs_b (W c)) hv]
      refine cs_cn_cong (fun i hi => ?_)
      rw [cs_band, hsb i hi, decide_eq_true (Nat.zero_le i), Bool.true_and]
    rw [e]
    exact h
  · obtain ⟨a, b, e, g⟩ := h2
    exact ⟨hi, br_t a (cs_seek hc b rfl e hv g h)⟩
  · obtain ⟨a, r, b, e, g, q⟩ := h2
    refine ⟨hi, br_f (by rw [a]; decide) ⟨hi, br_f (by rw [a]; decide) ⟨5, ?_⟩⟩⟩
    have K := cs_below49 (me := me) (kd := kd) (ct := ct) (wd := wd) (mv := mv) (mg := mg) hc e b g hv q h 5 0 (by omega) (by omega)
    have e0 : cs_cn (cs_b (W c)) (min v (cs_ra (cs_b (W c)) 0)) = 0 := cs_cn_all0 (fun j hj => cs_out0 _ j (by omega))
    rw [e0] at K
    exact K
theorem cs_sh6 {x : Nat} (h : x < 2 ^ 31) : nI x >>> ((6 : Int32) &&& 31) = nI (x / 64) := pk_shrN h _ 6 (by decide)
theorem cs_a63 {x : Nat} (h : x < 2 ^ 31) : nI x &&& 63 = nI (x % 64) := pk_andN (by omega) 6 (by decide)
theorem cs_rankOf11 {post : Int32 → Prop} {W : Nat → Int64} {me : Int32} {kd ct fl sl : Nat → Int32} {wd mv : Nat → Int64} {mg : Nat → Int32} (hX : cs_X W kd ct fl sl wd) {s x : Nat} (hs : s < 4) (hx : x ≤ 1024) (h : post (nI (cs_cn (cs_h W s) x))) :
    ∀ n p, x / 64 < n + p → p ≤ x / 64 → wX_rankOf_11 post (nI s) (nI x) (nI (x / 64)) me kd ct fl sl wd mv mg n (nI (cs_cn (cs_h W s) (64 * p))) (nI p) := by
  intro n
  induction n with
  | zero => intro p h1 h2; omega
  | succ n ih =>
    intro p h1 h2
    simp (disch := omega) only [wX_rankOf_11, cs_m16, nI_1, nI_add, nI_clamp, cs_a63]
    refine pk_le (x / 64) p (fun hle => pk_le 16 (x / 64) (fun h16 => ?_) (fun h16 => ?_)) (fun hlt => ?_)
    · rw [show 64 * p = x by omega]
      exact h
    · refine cs_below hX (by omega) (by omega) ?_
      have e := cs_cn_h W s (x / 64) (j := x % 64) (by omega)
      rw [show 64 * (x / 64) + x % 64 = x by omega] at e
      rw [show p = x / 64 by omega, nI_add, ← e]
      exact h
    · have e := cs_cn_h W s p (Nat.le_refl 64)
      rw [(hX (16 * s + p) (by omega)).1, nI_add, ← e]
      exact ⟨vp_in_nI (by omega) (by decide), nm_e (nm_e (ih (p + 1) (by omega) (by omega)))⟩
theorem cs_rankOf {post : Int32 → Prop} {W : Nat → Int64} {me : Int32} {kd ct fl sl : Nat → Int32} {wd mv : Nat → Int64} {mg : Nat → Int32} (hX : cs_X W kd ct fl sl wd) {s x : Nat} (hs : s < 4) (hx : x ≤ 1024) (h : post (nI (cs_cn (cs_h W s) x))) : wpX_rankOf post (me, kd, ct, fl, sl, wd, mv, mg) (nI s) (nI x) := by
  unfold wpX_rankOf
  dsimp only
  rw [cs_sh6 (by omega)]
  exact nm_e ⟨17, cs_rankOf11 hX hs hx h 17 0 (by omega) (by omega)⟩
end
section
/-! ===== pick, select ===== -/
theorem cs_pick41 {post : Int32 → Prop} {me : Int32} {kd ct fl sl : Nat → Int32} {wd mv : Nat → Int64} {mg : Nat → Int32} {k v : Nat} {w : Int64} (hv : v < 64) (hb : cs_b w v = true) (hk : cs_cn (cs_b w) v = k) (h : post (nI v)) :
    ∀ n i x, k < n + i → i ≤ k → (∀ j, j < 64 → cs_b x j = (cs_b w j && decide (i ≤ cs_cn (cs_b w) j))) → wX_pick_41 post (nI k) me kd ct fl sl wd mv mg n x (nI i) := by
  have hk64 := cs_cn_lt hv hb
  have hle := cs_cn_le (cs_b w) 64
  intro n
  induction n with
  | zero => intro i x h1 h2; omega
  | succ n ih =>
    intro i x h1 h2 hx
    simp (disch := omega) only [wX_pick_41, nI_1]
    refine pk_le k i (fun hle => ?_) (fun hlt => ?_)
    · have ei : i = k := by omega
      subst ei
      refine cs_lowest (v := v) (by omega) (fun j hj => ?_) (fun _ => ?_) h
      · rw [hx j (by omega)]
        cases hbj : cs_b w j with
        | false => rfl
        | true =>
          have := cs_cn_lt hj hbj
          rw [decide_eq_false (by omega)]; rfl
      · rw [hx v hv, hb, decide_eq_true (by omega)]; rfl
    · obtain ⟨u, u1, u2, u3⟩ := cs_cn_ex (f := cs_b w) (k := i) (n := 64) (by omega)
      have b1 : ∀ j, j < u → cs_b x j = false := fun j hj => by
        rw [hx j (by omega)]
        cases hbj : cs_b w j with
        | false => rfl
        | true =>
          have := cs_cn_lt hj hbj
          rw [decide_eq_false (by omega)]; rfl
      have b2 : cs_b x u = true := by rw [hx u u1, u2, decide_eq_true (by omega)]; rfl
      refine nm_e (nm_e (ih (i + 1) _ (by omega) (by omega) (fun j hj => ?_)))
      rw [cs_drop b1 b2 j hj, hx j hj]
      by_cases e : j = u
      · subst e
        rw [decide_eq_false (show ¬ j ≠ j from fun z => z rfl), decide_eq_false (show ¬ i + 1 ≤ cs_cn (cs_b w) j by omega), Bool.and_false, Bool.and_false]
      · rw [decide_eq_true e, Bool.and_true]
        cases hbj : cs_b w j with
        | false => rfl
        | true =>
          have hne : cs_cn (cs_b w) j ≠ i := fun z => e (cs_cn_inj hbj u2 (z.trans u3.symm))
          rw [Bool.true_and, Bool.true_and]
          exact decide_eq_decide.mpr ⟨fun z => by omega, fun z => by omega⟩
theorem cs_pick94 {post : Int32 → Prop} {me : Int32} {kd ct fl sl : Nat → Int32} {wd mv : Nat → Int64} {mg : Nat → Int32} {c r k v : Nat} {w : Int64} (hc : c < 64) (hf : fl c = nI (2 * r)) (hr : r ≤ 4) (hr64 : cs_ra (cs_b w) r = 64)
    (hs : ∀ i, i < r → cs_ra (cs_b w) i < 64 ∧ sl (8 * c + 2 * i) = nI (cs_ra (cs_b w) i) ∧ sl (8 * c + (2 * i + 1)) = nI (cs_re (cs_b w) i - 1))
    (hv : v < 64) (hb : cs_b w v = true) (hk : cs_cn (cs_b w) v = k) (h : post (nI v)) :
    ∀ n i, r < n + i → i < r → cs_cn (cs_b w) (cs_ra (cs_b w) i) ≤ k → wX_pick_94 post (nI c) me kd ct fl sl wd mv mg n (nI (k - cs_cn (cs_b w) (cs_ra (cs_b w) i))) (nI (2 * i)) (nI (cs_re (cs_b w) i - cs_ra (cs_b w) i)) := by
  have hk64 := cs_cn_lt hv hb
  have hle := cs_cn_le (cs_b w) 64
  intro n
  induction n with
  | zero => intro i h1 h2; omega
  | succ n ih =>
    intro i h1 h2 hx
    obtain ⟨v1, v2, v3⟩ := hs i h2
    have g1 := cs_ra_lt (cs_b w) v1
    have g2 := cs_re_le (cs_b w) i
    have g3 := cs_re_ra (cs_b w) i
    have g4 := cs_cn_ras (cs_b w) i
    have J : k < cs_cn (cs_b w) (cs_ra (cs_b w) (i + 1)) → wX_pick_155 post (nI c) (nI (k - cs_cn (cs_b w) (cs_ra (cs_b w) i))) (nI (2 * i)) me kd ct fl sl wd mv mg := by
      intro hlt
      have a1 : cs_ra (cs_b w) i ≤ v := by
        rcases Nat.lt_or_ge v (cs_ra (cs_b w) i) with l | l
        · have := cs_cn_lt l hb; omega
        · exact l
      have a2 : v < cs_ra (cs_b w) (i + 1) := cs_cn_rev (f := cs_b w) (by omega)
      have a3 : v < cs_re (cs_b w) i := by
        rcases Nat.lt_or_ge v (cs_re (cs_b w) i) with l | l
        · exact l
        · rw [cs_out (cs_b w) i v l a2] at hb
          exact absurd hb (by decide)
      have a4 := cs_cn_T (f := cs_b w) (a := cs_ra (cs_b w) i) (d := v - cs_ra (cs_b w) i) (fun j j1 j2 => cs_in (cs_b w) i j j1 (by omega))
      rw [show cs_ra (cs_b w) i + (v - cs_ra (cs_b w) i) = v by omega] at a4
      simp (disch := omega) only [wX_pick_155, cs_m8, nI_add, nI_clamp]
      rw [v2, nI_add, show cs_ra (cs_b w) i + (k - cs_cn (cs_b w) (cs_ra (cs_b w) i)) = v by omega]
      exact ⟨vp_in_nI (by omega) (by decide), h⟩
    simp (disch := omega) only [wX_pick_94, cs_p2, nI_clamp, hf]
    refine ⟨vp_in_nI hc (by decide), pk_le (2 * r) (2 * i + 2) (fun hle => J ?_) (fun hlt => pk_lt (k - cs_cn (cs_b w) (cs_ra (cs_b w) i)) (cs_re (cs_b w) i - cs_ra (cs_b w) i) (fun hl => J (by omega)) (fun hl => ?_))⟩
    · rw [show i + 1 = r by omega, hr64]
      omega
    · obtain ⟨z1, z2, z3⟩ := hs (i + 1) (by omega)
      have y1 := cs_ra_lt (cs_b w) z1
      have y2 := cs_re_le (cs_b w) (i + 1)
      have K := ih (i + 1) (by omega) (by omega) (by omega)
      rw [pk_sub (by omega), show k - cs_cn (cs_b w) (cs_ra (cs_b w) i) - (cs_re (cs_b w) i - cs_ra (cs_b w) i) = k - cs_cn (cs_b w) (cs_ra (cs_b w) (i + 1)) by omega]
      refine nm_e (nm_r (e' := nI (2 * (i + 1))) (congrArg nI (by omega)) ?_)
      simp (disch := omega) only [cs_m8, nI_add, nI_1, nI_clamp]
      rw [z2, show 8 * c + 2 * (i + 1) + 1 = 8 * c + (2 * (i + 1) + 1) by omega, z3, pk_sub (by omega), nI_1, show cs_re (cs_b w) (i + 1) - 1 - cs_ra (cs_b w) (i + 1) + 1 = cs_re (cs_b w) (i + 1) - cs_ra (cs_b w) (i + 1) by omega]
      exact ⟨vp_in_nI (by omega) (by decide), vp_in_nI (by omega) (by decide), nm_e K⟩
theorem cs_pick {post : Int32 → Prop} {W : Nat → Int64} {me : Int32} {kd ct fl sl : Nat → Int32} {wd mv : Nat → Int64} {mg : Nat → Int32} (hX : cs_X W kd ct fl sl wd) {c k v : Nat} (hc : c < 64) (hv : v < 64) (hb : cs_b (W c) v = true) (hk : cs_cn (cs_b (W c)) v = k) (h : post (nI v)) : wpX_pick post (me, kd, ct, fl, sl, wd, mv, mg) (nI c) (nI k) := by
  have hi : vp_in (nI c) 64 := vp_in_nI hc (by decide)
  have ec : (nI c).toNatClampNeg = c := nI_clamp (by omega)
  have hk64 := cs_cn_lt hv hb
  have hle := cs_cn_le (cs_b (W c)) 64
  unfold wpX_pick
  dsimp only
  rw [ec]
  obtain ⟨h1, h2 | h2 | h2⟩ := hX c hc
  · obtain ⟨a, b⟩ := h2
    rw [b]
    refine ⟨hi, br_f (by rw [a]; decide) ⟨hi, br_t a ⟨hi, nm_e ⟨65, ?_⟩⟩⟩⟩
    exact cs_pick41 hv hb hk h 65 0 (W c) (by omega) (by omega) (fun j hj => by rw [decide_eq_true (Nat.zero_le _), Bool.and_true])
  · obtain ⟨a, b, e, g⟩ := h2
    obtain ⟨p, p1, p2, p3, p4⟩ := g k (by omega)
    have ep : p = v := cs_cn_inj p3 hb (p4.trans hk.symm)
    subst ep
    have p2' : sl (8 * c + k) = nI p := p2
    simp (disch := omega) only [cs_m8, nI_add, nI_clamp, p2']
    exact ⟨hi, br_t a ⟨vp_in_nI (by omega) (by decide), h⟩⟩
  · obtain ⟨a, r, b, e, g, q⟩ := h2
    have hr0 : 0 < r := by
      rcases Nat.eq_zero_or_pos r with z | z
      · subst z
        rw [cs_out0 (cs_b (W c)) v (by omega)] at hb
        exact absurd hb (by decide)
      · exact z
    obtain ⟨z1, z2, z3⟩ := q 0 hr0
    have y1 := cs_ra_lt (cs_b (W c)) z1
    have y2 := cs_re_le (cs_b (W c)) 0
    have z2' : sl (8 * c) = nI (cs_ra (cs_b (W c)) 0) := z2
    have z3' : sl (8 * c + 1) = nI (cs_re (cs_b (W c)) 0 - 1) := z3
    have e0 := cs_cn_ra0 (cs_b (W c))
    have K := cs_pick94 (me := me) (kd := kd) (ct := ct) (wd := wd) (mv := mv) (mg := mg) hc e b g q hv hb hk h 5 0 (by omega) hr0 (by omega)
    rw [e0] at K
    refine ⟨hi, br_f (by rw [a]; decide) ⟨hi, br_f (by rw [a]; decide) ?_⟩⟩
    simp (disch := omega) only [cs_m8, nI_1, nI_clamp, z2', z3']
    rw [pk_sub (by omega), nI_1, show cs_re (cs_b (W c)) 0 - 1 - cs_ra (cs_b (W c)) 0 + 1 = cs_re (cs_b (W c)) 0 - cs_ra (cs_b (W c)) 0 by omega]
    exact ⟨vp_in_nI (by omega) (by decide), vp_in_nI (by omega) (by decide), nm_e ⟨5, K⟩⟩
theorem cs_select21 {post : Int32 → Prop} {W : Nat → Int64} {me : Int32} {kd ct fl sl : Nat → Int32} {wd mv : Nat → Int64} {mg : Nat → Int32} (hX : cs_X W kd ct fl sl wd) {s k : Nat} (hs : s < 4) (hk : k < 2 ^ 31)
    (hp : ∀ v, v < 1024 → cs_h W s v = true → cs_cn (cs_h W s) v = k → post (nI v)) (hn : cs_cn (cs_h W s) 1024 ≤ k → post (-3)) :
    ∀ n p, 16 < n + p → p ≤ 16 → cs_cn (cs_h W s) (64 * p) ≤ k → wX_select_21 post (nI s) me kd ct fl sl wd mv mg n (nI (k - cs_cn (cs_h W s) (64 * p))) (nI p) := by
  intro n
  induction n with
  | zero => intro p h1 h2; omega
  | succ n ih =>
    intro p h1 h2 hx
    simp (disch := omega) only [wX_select_21, cs_m16, cs_64m, nI_add, nI_1]
    refine pk_le 16 p (fun hle => ?_) (fun hlt => nm_e ?_)
    · rw [show p = 16 by omega] at hx
      exact hn hx
    · have e := cs_cn_h W s p (Nat.le_refl 64)
      have e1 := (hX (16 * s + p) (by omega)).1
      have e2 := cs_cn_le (cs_b (W (16 * s + p))) 64
      simp (disch := omega) only [nI_clamp, e1]
      have hi : vp_in (nI (16 * s + p)) 64 := vp_in_nI (by omega) (by decide)
      refine ⟨hi, pk_le (cs_cn (cs_b (W (16 * s + p))) 64) (k - cs_cn (cs_h W s) (64 * p)) (fun hle => ⟨hi, ?_⟩) (fun hlt2 => ?_)⟩
      · rw [pk_sub hle, show k - cs_cn (cs_h W s) (64 * p) - cs_cn (cs_b (W (16 * s + p))) 64 = k - cs_cn (cs_h W s) (64 * (p + 1)) by rw [show 64 * (p + 1) = 64 * p + 64 by omega, e]; omega]
        refine nm_e (nm_e (ih (p + 1) (by omega) (by omega) ?_))
        rw [show 64 * (p + 1) = 64 * p + 64 by omega, e]
        omega
      · obtain ⟨v, v1, v2, v3⟩ := cs_cn_ex hlt2
        refine cs_pick hX (by omega) v1 v2 v3 ?_
        rw [nI_add]
        refine hp (64 * p + v) (by omega) ?_ ?_
        · rw [cs_h_at W s p v1]; exact v2
        · rw [cs_cn_h W s p (by omega)]; omega
end
section
/-! ===== mergeLists, storeMerged, combinePart, commonIn ===== -/
def cs_F (f g : Nat → Bool) (bt : Bool) : Nat → Bool := fun j => f j && (g j == bt)
theorem cs_01_inj (a b : Bool) : cs_01 a = cs_01 b ↔ a = b := by cases a <;> cases b <;> decide
theorem cs_cn_none {f : Nat → Bool} {a b : Nat} (h : cs_cn f a = cs_cn f b) : ∀ j, a ≤ j → j < b → f j = false := by
  intro j h1 h2
  cases hf : f j with
  | false => rfl
  | true =>
    have := cs_cn_lt h2 hf
    have := cs_cn_mono f h1
    omega
theorem cs_merge70 {post : SX → Prop} {J : Int32 → Int32 → Int32 → (Nat → Int32) → (Nat → Int32) → (Nat → Int32) → (Nat → Int32) → (Nat → Int64) → (Nat → Int64) → (Nat → Int32) → Prop} {me x1 x3 x5 : Int32} {kd ct fl sl : Nat → Int32} {wd mv : Nat → Int64} {mg : Nat → Int32} {d md v : Nat} {y : Int64} (hd : d < 64) (hf : fl d = nI md) (hm : cs_cn (cs_b y) 64 = md) (hm8 : md ≤ 8) (hv : v < 64)
    (hs : ∀ i, i < md → ∃ p, p < 64 ∧ sl (8 * d + i) = nI p ∧ cs_b y p = true ∧ cs_cn (cs_b y) p = i)
    (h : wX_mergeLists_103 post J x1 (nI d) x3 (nI (cs_cn (cs_b y) v)) x5 (nI v) (cs_01 (cs_b y v)) me kd ct fl sl wd mv mg) :
    wX_mergeLists_70 post J x1 (nI d) x3 (nI (cs_cn (cs_b y) v)) x5 (nI v) me kd ct fl sl wd mv mg := by
  have hi : vp_in (nI d) 64 := vp_in_nI hd (by decide)
  have hle := cs_cn_mono (cs_b y) (show v ≤ 64 by omega)
  have F0 : cs_b y v = false → wX_mergeLists_102 post J x1 (nI d) x3 (nI (cs_cn (cs_b y) v)) x5 (nI v) me kd ct fl sl wd mv mg := by
    intro e
    rw [e] at h
    unfold wX_mergeLists_102
    exact h
  simp (disch := omega) only [wX_mergeLists_70, cs_m8, nI_add, nI_clamp, hf]
  refine ⟨hi, pk_le md (cs_cn (cs_b y) v) (fun hl => F0 ?_) (fun hl => ?_)⟩
  · cases hb : cs_b y v with
    | false => rfl
    | true => have := cs_cn_lt hv hb; omega
  · obtain ⟨p, p1, p2, p3, p4⟩ := hs _ hl
    rw [p2]
    refine ⟨vp_in_nI (by omega) (by decide), pk_eq p v (fun e => ?_) (fun e => F0 ?_)⟩
    · subst e
      rw [p3] at h
      exact h
    · cases hb : cs_b y v with
      | false => rfl
      | true => exact absurd (cs_cn_inj p3 hb p4) e
theorem cs_merge36 {post : SX → Prop} {J : Int32 → Int32 → Int32 → (Nat → Int32) → (Nat → Int32) → (Nat → Int32) → (Nat → Int32) → (Nat → Int64) → (Nat → Int64) → (Nat → Int32) → Prop} {me x1 x3 x5 : Int32} {kd ct fl sl : Nat → Int32} {wd mv : Nat → Int64} {mg : Nat → Int32} {d md v : Nat} {y : Int64} (hd : d < 64) (hf : fl d = nI md) (hm : cs_cn (cs_b y) 64 = md) (hm8 : md ≤ 8) (hv : v < 64)
    (hs : ∀ i, i < md → ∃ p, p < 64 ∧ sl (8 * d + i) = nI p ∧ cs_b y p = true ∧ cs_cn (cs_b y) p = i)
    (h : wX_mergeLists_103 post J x1 (nI d) x3 (nI (cs_cn (cs_b y) v)) x5 (nI v) (cs_01 (cs_b y v)) me kd ct fl sl wd mv mg) :
    ∀ n k, cs_cn (cs_b y) v < n + k → k ≤ cs_cn (cs_b y) v → wX_mergeLists_36 post J x1 (nI d) x3 x5 (nI v) me kd ct fl sl wd mv mg n (nI k) := by
  have hi : vp_in (nI d) 64 := vp_in_nI hd (by decide)
  have hle := cs_cn_mono (cs_b y) (show v ≤ 64 by omega)
  have K := cs_merge70 hd hf hm hm8 hv hs h
  intro n
  induction n with
  | zero => intro k h1 h2; omega
  | succ n ih =>
    intro k h1 h2
    simp (disch := omega) only [wX_mergeLists_36, cs_m8, nI_add, nI_1, nI_clamp, hf]
    refine ⟨hi, pk_le md k (fun hl => ?_) (fun hl => ?_)⟩
    · rw [show k = cs_cn (cs_b y) v by omega]
      exact K
    · obtain ⟨p, p1, p2, p3, p4⟩ := hs k hl
      rw [p2]
      refine ⟨vp_in_nI (by omega) (by decide), pk_le v p (fun hvp => ?_) (fun hvp => nm_e (ih (k + 1) ?_ ?_))⟩
      · have := cs_cn_mono (cs_b y) hvp
        rw [show k = cs_cn (cs_b y) v by omega]
        exact K
      · omega
      · have := cs_cn_lt hvp p3
        omega
theorem cs_merge11 {post : SX → Prop} {kd ct fl sl : Nat → Int32} {wd mv : Nat → Int64} {c d m md : Nat} {x y : Int64} {bt : Bool} (hc : c < 64) (hd : d < 64)
    (hfc : fl c = nI m) (hmc : cs_cn (cs_b x) 64 = m) (hmc8 : m ≤ 8) (hsc : ∀ i, i < m → ∃ p, p < 64 ∧ sl (8 * c + i) = nI p ∧ cs_b x p = true ∧ cs_cn (cs_b x) p = i)
    (hfd : fl d = nI md) (hmd : cs_cn (cs_b y) 64 = md) (hmd8 : md ≤ 8) (hsd : ∀ i, i < md → ∃ p, p < 64 ∧ sl (8 * d + i) = nI p ∧ cs_b y p = true ∧ cs_cn (cs_b y) p = i)
    (h : ∀ q mg, q = cs_cn (cs_F (cs_b x) (cs_b y) bt) 64 → (∀ e, e < q → ∃ p, p < 64 ∧ mg e = nI p ∧ cs_F (cs_b x) (cs_b y) bt p = true ∧ cs_cn (cs_F (cs_b x) (cs_b y) bt) p = e) → post (nI q, kd, ct, fl, sl, wd, mv, mg)) :
    ∀ n i P k q mg, m < n + i → i ≤ m → P ≤ 64 → cs_cn (cs_b x) P = i → k ≤ cs_cn (cs_b y) P → q = cs_cn (cs_F (cs_b x) (cs_b y) bt) P → q ≤ i → (∀ e, e < q → ∃ p, p < 64 ∧ mg e = nI p ∧ cs_F (cs_b x) (cs_b y) bt p = true ∧ cs_cn (cs_F (cs_b x) (cs_b y) bt) p = e) → wX_mergeLists_11 post (nI c) (nI d) (cs_01 bt) n (nI k) (nI i) (nI q) kd ct fl sl wd mv mg := by
  have hi : vp_in (nI c) 64 := vp_in_nI hc (by decide)
  have Fof : ∀ j, cs_b x j = false → cs_F (cs_b x) (cs_b y) bt j = false := fun j hj => by
    show (cs_b x j && (cs_b y j == bt)) = false
    rw [hj]; rfl
  intro n
  induction n with
  | zero => intro i P k q mg h1 h2; omega
  | succ n ih =>
    intro i P k q mg h1 h2 hP hPi hkP hq hqi he
    simp (disch := omega) only [wX_mergeLists_11, cs_m8, nI_add, nI_clamp, hfc]
    refine ⟨hi, pk_le m i (fun hl => ?_) (fun hl => ?_)⟩
    · refine h q mg ?_ he
      rw [hq]
      exact (cs_cn_F hP (fun j j1 j2 => Fof j (cs_cn_none (f := cs_b x) (by omega) j j1 j2))).symm
    · obtain ⟨v, p1, p2, p3, p4⟩ := hsc i hl
      rw [p2]
      have hPv : P ≤ v := by
        rcases Nat.lt_or_ge v P with l | l
        · have := cs_cn_lt l p3; omega
        · exact l
      have hFv : cs_cn (cs_F (cs_b x) (cs_b y) bt) v = q := by
        rw [hq]
        exact cs_cn_F hPv (fun j j1 j2 => Fof j (cs_cn_none (f := cs_b x) (by omega) j j1 j2))
      have hkv := cs_cn_mono (cs_b y) hPv
      refine ⟨vp_in_nI (by omega) (by decide), nm_e ⟨cs_cn (cs_b y) v + 1, cs_merge36 hd hfd hmd hmd8 p1 hsd ?_ _ k (by omega) (by omega)⟩⟩
      simp (disch := omega) only [wX_mergeLists_103, nI_1, nI_clamp]
      have c1 : cs_cn (cs_b x) (v + 1) = i + 1 := by rw [cs_cnT p3]; omega
      have c2 := cs_cn_mono (cs_b y) (show v ≤ v + 1 by omega)
      refine br_c (fun e => ?_) (fun e => ?_)
      · have eb := (cs_01_inj _ _).mp e
        have hF : cs_F (cs_b x) (cs_b y) bt v = true := by
          show (cs_b x v && (cs_b y v == bt)) = true
          rw [p3, eb]; cases bt <;> rfl
        refine ⟨vp_in_nI (by omega) (by decide), nm_e (nm_e (nm_e (ih (i + 1) (v + 1) _ (q + 1) _ (by omega) (by omega) (by omega) c1 c2 ?_ (by omega) (fun e' he' => ?_))))⟩
        · rw [cs_cnT hF]; omega
        · by_cases z : e' = q
          · subst z
            exact ⟨v, p1, pk_us, hF, hFv⟩
          · rw [pk_un z]
            exact he e' (by omega)
      · have hF : cs_F (cs_b x) (cs_b y) bt v = false := by
          show (cs_b x v && (cs_b y v == bt)) = false
          have ne : cs_b y v ≠ bt := fun z => e ((cs_01_inj _ _).mpr z)
          rw [p3]
          cases hb : cs_b y v <;> cases bt <;> first | rfl | exact absurd hb ne
        refine nm_e (ih (i + 1) (v + 1) _ q _ (by omega) (by omega) (by omega) c1 c2 ?_ (by omega) he)
        rw [cs_cnF hF]; omega
/-- the list of a container that holds one -/
theorem cs_X0 {W : Nat → Int64} {kd ct fl sl : Nat → Int32} {wd : Nat → Int64} (hX : cs_X W kd ct fl sl wd) {c : Nat} (hc : c < 64) (h0 : kd c = 0) : fl c = nI (cs_cn (cs_b (W c)) 64) ∧ cs_cn (cs_b (W c)) 64 ≤ 8 ∧ ∀ i, i < cs_cn (cs_b (W c)) 64 → ∃ v, v < 64 ∧ sl (8 * c + i) = nI v ∧ cs_b (W c) v = true ∧ cs_cn (cs_b (W c)) v = i := by
  obtain ⟨h1, h2 | h2 | h2⟩ := hX c hc
  · rw [h2.1] at h0; exact absurd h0 (by decide)
  · exact h2.2
  · rw [h2.1] at h0; exact absurd h0 (by decide)
theorem cs_mergeLists {post : SX → Prop} {W : Nat → Int64} {me : Int32} {kd ct fl sl : Nat → Int32} {wd mv : Nat → Int64} {mg : Nat → Int32} (hX : cs_X W kd ct fl sl wd) {c d : Nat} (hc : c < 64) (hd : d < 64) (h0 : kd c = 0) (h1 : kd d = 0) (bt : Bool)
    (h : ∀ q mg, q = cs_cn (cs_F (cs_b (W c)) (cs_b (W d)) bt) 64 → (∀ e, e < q → ∃ p, p < 64 ∧ mg e = nI p ∧ cs_F (cs_b (W c)) (cs_b (W d)) bt p = true ∧ cs_cn (cs_F (cs_b (W c)) (cs_b (W d)) bt) p = e) → post (nI q, kd, ct, fl, sl, wd, mv, mg)) : wpX_mergeLists post (me, kd, ct, fl, sl, wd, mv, mg) (nI c) (nI d) (cs_01 bt) := by
  obtain ⟨a1, a2, a3⟩ := cs_X0 hX hc h0
  obtain ⟨b1, b2, b3⟩ := cs_X0 hX hd h1
  unfold wpX_mergeLists
  dsimp only
  exact ⟨9, cs_merge11 hc hd a1 rfl a2 a3 b1 rfl b2 b3 h 9 0 0 0 0 mg (by omega) (by omega) (by omega) rfl (by omega) rfl (by omega) (fun e he => absurd he (Nat.not_lt_zero e))⟩
theorem cs_storeMerged29 {post : SX → Prop} {kd ct fl sl0 : Nat → Int32} {wd mv : Nat → Int64} {mg : Nat → Int32} {c q : Nat} (hc : c < 64) (hq : q ≤ 8)
    (h : ∀ sl', (∀ j, j < 8 * c ∨ 8 * c + 8 ≤ j → sl' j = sl0 j) → (∀ k, k < q → sl' (8 * c + k) = mg k) → post (nI q, kd, ct, fl, sl', wd, mv, mg)) :
    ∀ n i sl, q < n + i → i ≤ q → (∀ j, j < 8 * c ∨ 8 * c + 8 ≤ j → sl j = sl0 j) → (∀ k, k < i → sl (8 * c + k) = mg k) → wX_storeMerged_29 post (nI c) (nI q) n (nI i) kd ct fl sl wd mv mg := by
  intro n
  induction n with
  | zero => intro i sl h1 h2; omega
  | succ n ih =>
    intro i sl h1 h2 ho hk
    simp (disch := omega) only [wX_storeMerged_29, cs_m8, nI_add, nI_1, nI_clamp]
    refine pk_le q i (fun hl => ?_) (fun hl => ?_)
    · have e : i = q := by omega
      subst e
      exact h sl ho hk
    · refine ⟨vp_in_nI (by omega) (by decide), vp_in_nI (by omega) (by decide), nm_e (nm_e (ih (i + 1) _ (by omega) (by omega) (fun j hj => ?_) (fun k hki => ?_)))⟩
      · rw [pk_un (by omega)]; exact ho j hj
      · by_cases e : k = i
        · subst e; exact pk_us
        · rw [pk_un (by omega)]; exact hk k (by omega)
theorem cs_storeMerged {post : SX → Prop} {W : Nat → Int64} {kd ct fl sl : Nat → Int32} {wd mv : Nat → Int64} {mg : Nat → Int32} (hX : cs_X W kd ct fl sl wd) {c q : Nat} (hc : c < 64) (hq : q ≤ 8) {F : Nat → Bool} {w : Int64} (hF : ∀ j, j < 64 → cs_b w j = F j) (hqF : q = cs_cn F 64)
    (he : ∀ e, e < q → ∃ p, p < 64 ∧ mg e = nI p ∧ F p = true ∧ cs_cn F p = e)
    (h : ∀ kd' ct' fl' sl' wd', cs_X (vp_updL W c w) kd' ct' fl' sl' wd' → post (nI q, kd', ct', fl', sl', wd', mv, mg)) : wpX_storeMerged post (nI q, kd, ct, fl, sl, wd, mv, mg) (nI c) := by
  have hi : vp_in (nI c) 64 := vp_in_nI hc (by decide)
  have ec : (nI c).toNatClampNeg = c := nI_clamp (by omega)
  unfold wpX_storeMerged
  dsimp only
  rw [ec]
  refine ⟨hi, nm_e ⟨hi, nm_e ⟨hi, nm_e ⟨9, ?_⟩⟩⟩⟩
  refine cs_storeMerged29 (sl0 := sl) hc hq (fun sl' ho hk => ?_) 9 0 sl (by omega) (by omega) (fun _ _ => rfl) (fun k hk => absurd hk (Nat.not_lt_zero k))
  refine h _ _ _ _ _ (cs_X_up hX cs_upn cs_upn cs_upn ho cs_sameL ?_)
  have em : cs_cn (cs_b w) 64 = q := (cs_cn_cong hF).trans hqF.symm
  rw [pk_us, pk_us, pk_us]
  refine ⟨by rw [em], Or.inr (Or.inl ⟨rfl, by rw [em], by omega, fun i hi2 => ?_⟩)⟩
  rw [em] at hi2
  obtain ⟨p, p1, p2, p3, p4⟩ := he i hi2
  exact ⟨p, p1, (hk i hi2).trans p2, (hF p p1).trans p3, (cs_cn_cong (fun j hj => hF j (by omega))).trans p4⟩
def cs_op (how : Nat) (x y : Int64) : Int64 := if how = 0 then x ||| y else if how = 1 then x &&& y else if how = 2 then x &&& (y ^^^ (-1)) else x ^^^ y
theorem cs_combined {post : Int64 → Prop} {x y : Int64} {how : Nat} (hh : how ≤ 3) (h : post (cs_op how x y)) : wpX_combined post x y (nI how) := by
  unfold cs_op at h
  refine br_f (nI_pos (by omega)) (pk_lt 2 how (fun h2 => ?_) (fun h2 => pk_eq how 0 (fun e => ?_) (fun e0 => pk_eq how 1 (fun e => ?_) (fun e1 => pk_eq how 2 (fun e => ?_) (fun e2 => by omega)))))
  · rw [if_neg (by omega), if_neg (by omega), if_neg (by omega)] at h; exact h
  · rw [if_pos e] at h; exact h
  · rw [if_neg e0, if_pos e] at h; exact h
  · rw [if_neg e0, if_neg e1, if_pos e] at h; exact h
theorem cs_combinePart {post : SX → Prop} {W : Nat → Int64} {me : Int32} {kd ct fl sl : Nat → Int32} {wd mv : Nat → Int64} {mg : Nat → Int32} (hX : cs_X W kd ct fl sl wd) {t c d how : Nat} (ht : t < 64) (hc : c < 64) (hd : d < 64) (hh : how ≤ 3)
    (h : ∀ me' kd' ct' fl' sl' wd' mg', cs_X (vp_updL W t (cs_op how (W c) (W d))) kd' ct' fl' sl' wd' → post (me', kd', ct', fl', sl', wd', mv, mg')) : wpX_combinePart post (me, kd, ct, fl, sl, wd, mv, mg) (nI t) (nI c) (nI d) (nI how) := by
  have hic : vp_in (nI c) 64 := vp_in_nI hc (by decide)
  have hid : vp_in (nI d) 64 := vp_in_nI hd (by decide)
  have J : wX_combinePart_53 post (nI t) (nI c) (nI d) (nI how) me kd ct fl sl wd mv mg := by
    unfold wX_combinePart_53
    exact cs_wordOf hX hc (cs_wordOf hX hd (cs_combined hh (cs_store hX ht _ (fun kd' ct' fl' sl' wd' hX' => h _ _ _ _ _ _ _ hX'))))
  have L : kd c = 0 → kd d = 0 → ∀ bt : Bool, (∀ j, j < 64 → cs_b (cs_op how (W c) (W d)) j = cs_F (cs_b (W c)) (cs_b (W d)) bt j) → wX_combinePart_44 post (nI t) (cs_01 bt) (nI d) (nI c) me kd ct fl sl wd mv mg := by
    intro h0 h1 bt hF
    unfold wX_combinePart_44
    refine cs_mergeLists hX hc hd h0 h1 bt (fun q mg' hq he => ?_)
    have a2 := (cs_X0 hX hc h0).2.1
    have hq8 : q ≤ 8 := by
      have e := cs_cn_split (cs_b (W c)) (fun j => cs_b (W d) j == bt) 64
      have e2 : q = cs_cn (fun j => cs_b (W c) j && (cs_b (W d) j == bt)) 64 := hq
      omega
    exact cs_storeMerged hX ht hq8 hF hq he (fun kd' ct' fl' sl' wd' hX' => h _ _ _ _ _ _ _ hX')
  unfold wpX_combinePart
  dsimp only
  rw [nI_clamp (show c < 2 ^ 31 by omega), nI_clamp (show d < 2 ^ 31 by omega)]
  refine ⟨hic, br_c (fun h0 => ⟨hid, br_c (fun h1 => pk_eq how 1 (fun e => ?_) (fun e1 => pk_eq how 2 (fun e => ?_) (fun e2 => J))) (fun _ => J)⟩) (fun _ => J)⟩
  · unfold wX_combinePart_30
    refine pk_eq how 1 (fun _ => ?_) (fun z => absurd e z)
    refine L h0 h1 true (fun j hj => ?_)
    subst e
    show cs_b (W c &&& W d) j = (cs_b (W c) j && (cs_b (W d) j == true))
    rw [cs_band]; cases cs_b (W d) j <;> rfl
  · unfold wX_combinePart_30
    refine pk_eq how 1 (fun z => absurd z e1) (fun z => ?_)
    refine L h0 h1 false (fun j hj => ?_)
    subst e
    show cs_b (W c &&& (W d ^^^ (-1))) j = (cs_b (W c) j && (cs_b (W d) j == false))
    rw [cs_band, cs_bnot _ hj]; cases cs_b (W d) j <;> rfl
theorem cs_commonIn {post : Int32 → SX → Prop} {W : Nat → Int64} {me : Int32} {kd ct fl sl : Nat → Int32} {wd mv : Nat → Int64} {mg : Nat → Int32} (hX : cs_X W kd ct fl sl wd) {c d : Nat} (hc : c < 64) (hd : d < 64)
    (h : ∀ me' mg', post (nI (cs_cn (fun j => cs_b (W c) j && cs_b (W d) j) 64)) (me', kd, ct, fl, sl, wd, mv, mg')) : wpX_commonIn post (me, kd, ct, fl, sl, wd, mv, mg) (nI c) (nI d) := by
  have hic : vp_in (nI c) 64 := vp_in_nI hc (by decide)
  have hid : vp_in (nI d) 64 := vp_in_nI hd (by decide)
  have J : wX_commonIn_30 post (nI c) (nI d) me kd ct fl sl wd mv mg := by
    unfold wX_commonIn_30
    refine cs_wordOf hX hc (cs_wordOf hX hd (cs_ones ?_))
    rw [cs_cn_cong (fun i _ => cs_band (W c) (W d) i)]
    exact h _ _
  unfold wpX_commonIn
  dsimp only
  rw [nI_clamp (show c < 2 ^ 31 by omega), nI_clamp (show d < 2 ^ 31 by omega)]
  refine ⟨hic, br_c (fun h0 => ⟨hid, br_c (fun h1 => ?_) (fun _ => J)⟩) (fun _ => J)⟩
  refine cs_mergeLists hX hc hd h0 h1 true (fun q mg' hq he => ?_)
  have e : q = cs_cn (fun j => cs_b (W c) j && cs_b (W d) j) 64 := by
    rw [hq]
    refine cs_cn_cong (fun i _ => ?_)
    show (cs_b (W c) i && (cs_b (W d) i == true)) = _
    cases cs_b (W d) i <;> rfl
  subst e
  exact h _ _
end
section
/-! ===== the reference's marks, the relation ===== -/
def cs_Y (W : Nat → Int64) (mk : Nat → Int32) : Prop := ∀ s x, s < 4 → x < 1024 → mk (1024 * s + x) = cs_01 (cs_h W s x)
/-- there are sixty-four words that the containers hold and the marks show -/
def i_Rel (_ : Nat) (u : SX) (v : SY) : Prop := ∃ W, cs_X W u.2.1 u.2.2.1 u.2.2.2.1 u.2.2.2.2.1 u.2.2.2.2.2.1 ∧ cs_Y W v.1
theorem i_up {k : Nat} {u : SX} {v : SY} (h : i_Rel k u v) : i_Rel (k + 5) u v := h
theorem cs_Rel {k : Nat} {W : Nat → Int64} {me : Int32} {kd ct fl sl : Nat → Int32} {wd mv : Nat → Int64} {mg mk md : Nat → Int32} (hX : cs_X W kd ct fl sl wd) (hY : cs_Y W mk) : i_Rel k (me, kd, ct, fl, sl, wd, mv, mg) (mk, md) := ⟨W, hX, hY⟩
theorem cs_el {k : Nat} {P : SX → SY → Prop} (h : ∀ W me kd ct fl sl wd mv mg mk md, cs_X W kd ct fl sl wd → cs_Y W mk → P (me, kd, ct, fl, sl, wd, mv, mg) (mk, md)) {u : SX} {v : SY} (I : i_Rel k u v) : P u v := by
  obtain ⟨me, kd, ct, fl, sl, wd, mv, mg⟩ := u
  obtain ⟨mk, md⟩ := v
  obtain ⟨W, hX, hY⟩ := I
  exact h W me kd ct fl sl wd mv mg mk md hX hY
theorem cs_cn_zero (n : Nat) : cs_cn (cs_b 0) n = 0 := cs_cn_all0 (fun j _ => cs_b0 j)
theorem i_vc0 : wpX_init (fun u => wpY_init (fun v => i_Rel 0 u v)) := by
  refine nm_e (cs_Rel (k := 0) (W := fun _ => 0) (fun c hc => ⟨?_, Or.inr (Or.inl ⟨?_, ?_, ?_, fun i hi => ?_⟩)⟩) (fun s x _ _ => ?_))
  · rw [cs_cn_zero]; rfl
  · by_cases e : c = 0
    · subst e; exact pk_us
    · exact pk_un e
  · rw [cs_cn_zero]; rfl
  · rw [cs_cn_zero]; omega
  · rw [cs_cn_zero] at hi
    exact absurd hi (Nat.not_lt_zero i)
  · have e : cs_h (fun _ => 0) s x = false := cs_b0 _
    rw [e]; rfl
theorem cs_h_up {W : Nat → Int64} {s p : Nat} {w : Int64} (hp : p < 16) {s' x : Nat} (hx : x < 1024) : cs_h (vp_updL W (16 * s + p) w) s' x = if s' = s ∧ x / 64 = p then cs_b w (x % 64) else cs_h W s' x := by
  unfold cs_h
  by_cases e : s' = s ∧ x / 64 = p
  · rw [if_pos e, e.1, e.2, pk_uLs]
  · rw [if_neg e, pk_uLn (fun z => e (by omega))]
theorem cs_Y_set {W : Nat → Int64} {mk : Nat → Int32} (hY : cs_Y W mk) {s x : Nat} (hx : x < 1024) {w : Int64} {bt : Bool} (hw : ∀ i, i < 64 → cs_b w i = if i = x % 64 then bt else cs_b (W (16 * s + x / 64)) i) : cs_Y (vp_updL W (16 * s + x / 64) w) (upd mk (1024 * s + x) (cs_01 bt)) := by
  intro s' y hs' hy
  rw [cs_h_up (by omega) hy]
  by_cases e : s' = s ∧ y = x
  · obtain ⟨e1, e2⟩ := e
    subst e1; subst e2
    rw [pk_us, if_pos ⟨rfl, rfl⟩, hw _ (by omega), if_pos rfl]
  · rw [pk_un (by omega), hY s' y hs' hy]
    by_cases e2 : s' = s ∧ y / 64 = x / 64
    · rw [if_pos e2, hw _ (by omega), if_neg (by omega), ← e2.2, ← e2.1]
      rfl
    · rw [if_neg e2]
theorem cs_Y_same {W : Nat → Int64} {mk : Nat → Int32} (hY : cs_Y W mk) {s x : Nat} (hs : s < 4) (hx : x < 1024) {bt : Bool} (hb : cs_h W s x = bt) : cs_Y W (upd mk (1024 * s + x) (cs_01 bt)) := by
  intro s' y hs' hy
  by_cases e : 1024 * s' + y = 1024 * s + x
  · have e1 : s' = s := by omega
    have e2 : y = x := by omega
    subst e1; subst e2
    rw [pk_us, hb]
  · rw [pk_un e, hY s' y hs' hy]
/-! ===== refusals ===== -/
theorem cs_ix (x : Int32) (n : Nat) (hn : n < 2 ^ 31) : (x < 0 ∨ nI n ≤ x) ∨ ∃ j, j < n ∧ x = nI j := by
  rcases pk_ix x hn with h | h | h
  · exact Or.inl (Or.inl h)
  · exact Or.inl (Or.inr h)
  · exact Or.inr h
theorem cs_nlt {x y : Int32} (h : y ≤ x) : ¬ x < y := Int32.not_lt.mpr h
theorem cs_bad_t {post : Int32 → Prop} {x : Int32} (h : x < 0 ∨ nI 4 ≤ x) (hp : post 1) : wpX_bad post x := by
  unfold wpX_bad
  exact br_c (fun _ => hp) (fun h0 => br_f (h.elim (fun z => absurd z h0) (fun z => cs_nlt z)) hp)
theorem cs_bad_f {post : Int32 → Prop} {s : Nat} (hs : s < 4) (hp : post 0) : wpX_bad post (nI s) := by
  unfold wpX_bad
  exact br_f (nI_pos (by omega)) (pk_lt s 4 (fun _ => hp) (fun z => by omega))
theorem cs_badN_t {post : Int32 → Prop} {x : Int32} (h : x < 0 ∨ nI 1024 ≤ x) (hp : post 1) : wpX_badNumber post x := by
  unfold wpX_badNumber
  exact br_c (fun _ => hp) (fun h0 => br_f (h.elim (fun z => absurd z h0) (fun z => cs_nlt z)) hp)
theorem cs_badN_f {post : Int32 → Prop} {x : Nat} (hx : x < 1024) (hp : post 0) : wpX_badNumber post (nI x) := by
  unfold wpX_badNumber
  exact br_f (nI_pos (by omega)) (pk_lt x 1024 (fun _ => hp) (fun z => by omega))
theorem cs_isSet_f {post : Int32 → Prop} {mk md : Nat → Int32} {x : Int32} (h : x < 0 ∨ nI 4 ≤ x) (hp : post 0) : wpY_isSet post (mk, md) x := by
  unfold wpY_isSet
  exact br_c (fun _ => hp) (fun h0 => br_t (h.elim (fun z => absurd z h0) (fun z => z)) hp)
theorem cs_isSet_t {post : Int32 → Prop} {mk md : Nat → Int32} {s : Nat} (hs : s < 4) (hp : post 1) : wpY_isSet post (mk, md) (nI s) := by
  unfold wpY_isSet
  exact br_f (nI_pos (by omega)) (pk_le 4 s (fun z => by omega) (fun _ => hp))
theorem cs_isN_f {post : Int32 → Prop} {mk md : Nat → Int32} {x : Int32} (h : x < 0 ∨ nI 1024 ≤ x) (hp : post 0) : wpY_isNumber post (mk, md) x := by
  unfold wpY_isNumber
  exact br_c (fun _ => hp) (fun h0 => br_t (h.elim (fun z => absurd z h0) (fun z => z)) hp)
theorem cs_isN_t {post : Int32 → Prop} {mk md : Nat → Int32} {x : Nat} (hx : x < 1024) (hp : post 1) : wpY_isNumber post (mk, md) (nI x) := by
  unfold wpY_isNumber
  exact br_f (nI_pos (by omega)) (pk_le 1024 x (fun z => by omega) (fun _ => hp))
theorem cs_badEnds {post : Int32 → Prop} {x : Int32} {A B : Nat} (hA : A < 2048) (hB : B < 2048) (eA : x &&& 2047 = nI A) (eB : (x >>> ((11 : Int32) &&& 31)) &&& 2047 = nI B) (h1 : 1024 < A ∨ 1024 < B → post 1) (h0 : A ≤ 1024 → B ≤ 1024 → post 0) : wpX_badEnds post x := by
  unfold wpX_badEnds
  rw [eA, eB]
  exact pk_lt 1024 A (fun z => h1 (Or.inl z)) (fun z => pk_le B 1024 (fun q => h0 z q) (fun q => h1 (Or.inr q)))
theorem cs_areEnds {post : Int32 → Prop} {mk md : Nat → Int32} {x : Int32} {A B : Nat} (hA : A < 2048) (hB : B < 2048) (eA : x &&& 2047 = nI A) (eB : (x >>> ((11 : Int32) &&& 31)) &&& 2047 = nI B) (h0 : 1024 < A ∨ 1024 < B → post 0) (h1 : A ≤ 1024 → B ≤ 1024 → post 1) : wpY_areEnds post (mk, md) x := by
  unfold wpY_areEnds
  dsimp only
  rw [eA, eB]
  exact pk_lt 1024 A (fun z => h0 (Or.inl z)) (fun z => pk_lt 1024 B (fun q => h0 (Or.inr q)) (fun q => h1 z q))
theorem cs_nar (b : Bool) : vp_nar .boolean (cs_01 b) = cs_01 b := by cases b <;> rfl
theorem cs_narrow (b : Bool) : narrow .boolean (.int (cs_01 b)) = .int (cs_01 b) := by cases b <;> rfl
theorem cs_01_0 {b : Bool} : cs_01 b = 0 ↔ b = false := by cases b <;> decide
/-! ===== the reference's private methods ===== -/
theorem cs_put {post : Int32 → SY → Prop} {W : Nat → Int64} {mk md : Nat → Int32} (hY : cs_Y W mk) {s x : Nat} (hs : s < 4) (hx : x < 1024) (bt : Bool) (h : post (cs_01 (cs_h W s x != bt)) (upd mk (1024 * s + x) (cs_01 bt), md)) : wpY_put post (mk, md) (nI s) (nI x) (cs_01 bt) := by
  unfold wpY_put
  refine cs_isSet_t hs (br_f (by decide) (cs_isN_t hx (br_f (by decide) ?_)))
  simp (disch := omega) only [cs_m1024, nI_add, nI_clamp]
  have hi : vp_in (nI (1024 * s + x)) 4096 := vp_in_nI (by omega) (by decide)
  rw [hY s x hs hx, cs_nar]
  refine ⟨hi, nm_e ⟨hi, nm_e (br_c (fun e => ?_) (fun e => ?_))⟩⟩
  · rw [(cs_01_inj _ _).mp e] at h
    cases bt <;> exact h
  · have ne : cs_h W s x ≠ bt := fun z => e ((cs_01_inj _ _).mpr z)
    have e1 : (cs_h W s x != bt) = true := bne_iff_ne.mpr ne
    rw [e1] at h
    exact h
theorem cs_count6 {post : Int32 → Prop} {W : Nat → Int64} {mk md : Nat → Int32} (hY : cs_Y W mk) {s a b : Nat} (hs : s < 4) (hb : b ≤ 1024) (h : post (nI (cs_cn (cs_h W s) b - cs_cn (cs_h W s) a))) :
    ∀ n x, b < n + x → a ≤ x → x ≤ b → wY_count_6 post (nI s) (nI b) mk md n (nI (cs_cn (cs_h W s) x - cs_cn (cs_h W s) a)) (nI x) := by
  intro n
  induction n with
  | zero => intro x h1 h2; omega
  | succ n ih =>
    intro x h1 h2 h3
    simp (disch := omega) only [wY_count_6, cs_m1024, nI_add, nI_1, nI_clamp]
    refine pk_le b x (fun hl => ?_) (fun hl => ?_)
    · rw [show x = b by omega]; exact h
    · have hi : vp_in (nI (1024 * s + x)) 4096 := vp_in_nI (by omega) (by decide)
      have K := ih (x + 1) (by omega) (by omega) (by omega)
      have hm := cs_cn_mono (cs_h W s) h2
      rw [hY s x hs (by omega)]
      refine ⟨hi, br_c (fun e => nm_e ?_) (fun e => ?_)⟩
      · rw [cs_cnF (cs_01_0.mp e)] at K
        exact K
      · have e1 : cs_h W s x = true := by
          cases q : cs_h W s x with
          | true => rfl
          | false => exact absurd (cs_01_0.mpr q) e
        rw [cs_cnT e1, show cs_cn (cs_h W s) x + 1 - cs_cn (cs_h W s) a = cs_cn (cs_h W s) x - cs_cn (cs_h W s) a + 1 by omega] at K
        exact nm_e (nm_e K)
theorem cs_ycount {post : Int32 → Prop} {W : Nat → Int64} {mk md : Nat → Int32} (hY : cs_Y W mk) {s a b : Nat} (hs : s < 4) (ha : a ≤ 1024) (hb : b ≤ 1024) (h : post (nI (cs_cn (cs_h W s) b - cs_cn (cs_h W s) a))) : wpY_count post (mk, md) (nI s) (nI a) (nI b) := by
  unfold wpY_count
  dsimp only
  by_cases hab : a ≤ b
  · refine ⟨1025, ?_⟩
    have K := cs_count6 (md := md) hY hs hb h 1025 a (by omega) (Nat.le_refl a) hab
    rw [Nat.sub_self] at K
    exact K
  · refine ⟨1, ?_⟩
    have hm := cs_cn_mono (cs_h W s) (show b ≤ a by omega)
    rw [show cs_cn (cs_h W s) b - cs_cn (cs_h W s) a = 0 by omega] at h
    unfold wY_count_6
    exact br_t (nI_le (by omega) (by omega)) h
theorem cs_ysize {post : Int32 → Prop} {W : Nat → Int64} {mk md : Nat → Int32} (hY : cs_Y W mk) {s : Nat} (hs : s < 4) (h : post (nI (cs_cn (cs_h W s) 1024))) : wpY_size post (mk, md) (nI s) := by
  unfold wpY_size
  exact cs_isSet_t hs (br_f (by decide) (cs_ycount (a := 0) (b := 1024) hY hs (by omega) (by omega) h))
end
section
/-! ===== add, remove, has, size, rank, countIn ===== -/
theorem i_vc_add {k : Nat} {u : SX} {v : SY} (I : i_Rel k u v) (hk : k + 5 ≤ 2560) (v1 : Int32) (v2 : Int32) : wpX_add (fun r u' => wpY_add (fun r' v' => r' = r ∧ i_Rel (k + 5) u' v') v v1 v2) u v1 v2 := by
  refine cs_el (P := fun u v => wpX_add (fun r u' => wpY_add (fun r' v' => r' = r ∧ i_Rel (k + 5) u' v') v v1 v2) u v1 v2) ?_ I
  clear I
  intro W me kd ct fl sl wd mv mg mk md hX hY
  unfold wpX_add wpY_add
  dsimp only
  rcases cs_ix v1 4 (by omega) with hb | ⟨s, hs, rfl⟩
  · refine cs_bad_t hb (br_f (by decide) ?_)
    unfold wpY_put
    exact cs_isSet_f hb (br_t rfl ⟨rfl, cs_Rel hX hY⟩)
  · rcases cs_ix v2 1024 (by omega) with hb | ⟨x, hx, rfl⟩
    · refine cs_bad_f hs (br_t rfl (cs_badN_t hb (br_f (by decide) ?_)))
      unfold wpY_put
      exact cs_isSet_t hs (br_f (by decide) (cs_isN_f hb (br_t rfl ⟨rfl, cs_Rel hX hY⟩)))
    · refine cs_bad_f hs (br_t rfl (cs_badN_f hx (br_t rfl ?_)))
      rw [cs_m16, cs_sh6 (by omega), nI_add, cs_a63 (by omega)]
      refine nm_e (cs_contains hX (by omega) (by omega) ?_)
      cases hb : cs_b (W (16 * s + x / 64)) (x % 64) with
      | false =>
        refine br_t rfl (cs_insert hX (by omega) (by omega) hb (fun kd' ct' fl' sl' wd' hX' => ?_))
        refine cs_put hY hs hx true ⟨?_, cs_Rel hX' (cs_Y_set hY hx (fun i hi => ?_))⟩
        · have e : cs_h W s x = false := hb
          rw [e]; rfl
        · rw [cs_bset (by omega)]
          by_cases e : i = x % 64
          · rw [if_pos e, decide_eq_true e, Bool.or_true]
          · rw [if_neg e, decide_eq_false e, Bool.or_false]
      | true =>
        have e : cs_h W s x = true := hb
        refine br_f (by decide) (cs_put hY hs hx true ⟨?_, cs_Rel hX (cs_Y_same hY hs hx e)⟩)
        rw [e]; rfl
theorem i_vc_remove {k : Nat} {u : SX} {v : SY} (I : i_Rel k u v) (hk : k + 5 ≤ 2560) (v1 : Int32) (v2 : Int32) : wpX_remove (fun r u' => wpY_remove (fun r' v' => r' = r ∧ i_Rel (k + 5) u' v') v v1 v2) u v1 v2 := by
  refine cs_el (P := fun u v => wpX_remove (fun r u' => wpY_remove (fun r' v' => r' = r ∧ i_Rel (k + 5) u' v') v v1 v2) u v1 v2) ?_ I
  clear I
  intro W me kd ct fl sl wd mv mg mk md hX hY
  unfold wpX_remove wpY_remove
  dsimp only
  rcases cs_ix v1 4 (by omega) with hb | ⟨s, hs, rfl⟩
  · refine cs_bad_t hb (br_f (by decide) ?_)
    unfold wpY_put
    exact cs_isSet_f hb (br_t rfl ⟨rfl, cs_Rel hX hY⟩)
  · rcases cs_ix v2 1024 (by omega) with hb | ⟨x, hx, rfl⟩
    · refine cs_bad_f hs (br_t rfl (cs_badN_t hb (br_f (by decide) ?_)))
      unfold wpY_put
      exact cs_isSet_t hs (br_f (by decide) (cs_isN_f hb (br_t rfl ⟨rfl, cs_Rel hX hY⟩)))
    · refine cs_bad_f hs (br_t rfl (cs_badN_f hx (br_t rfl ?_)))
      rw [cs_m16, cs_sh6 (by omega), nI_add, cs_a63 (by omega)]
      refine nm_e (cs_contains hX (by omega) (by omega) ?_)
      cases hb : cs_b (W (16 * s + x / 64)) (x % 64) with
      | false =>
        have e : cs_h W s x = false := hb
        refine br_t rfl (cs_put hY hs hx false ⟨?_, cs_Rel hX (cs_Y_same hY hs hx e)⟩)
        rw [e]; rfl
      | true =>
        refine br_f (by decide) (cs_erase hX (by omega) (by omega) hb (fun kd' ct' fl' sl' wd' hX' => ?_))
        refine cs_put hY hs hx false ⟨?_, cs_Rel hX' (cs_Y_set hY hx (fun i hi => ?_))⟩
        · have e : cs_h W s x = true := hb
          rw [e]; rfl
        · rw [cs_bclr (by omega)]
          by_cases e : i = x % 64
          · rw [if_pos e, decide_eq_true e, Bool.not_true, Bool.and_false]
          · rw [if_neg e, decide_eq_false e, Bool.not_false, Bool.and_true]
/-- the reference's has -/
theorem cs_yhas {post : Int32 → Prop} {W : Nat → Int64} {mk md : Nat → Int32} (hY : cs_Y W mk) {s x : Nat} (hs : s < 4) (hx : x < 1024) (h : post (cs_01 (cs_h W s x))) : wpY_has post (mk, md) (nI s) (nI x) := by
  unfold wpY_has
  refine cs_isSet_t hs (br_f (by decide) (cs_isN_t hx (br_f (by decide) ?_)))
  simp (disch := omega) only [cs_m1024, nI_add, nI_clamp]
  rw [hY s x hs hx]
  refine ⟨vp_in_nI (by omega) (by decide), ?_⟩
  cases hb : cs_h W s x with
  | false => rw [hb] at h; exact br_t rfl h
  | true => rw [hb] at h; exact br_f (by decide) h
theorem i_vc_has {k : Nat} {u : SX} {v : SY} (I : i_Rel k u v) (hk : k + 5 ≤ 2560) (v1 : Int32) (v2 : Int32) : wpX_has (fun r => wpY_has (fun r' => r' = r ∧ i_Rel (k + 5) u v) v v1 v2) u v1 v2 := by
  refine cs_el (P := fun u v => wpX_has (fun r => wpY_has (fun r' => r' = r ∧ i_Rel (k + 5) u v) v v1 v2) u v1 v2) ?_ I
  clear I
  intro W me kd ct fl sl wd mv mg mk md hX hY
  unfold wpX_has
  dsimp only
  rcases cs_ix v1 4 (by omega) with hb | ⟨s, hs, rfl⟩
  · refine cs_bad_t hb (br_f (by decide) ?_)
    unfold wpY_has
    exact cs_isSet_f hb (br_t rfl ⟨rfl, cs_Rel hX hY⟩)
  · rcases cs_ix v2 1024 (by omega) with hb | ⟨x, hx, rfl⟩
    · refine cs_bad_f hs (br_t rfl (cs_badN_t hb (br_f (by decide) ?_)))
      unfold wpY_has
      exact cs_isSet_t hs (br_f (by decide) (cs_isN_f hb (br_t rfl ⟨rfl, cs_Rel hX hY⟩)))
    · refine cs_bad_f hs (br_t rfl (cs_badN_f hx (br_t rfl ?_)))
      rw [cs_m16, cs_sh6 (by omega), nI_add, cs_a63 (by omega)]
      exact cs_contains hX (by omega) (by omega) ⟨cs_narrow _, cs_yhas hY hs hx ⟨rfl, cs_Rel hX hY⟩⟩
theorem i_vc_size {k : Nat} {u : SX} {v : SY} (I : i_Rel k u v) (hk : k + 5 ≤ 2560) (v1 : Int32) : wpX_size (fun r => wpY_size (fun r' => r' = r ∧ i_Rel (k + 5) u v) v v1) u v1 := by
  refine cs_el (P := fun u v => wpX_size (fun r => wpY_size (fun r' => r' = r ∧ i_Rel (k + 5) u v) v v1) u v1) ?_ I
  clear I
  intro W me kd ct fl sl wd mv mg mk md hX hY
  unfold wpX_size
  dsimp only
  rcases cs_ix v1 4 (by omega) with hb | ⟨s, hs, rfl⟩
  · refine cs_bad_t hb (br_f (by decide) ?_)
    unfold wpY_size
    exact cs_isSet_f hb (br_t rfl ⟨rfl, cs_Rel hX hY⟩)
  · exact cs_bad_f hs (br_t rfl (cs_total hX hs (cs_ysize hY hs ⟨rfl, cs_Rel hX hY⟩)))
theorem i_vc_rank {k : Nat} {u : SX} {v : SY} (I : i_Rel k u v) (hk : k + 5 ≤ 2560) (v1 : Int32) (v2 : Int32) : wpX_rank (fun r => wpY_rank (fun r' => r' = r ∧ i_Rel (k + 5) u v) v v1 v2) u v1 v2 := by
  refine cs_el (P := fun u v => wpX_rank (fun r => wpY_rank (fun r' => r' = r ∧ i_Rel (k + 5) u v) v v1 v2) u v1 v2) ?_ I
  clear I
  intro W me kd ct fl sl wd mv mg mk md hX hY
  unfold wpX_rank wpY_rank
  dsimp only
  rcases cs_ix v1 4 (by omega) with hb | ⟨s, hs, rfl⟩
  · exact cs_bad_t hb (br_f (by decide) (cs_isSet_f hb (br_t rfl ⟨rfl, cs_Rel hX hY⟩)))
  · refine cs_bad_f hs (br_t rfl (br_c (fun h0 => cs_isSet_t hs (br_f (by decide) (br_t h0 ⟨rfl, cs_Rel hX hY⟩))) (fun h0 => ?_)))
    obtain ⟨x, hx, rfl⟩ := nI_of h0
    refine pk_le x 1024 (fun hl => ?_) (fun hl => ?_)
    · refine cs_rankOf hX hs hl (cs_isSet_t hs (br_f (by decide) (br_f h0 (br_t (nI_le (b := 1024) hl (by decide)) ?_))))
      exact cs_ycount (a := 0) hY hs (by omega) hl ⟨rfl, cs_Rel hX hY⟩
    · exact cs_isSet_t hs (br_f (by decide) (br_f h0 (br_f (nI_ge (a := 1024) hl hx) ⟨rfl, cs_Rel hX hY⟩)))
theorem i_vc_countIn {k : Nat} {u : SX} {v : SY} (I : i_Rel k u v) (hk : k + 5 ≤ 2560) (v1 : Int32) (v2 : Int32) : wpX_countIn (fun r => wpY_countIn (fun r' => r' = r ∧ i_Rel (k + 5) u v) v v1 v2) u v1 v2 := by
  refine cs_el (P := fun u v => wpX_countIn (fun r => wpY_countIn (fun r' => r' = r ∧ i_Rel (k + 5) u v) v v1 v2) u v1 v2) ?_ I
  clear I
  intro W me kd ct fl sl wd mv mg mk md hX hY
  unfold wpX_countIn wpY_countIn
  dsimp only
  rcases cs_ix v1 4 (by omega) with hb | ⟨s, hs, rfl⟩
  · exact cs_bad_t hb (br_f (by decide) (cs_isSet_f hb (br_t rfl ⟨rfl, cs_Rel hX hY⟩)))
  · obtain ⟨A, hA, eA⟩ := pk_andE v2 (m := 2047) 11 (by decide)
    obtain ⟨B, hB, eB⟩ := pk_andE (v2 >>> ((11 : Int32) &&& 31)) (m := 2047) 11 (by decide)
    refine cs_bad_f hs (br_t rfl (cs_badEnds hA hB eA eB (fun hbad => br_f (by decide) ?_) (fun hA4 hB4 => br_t rfl ?_)))
    · exact cs_isSet_t hs (br_f (by decide) (cs_areEnds hA hB eA eB (fun _ => br_t rfl ⟨rfl, cs_Rel hX hY⟩) (fun _ _ => by omega)))
    · have hY' : ∀ r : Int32, r = nI (cs_cn (cs_h W s) B - cs_cn (cs_h W s) A) → wpY_isSet (fun r_1 => (r_1 = 0 → -1 = r ∧ i_Rel (k + 5) (me, kd, ct, fl, sl, wd, mv, mg) (mk, md)) ∧ (¬r_1 = 0 → wpY_areEnds (fun r_5 => (r_5 = 0 → -2 = r ∧ i_Rel (k + 5) (me, kd, ct, fl, sl, wd, mv, mg) (mk, md)) ∧ (¬r_5 = 0 → wpY_count (fun r_9 => r_9 = r ∧ i_Rel (k + 5) (me, kd, ct, fl, sl, wd, mv, mg) (mk, md)) (mk, md) (nI s) (v2 &&& 2047) (v2 >>> ((11 : Int32) &&& 31) &&& 2047))) (mk, md) v2)) (mk, md) (nI s) := by
        intro r er
        refine cs_isSet_t hs (br_f (by decide) (cs_areEnds hA hB eA eB (fun hbad => by omega) (fun _ _ => br_f (by decide) ?_)))
        rw [eA, eB]
        exact cs_ycount hY hs hA4 hB4 ⟨er.symm, cs_Rel hX hY⟩
      refine nm_r eA (nm_r eB (pk_lt A B (fun hl => ?_) (fun hl => ?_)))
      · refine cs_rankOf hX hs hA4 (cs_rankOf hX hs hB4 (hY' _ (pk_sub (cs_cn_mono _ (by omega)))))
      · have hm := cs_cn_mono (cs_h W s) hl
        exact hY' 0 (by rw [show cs_cn (cs_h W s) B - cs_cn (cs_h W s) A = 0 by omega]; rfl)
end
section
/-! ===== select, next ===== -/
theorem cs_htrue {W : Nat → Int64} {s x : Nat} (e : ¬ cs_01 (cs_h W s x) = 0) : cs_h W s x = true := by
  cases q : cs_h W s x with
  | true => rfl
  | false => exact absurd (cs_01_0.mpr q) e
theorem cs_yselect15 {post : Int32 → Prop} {W : Nat → Int64} {mk md : Nat → Int32} (hY : cs_Y W mk) {s k : Nat} (hs : s < 4) (hk : k < 2 ^ 31)
    (hp : ∀ v, v < 1024 → cs_h W s v = true → cs_cn (cs_h W s) v = k → post (nI v)) (hn : cs_cn (cs_h W s) 1024 ≤ k → post (-3)) :
    ∀ n x, 1024 < n + x → x ≤ 1024 → cs_cn (cs_h W s) x ≤ k → wY_select_15 post (nI s) (nI k) mk md n (nI (k - cs_cn (cs_h W s) x)) (nI x) := by
  intro n
  induction n with
  | zero => intro x h1 h2; omega
  | succ n ih =>
    intro x h1 h2 hx
    simp (disch := omega) only [wY_select_15, cs_m1024, nI_add, nI_1, nI_clamp]
    refine pk_le 1024 x (fun hl => ?_) (fun hl => br_f (nI_pos hk) ?_)
    · rw [show x = 1024 by omega] at hx
      exact hn hx
    · rw [hY s x hs hl]
      refine ⟨vp_in_nI (by omega) (by decide), br_c (fun e => nm_e ?_) (fun e => ?_)⟩
      · have e1 := cs_cnF (cs_01_0.mp e)
        have K := ih (x + 1) (by omega) (by omega) (by omega)
        rw [e1] at K
        exact K
      · have e1 := cs_cnT (cs_htrue e)
        refine pk_eq (k - cs_cn (cs_h W s) x) 0 (fun z => hp x hl (cs_htrue e) (by omega)) (fun z => ?_)
        obtain ⟨q, hq⟩ : ∃ q, k - cs_cn (cs_h W s) x = q + 1 := ⟨k - cs_cn (cs_h W s) x - 1, by omega⟩
        have K := ih (x + 1) (by omega) (by omega) (by omega)
        rw [show k - cs_cn (cs_h W s) (x + 1) = q by omega] at K
        rw [hq, pk_m1]
        exact nm_e (nm_e K)
theorem cs_xselect {post : Int32 → Prop} {W : Nat → Int64} {me : Int32} {kd ct fl sl : Nat → Int32} {wd mv : Nat → Int64} {mg : Nat → Int32} (hX : cs_X W kd ct fl sl wd) {s k : Nat} (hs : s < 4) (hk : k < 2 ^ 31)
    (hp : ∀ v, v < 1024 → cs_h W s v = true → cs_cn (cs_h W s) v = k → post (nI v)) (hn : cs_cn (cs_h W s) 1024 ≤ k → post (-3)) : wpX_select post (me, kd, ct, fl, sl, wd, mv, mg) (nI s) (nI k) := by
  unfold wpX_select
  dsimp only
  refine cs_bad_f hs (br_t rfl (br_t (nI_pos' hk) ⟨17, ?_⟩))
  exact cs_select21 hX hs hk hp hn 17 0 (by omega) (by omega) (Nat.zero_le k)
theorem i_vc_select {k : Nat} {u : SX} {v : SY} (I : i_Rel k u v) (hk : k + 5 ≤ 2560) (v1 : Int32) (v2 : Int32) : wpX_select (fun r => wpY_select (fun r' => r' = r ∧ i_Rel (k + 5) u v) v v1 v2) u v1 v2 := by
  refine cs_el (P := fun u v => wpX_select (fun r => wpY_select (fun r' => r' = r ∧ i_Rel (k + 5) u v) v v1 v2) u v1 v2) ?_ I
  clear I
  intro W me kd ct fl sl wd mv mg mk md hX hY
  rcases cs_ix v1 4 (by omega) with hb | ⟨s, hs, rfl⟩
  · unfold wpX_select wpY_select
    exact cs_bad_t hb (br_f (by decide) (cs_isSet_f hb (br_t rfl ⟨rfl, cs_Rel hX hY⟩)))
  · by_cases h0 : v2 < 0
    · unfold wpX_select wpY_select
      refine cs_bad_f hs (br_t rfl (br_f (Int32.not_le.mpr h0) (cs_isSet_t hs (br_f (by decide) ⟨1, ?_⟩))))
      unfold wY_select_15
      exact br_f (by decide) (br_t h0 ⟨rfl, cs_Rel hX hY⟩)
    · obtain ⟨j, hj, rfl⟩ := nI_of h0
      have Yc : ∀ r : Int32, (∀ v, v < 1024 → cs_h W s v = true → cs_cn (cs_h W s) v = j → nI v = r) → (cs_cn (cs_h W s) 1024 ≤ j → -3 = r) → wpY_select (fun r' => r' = r ∧ i_Rel (k + 5) (me, kd, ct, fl, sl, wd, mv, mg) (mk, md)) (mk, md) (nI s) (nI j) := by
        intro r hp hn
        unfold wpY_select
        refine cs_isSet_t hs (br_f (by decide) ⟨1025, ?_⟩)
        exact cs_yselect15 hY hs hj (fun v a b c => ⟨hp v a b c, cs_Rel hX hY⟩) (fun z => ⟨hn z, cs_Rel hX hY⟩) 1025 0 (by omega) (by omega) (Nat.zero_le j)
      refine cs_xselect hX hs hj (fun v a b c => Yc _ (fun v' a' b' c' => ?_) (fun z => ?_)) (fun z => Yc _ (fun v' a' b' c' => ?_) (fun _ => rfl))
      · rw [cs_cn_inj b' b (c'.trans c.symm)]
      · have := cs_cn_lt a b; omega
      · have := cs_cn_lt a' b'; omega
theorem cs_ynext23 {post : Int32 → Prop} {W : Nat → Int64} {mk md : Nat → Int32} (hY : cs_Y W mk) {s k : Nat} (hs : s < 4)
    (hp : ∀ v, v < 1024 → cs_h W s v = true → cs_cn (cs_h W s) v = k → post (nI v)) (hn : cs_cn (cs_h W s) 1024 ≤ k → post (-3)) :
    ∀ n x, 1024 < n + x → x ≤ 1024 → cs_cn (cs_h W s) x = k → wY_next_23 post (nI s) mk md n (nI x) := by
  intro n
  induction n with
  | zero => intro x h1 h2; omega
  | succ n ih =>
    intro x h1 h2 hx
    simp (disch := omega) only [wY_next_23, cs_m1024, nI_add, nI_1, nI_clamp]
    refine pk_le 1024 x (fun hl => ?_) (fun hl => ?_)
    · rw [show x = 1024 by omega] at hx
      exact hn (by omega)
    · rw [hY s x hs hl]
      refine ⟨vp_in_nI (by omega) (by decide), br_c (fun e => nm_e (ih (x + 1) (by omega) (by omega) ?_)) (fun e => hp x hl (cs_htrue e) hx)⟩
      rw [cs_cnF (cs_01_0.mp e)]
      exact hx
theorem i_vc_next {k : Nat} {u : SX} {v : SY} (I : i_Rel k u v) (hk : k + 5 ≤ 2560) (v1 : Int32) (v2 : Int32) : wpX_next (fun r => wpY_next (fun r' => r' = r ∧ i_Rel (k + 5) u v) v v1 v2) u v1 v2 := by
  refine cs_el (P := fun u v => wpX_next (fun r => wpY_next (fun r' => r' = r ∧ i_Rel (k + 5) u v) v v1 v2) u v1 v2) ?_ I
  clear I
  intro W me kd ct fl sl wd mv mg mk md hX hY
  unfold wpX_next
  rcases cs_ix v1 4 (by omega) with hb | ⟨s, hs, rfl⟩
  · unfold wpY_next
    exact cs_bad_t hb (br_f (by decide) (cs_isSet_f hb (br_t rfl ⟨rfl, cs_Rel hX hY⟩)))
  · rcases cs_ix v2 1024 (by omega) with hb | ⟨x, hx, rfl⟩
    · unfold wpY_next
      exact cs_bad_f hs (br_t rfl (cs_badN_t hb (br_f (by decide) (cs_isSet_t hs (br_f (by decide) (cs_isN_f hb (br_t rfl ⟨rfl, cs_Rel hX hY⟩)))))))
    · have Yc : ∀ r : Int32, (∀ v, v < 1024 → cs_h W s v = true → cs_cn (cs_h W s) v = cs_cn (cs_h W s) x → nI v = r) → (cs_cn (cs_h W s) 1024 ≤ cs_cn (cs_h W s) x → -3 = r) → wpY_next (fun r' => r' = r ∧ i_Rel (k + 5) (me, kd, ct, fl, sl, wd, mv, mg) (mk, md)) (mk, md) (nI s) (nI x) := by
        intro r hp hn
        unfold wpY_next
        refine cs_isSet_t hs (br_f (by decide) (cs_isN_t hx (br_f (by decide) ⟨1025, ?_⟩)))
        exact cs_ynext23 hY hs (fun v a b c => ⟨hp v a b c, cs_Rel hX hY⟩) (fun z => ⟨hn z, cs_Rel hX hY⟩) 1025 x (by omega) (by omega) rfl
      have hle := cs_cn_le (cs_h W s) x
      refine cs_bad_f hs (br_t rfl (cs_badN_f hx (br_t rfl (cs_rankOf hX hs (by omega) (cs_xselect hX hs (by omega) (fun v a b c => Yc _ (fun v' a' b' c' => ?_) (fun z => ?_)) (fun z => Yc _ (fun v' a' b' c' => ?_) (fun _ => rfl)))))))
      · rw [cs_cn_inj b' b (c'.trans c.symm)]
      · have := cs_cn_lt a b; omega
      · have := cs_cn_lt a' b'; omega
/-! ===== ranges ===== -/
theorem cs_neg (x : Int64) : 0 ≤ x ↔ cs_b x 63 = false := by
  have h1 : cs_b x 63 = x.toBitVec.msb := (BitVec.msb_eq_getLsbD_last x.toBitVec).symm
  have h2 : x.toBitVec.msb = decide (x.toInt < 0) := BitVec.msb_eq_toInt
  rw [h1, h2, Int64.le_iff_toInt_le, show (0 : Int64).toInt = 0 from by decide]
  constructor
  · intro h; exact decide_eq_false (by omega)
  · intro h; have := of_decide_eq_false h; omega
theorem cs_st_h (W : Nat → Int64) (s p : Nat) : cs_cn (cs_st (cs_h W s)) (64 * p + 64) + (if (cs_b (W (16 * s + p)) 0 && (decide (0 < p) && cs_h W s (64 * p - 1))) = true then 1 else 0) = cs_cn (cs_st (cs_h W s)) (64 * p) + cs_cn (cs_st (cs_b (W (16 * s + p)))) 64 := by
  have e1 := cs_cn_add (cs_st (cs_h W s)) (64 * p) 64
  have e2 := cs_cn_add (fun i => cs_st (cs_h W s) (64 * p + i)) 1 63
  have e3 := cs_cn_add (cs_st (cs_b (W (16 * s + p)))) 1 63
  have e4 : cs_cn (fun i => cs_st (cs_h W s) (64 * p + (1 + i))) 63 = cs_cn (fun i => cs_st (cs_b (W (16 * s + p))) (1 + i)) 63 := by
    refine cs_cn_cong (fun i hi => ?_)
    show (cs_h W s (64 * p + (1 + i)) && !(decide (0 < 64 * p + (1 + i)) && cs_h W s (64 * p + (1 + i) - 1))) = (cs_b (W (16 * s + p)) (1 + i) && !(decide (0 < 1 + i) && cs_b (W (16 * s + p)) (1 + i - 1)))
    rw [cs_h_at W s p (show 1 + i < 64 by omega), show 64 * p + (1 + i) - 1 = 64 * p + i by omega, cs_h_at W s p (show i < 64 by omega), decide_eq_true (show 0 < 64 * p + (1 + i) by omega), decide_eq_true (show 0 < 1 + i by omega), show 1 + i - 1 = i by omega]
  have e5 : cs_cn (cs_st (cs_b (W (16 * s + p)))) 1 = if cs_b (W (16 * s + p)) 0 = true then 1 else 0 := by
    show 0 + (if (cs_b (W (16 * s + p)) 0 && !(decide (0 < 0) && cs_b (W (16 * s + p)) (0 - 1))) = true then 1 else 0) = _
    cases cs_b (W (16 * s + p)) 0 <;> rfl
  have e6 : cs_cn (fun i => cs_st (cs_h W s) (64 * p + i)) 1 = if (cs_b (W (16 * s + p)) 0 && !(decide (0 < p) && cs_h W s (64 * p - 1))) = true then 1 else 0 := by
    show 0 + (if (cs_h W s (64 * p + 0) && !(decide (0 < 64 * p + 0) && cs_h W s (64 * p + 0 - 1))) = true then 1 else 0) = _
    rw [cs_h_at W s p (show 0 < 64 by omega), Nat.zero_add, Nat.add_zero, show decide (0 < 64 * p) = decide (0 < p) from decide_eq_decide.mpr ⟨fun z => by omega, fun z => by omega⟩]
  rw [e1, e2, e3, e4, e5, e6]
  cases cs_b (W (16 * s + p)) 0 <;> cases (decide (0 < p) && cs_h W s (64 * p - 1)) <;> simp <;> omega
theorem cs_ranges16 {post : Int32 → Prop} {W : Nat → Int64} {me : Int32} {kd ct fl sl : Nat → Int32} {wd mv : Nat → Int64} {mg : Nat → Int32} (hX : cs_X W kd ct fl sl wd) {s : Nat} (hs : s < 4) (h : post (nI (cs_cn (cs_st (cs_h W s)) 1024))) :
    ∀ n p y, 16 < n + p → p ≤ 16 → cs_b y 63 = (decide (0 < p) && cs_h W s (64 * p - 1)) → wX_ranges_16 post (nI s) me kd ct fl sl wd mv mg n (nI (cs_cn (cs_st (cs_h W s)) (64 * p))) y (nI p) := by
  intro n
  induction n with
  | zero => intro p y h1 h2; omega
  | succ n ih =>
    intro p y h1 h2 hy
    simp (disch := omega) only [wX_ranges_16, cs_m16, nI_add, nI_1]
    refine pk_le 16 p (fun hl => ?_) (fun hl => cs_wordOf hX (by omega) (cs_runsIn ?_))
    · rw [show p = 16 by omega]; exact h
    · have K := ih (p + 1) (W (16 * s + p)) (by omega) (by omega) (by
        rw [decide_eq_true (show 0 < p + 1 by omega), show 64 * (p + 1) - 1 = 64 * p + 63 by omega, cs_h_at W s p (show 63 < 64 by omega), Bool.true_and])
      have E := cs_st_h W s p
      rw [show 64 * (p + 1) = 64 * p + 64 by omega] at K
      rw [← hy] at E
      rw [nI_add, ← E]
      refine nm_e (br_c (fun z => ?_) (fun z => nm_e ?_))
      · have z0 := (cs_and1 _).mp z
        rw [z0, Bool.true_and]
        refine br_c (fun q => nm_e ?_) (fun q => ?_)
        · rw [(cs_neg y).mp q]
          exact K
        · have q1 : cs_b y 63 = true := by
            cases q2 : cs_b y 63 with
            | true => rfl
            | false => exact absurd ((cs_neg y).mpr q2) q
          rw [q1, if_pos rfl, pk_m1]
          exact nm_e (nm_e K)
      · have z0 : cs_b (W (16 * s + p)) 0 = false := by
          cases z2 : cs_b (W (16 * s + p)) 0 with
          | false => rfl
          | true => exact absurd ((cs_and1 _).mpr z2) z
        rw [z0]
        exact K
theorem cs_yranges14 {post : Int32 → Prop} {W : Nat → Int64} {mk md : Nat → Int32} (hY : cs_Y W mk) {s : Nat} (hs : s < 4) (h : post (nI (cs_cn (cs_st (cs_h W s)) 1024))) :
    ∀ n x, 1024 < n + x → x ≤ 1024 → wY_ranges_14 post (nI s) mk md n (nI (cs_cn (cs_st (cs_h W s)) x)) (nI x) := by
  intro n
  induction n with
  | zero => intro x h1 h2; omega
  | succ n ih =>
    intro x h1 h2
    simp (disch := omega) only [wY_ranges_14, nI_1]
    refine pk_le 1024 x (fun hl => ?_) (fun hl => cs_yhas hY hs hl ?_)
    · rw [show x = 1024 by omega]; exact h
    · have K := ih (x + 1) (by omega) (by omega)
      refine br_c (fun e => nm_e ?_) (fun e => ?_)
      · rw [cs_cnF (cs_st_f1 (cs_01_0.mp e))] at K
        exact K
      · have e1 := cs_htrue e
        rcases Nat.eq_zero_or_pos x with z | z
        · subst z
          unfold wpY_has
          have hneg : (nI 0 - 1 : Int32) < 0 := by decide
          refine cs_isSet_t hs (br_f (by decide) (cs_isN_f (Or.inl hneg) (br_t rfl (br_t rfl (nm_e (nm_e ?_))))))
          rw [cs_cnT (cs_st_t e1 (fun z => absurd z (Nat.lt_irrefl 0)))] at K
          exact K
        · rw [cs_s1 z]
          refine cs_yhas hY hs (by omega) ?_
          cases e2 : cs_h W s (x - 1) with
          | false =>
            rw [cs_cnT (cs_st_t e1 (fun _ => e2))] at K
            exact br_t rfl (nm_e (nm_e K))
          | true =>
            rw [cs_cnF (cs_st_f2 z e2)] at K
            exact br_f (by decide) (nm_e K)
theorem i_vc_ranges {k : Nat} {u : SX} {v : SY} (I : i_Rel k u v) (hk : k + 5 ≤ 2560) (v1 : Int32) : wpX_ranges (fun r => wpY_ranges (fun r' => r' = r ∧ i_Rel (k + 5) u v) v v1) u v1 := by
  refine cs_el (P := fun u v => wpX_ranges (fun r => wpY_ranges (fun r' => r' = r ∧ i_Rel (k + 5) u v) v v1) u v1) ?_ I
  clear I
  intro W me kd ct fl sl wd mv mg mk md hX hY
  unfold wpX_ranges wpY_ranges
  rcases cs_ix v1 4 (by omega) with hb | ⟨s, hs, rfl⟩
  · exact cs_bad_t hb (br_f (by decide) (cs_isSet_f hb (br_t rfl ⟨rfl, cs_Rel hX hY⟩)))
  · refine cs_bad_f hs (br_t rfl ⟨17, ?_⟩)
    refine cs_ranges16 hX hs ?_ 17 0 0 (by omega) (by omega) (by rw [cs_b0]; rfl)
    refine cs_isSet_t hs (br_f (by decide) ⟨1025, ?_⟩)
    exact cs_yranges14 hY hs ⟨rfl, cs_Rel hX hY⟩ 1025 0 (by omega) (by omega)
end
section
/-! ===== common, within ===== -/
def cs_hh (W : Nat → Int64) (s t : Nat) : Nat → Bool := fun x => cs_h W s x && cs_h W t x
theorem cs_cn_hh (W : Nat → Int64) (s t p : Nat) : cs_cn (cs_hh W s t) (64 * p + 64) = cs_cn (cs_hh W s t) (64 * p) + cs_cn (fun j => cs_b (W (16 * s + p)) j && cs_b (W (16 * t + p)) j) 64 := by
  rw [cs_cn_add]
  congr 1
  refine cs_cn_cong (fun i hi => ?_)
  show (cs_h W s (64 * p + i) && cs_h W t (64 * p + i)) = _
  rw [cs_h_at W s p hi, cs_h_at W t p hi]
theorem cs_cn_hle (W : Nat → Int64) (s t n : Nat) : cs_cn (cs_hh W s t) n ≤ cs_cn (cs_h W s) n := by
  have h := cs_cn_split (cs_h W s) (cs_h W t) n
  have e : cs_cn (cs_hh W s t) n = cs_cn (fun i => cs_h W s i && cs_h W t i) n := rfl
  omega
theorem cs_common21 {post : Int32 → SX → Prop} {W : Nat → Int64} {kd ct fl sl : Nat → Int32} {wd mv : Nat → Int64} (hX : cs_X W kd ct fl sl wd) {s t : Nat} (hs : s < 4) (ht : t < 4) (h : ∀ me mg, post (nI (cs_cn (cs_hh W s t) 1024)) (me, kd, ct, fl, sl, wd, mv, mg)) :
    ∀ n p me mg, 16 < n + p → p ≤ 16 → wX_common_21 post (nI s) (nI t) n (nI (cs_cn (cs_hh W s t) (64 * p))) (nI p) me kd ct fl sl wd mv mg := by
  intro n
  induction n with
  | zero => intro p me mg h1 h2; omega
  | succ n ih =>
    intro p me mg h1 h2
    simp (disch := omega) only [wX_common_21, cs_m16, nI_add, nI_1]
    refine pk_le 16 p (fun hl => ?_) (fun hl => cs_commonIn hX (by omega) (by omega) (fun me' mg' => ?_))
    · rw [show p = 16 by omega]; exact h me mg
    · have K := ih (p + 1) me' mg' (by omega) (by omega)
      rw [show 64 * (p + 1) = 64 * p + 64 by omega, cs_cn_hh] at K
      rw [nI_add]
      exact nm_e (nm_e K)
theorem cs_ycommon23 {post : Int32 → Prop} {W : Nat → Int64} {mk md : Nat → Int32} (hY : cs_Y W mk) {s t : Nat} (hs : s < 4) (ht : t < 4) (h : post (nI (cs_cn (cs_hh W s t) 1024))) :
    ∀ n x, 1024 < n + x → x ≤ 1024 → wY_common_23 post (nI s) (nI t) mk md n (nI (cs_cn (cs_hh W s t) x)) (nI x) := by
  intro n
  induction n with
  | zero => intro x h1 h2; omega
  | succ n ih =>
    intro x h1 h2
    simp (disch := omega) only [wY_common_23, cs_m1024, nI_add, nI_1, nI_clamp]
    refine pk_le 1024 x (fun hl => ?_) (fun hl => ?_)
    · rw [show x = 1024 by omega]; exact h
    · have K := ih (x + 1) (by omega) (by omega)
      have e0 : cs_hh W s t x = (cs_h W s x && cs_h W t x) := rfl
      rw [hY s x hs hl, hY t x ht hl]
      refine ⟨vp_in_nI (by omega) (by decide), br_c (fun e => nm_e ?_) (fun e => ⟨vp_in_nI (by omega) (by decide), br_c (fun e2 => nm_e ?_) (fun e2 => ?_)⟩)⟩
      · rw [cs_cnF (by rw [e0, cs_01_0.mp e]; rfl)] at K
        exact K
      · rw [cs_cnF (by rw [e0, cs_01_0.mp e2, Bool.and_false])] at K
        exact K
      · rw [cs_cnT (by rw [e0, cs_htrue e, cs_htrue e2]; rfl)] at K
        exact nm_e (nm_e K)
theorem cs_ycommon {post : Int32 → Prop} {W : Nat → Int64} {mk md : Nat → Int32} (hY : cs_Y W mk) {s t : Nat} (hs : s < 4) (ht : t < 4) (h : post (nI (cs_cn (cs_hh W s t) 1024))) : wpY_common post (mk, md) (nI s) (nI t) := by
  unfold wpY_common
  refine cs_isSet_t hs (br_f (by decide) (cs_isSet_t ht (br_f (by decide) ⟨1025, ?_⟩)))
  exact cs_ycommon23 hY hs ht h 1025 0 (by omega) (by omega)
theorem i_vc_common {k : Nat} {u : SX} {v : SY} (I : i_Rel k u v) (hk : k + 5 ≤ 2560) (v1 : Int32) (v2 : Int32) : wpX_common (fun r u' => wpY_common (fun r' => r' = r ∧ i_Rel (k + 5) u' v) v v1 v2) u v1 v2 := by
  refine cs_el (P := fun u v => wpX_common (fun r u' => wpY_common (fun r' => r' = r ∧ i_Rel (k + 5) u' v) v v1 v2) u v1 v2) ?_ I
  clear I
  intro W me kd ct fl sl wd mv mg mk md hX hY
  unfold wpX_common
  rcases cs_ix v1 4 (by omega) with hb | ⟨s, hs, rfl⟩
  · refine cs_bad_t hb (br_f (by decide) ?_)
    unfold wpY_common
    exact cs_isSet_f hb (br_t rfl ⟨rfl, cs_Rel hX hY⟩)
  · rcases cs_ix v2 4 (by omega) with hb | ⟨t, ht, rfl⟩
    · refine cs_bad_f hs (br_t rfl (cs_bad_t hb (br_f (by decide) ?_)))
      unfold wpY_common
      exact cs_isSet_t hs (br_f (by decide) (cs_isSet_f hb (br_t rfl ⟨rfl, cs_Rel hX hY⟩)))
    · refine cs_bad_f hs (br_t rfl (cs_bad_f ht (br_t rfl ⟨17, ?_⟩)))
      exact cs_common21 hX hs ht (fun me' mg' => cs_ycommon hY hs ht ⟨rfl, cs_Rel hX hY⟩) 17 0 me mg (by omega) (by omega)
theorem cs_within18 {post : Int32 → SX → Prop} {W : Nat → Int64} {kd ct fl sl : Nat → Int32} {wd mv : Nat → Int64} (hX : cs_X W kd ct fl sl wd) {s t : Nat} (hs : s < 4) (ht : t < 4)
    (h1 : cs_cn (cs_hh W s t) 1024 = cs_cn (cs_h W s) 1024 → ∀ me mg, post 1 (me, kd, ct, fl, sl, wd, mv, mg))
    (h0 : cs_cn (cs_hh W s t) 1024 ≠ cs_cn (cs_h W s) 1024 → ∀ me mg, post 0 (me, kd, ct, fl, sl, wd, mv, mg)) :
    ∀ n p me mg, 16 < n + p → p ≤ 16 → cs_cn (cs_hh W s t) (64 * p) = cs_cn (cs_h W s) (64 * p) → wX_within_18 post (nI s) (nI t) n (nI p) me kd ct fl sl wd mv mg := by
  intro n
  induction n with
  | zero => intro p me mg h1 h2; omega
  | succ n ih =>
    intro p me mg g1 g2 g3
    simp (disch := omega) only [wX_within_18, cs_m16, nI_add, nI_1, nI_clamp]
    refine pk_le 16 p (fun hl => ?_) (fun hl => cs_commonIn hX (by omega) (by omega) (fun me' mg' => ?_))
    · rw [show p = 16 by omega] at g3
      exact h1 g3 me mg
    · have e1 := cs_cn_hh W s t p
      have e2 := cs_cn_h W s p (Nat.le_refl 64)
      have e3 := cs_cn_split (cs_b (W (16 * s + p))) (cs_b (W (16 * t + p))) 64
      have b1 := cs_cn_le (cs_b (W (16 * s + p))) 64
      dsimp only
      rw [(hX (16 * s + p) (by omega)).1]
      refine ⟨vp_in_nI (by omega) (by decide), pk_le (cs_cn (cs_b (W (16 * s + p))) 64) (cs_cn (fun j => cs_b (W (16 * s + p)) j && cs_b (W (16 * t + p)) j) 64) (fun hl2 => nm_e (ih (p + 1) me' mg' (by omega) (by omega) ?_)) (fun hl2 => h0 ?_ me' mg')⟩
      · rw [show 64 * (p + 1) = 64 * p + 64 by omega]
        omega
      · intro z
        have d1 := cs_cn_split (cs_h W s) (cs_h W t) 1024
        have d2 := cs_cn_split (cs_h W s) (cs_h W t) (64 * p + 64)
        have d3 := cs_cn_mono (fun i => cs_h W s i && !cs_h W t i) (show 64 * p + 64 ≤ 1024 by omega)
        have d4 : cs_cn (cs_hh W s t) 1024 = cs_cn (fun i => cs_h W s i && cs_h W t i) 1024 := rfl
        have d5 : cs_cn (cs_hh W s t) (64 * p + 64) = cs_cn (fun i => cs_h W s i && cs_h W t i) (64 * p + 64) := rfl
        omega
theorem i_vc_within {k : Nat} {u : SX} {v : SY} (I : i_Rel k u v) (hk : k + 5 ≤ 2560) (v1 : Int32) (v2 : Int32) : wpX_within (fun r u' => wpY_within (fun r' => r' = r ∧ i_Rel (k + 5) u' v) v v1 v2) u v1 v2 := by
  refine cs_el (P := fun u v => wpX_within (fun r u' => wpY_within (fun r' => r' = r ∧ i_Rel (k + 5) u' v) v v1 v2) u v1 v2) ?_ I
  clear I
  intro W me kd ct fl sl wd mv mg mk md hX hY
  unfold wpX_within
  rcases cs_ix v1 4 (by omega) with hb | ⟨s, hs, rfl⟩
  · refine cs_bad_t hb (br_f (by decide) ?_)
    unfold wpY_within
    exact cs_isSet_f hb (br_t rfl ⟨rfl, cs_Rel hX hY⟩)
  · rcases cs_ix v2 4 (by omega) with hb | ⟨t, ht, rfl⟩
    · refine cs_bad_f hs (br_t rfl (cs_bad_t hb (br_f (by decide) ?_)))
      unfold wpY_within
      exact cs_isSet_t hs (br_f (by decide) (cs_isSet_f hb (br_t rfl ⟨rfl, cs_Rel hX hY⟩)))
    · have hle := cs_cn_hle W s t 1024
      have hle2 := cs_cn_le (cs_h W s) 1024
      refine cs_bad_f hs (br_t rfl (cs_bad_f ht (br_t rfl ⟨17, ?_⟩)))
      refine cs_within18 hX hs ht (fun e me' mg' => ?_) (fun e me' mg' => ?_) 17 0 me mg (by omega) (by omega) rfl
      · unfold wpY_within
        refine cs_isSet_t hs (br_f (by decide) (cs_isSet_t ht (br_f (by decide) (cs_ycommon hY hs ht (cs_ysize hY hs (br_t ?_ ⟨rfl, cs_Rel hX hY⟩))))))
        rw [e]
      · unfold wpY_within
        refine cs_isSet_t hs (br_f (by decide) (cs_isSet_t ht (br_f (by decide) (cs_ycommon hY hs ht (cs_ysize hY hs (br_f ?_ ⟨rfl, cs_Rel hX hY⟩))))))
        rw [nI_eq (by omega) (by omega)]
        exact e
end
section
/-! ===== a set changed part by part ===== -/
/-- W' is W but that the first P parts of the set s show g -/
def cs_G (W W' : Nat → Int64) (s P : Nat) (g : Nat → Bool) : Prop := ∀ c i, c < 64 → i < 64 → cs_b (W' c) i = if 16 * s ≤ c ∧ c < 16 * s + P then g (64 * (c - 16 * s) + i) else cs_b (W c) i
theorem cs_G0 (W : Nat → Int64) (s : Nat) (g : Nat → Bool) : cs_G W W s 0 g := by
  intro c i _ _
  rw [if_neg (by omega)]
theorem cs_Gs {W W' : Nat → Int64} {s P : Nat} {g : Nat → Bool} (h : cs_G W W' s P g) {w : Int64} (hw : ∀ i, i < 64 → cs_b w i = g (64 * P + i)) : cs_G W (vp_updL W' (16 * s + P) w) s (P + 1) g := by
  intro c i hc hi
  by_cases e : c = 16 * s + P
  · subst e
    rw [pk_uLs, hw i hi, if_pos (by omega), show 16 * s + P - 16 * s = P by omega]
  · rw [pk_uLn e, h c i hc hi]
    by_cases z : 16 * s ≤ c ∧ c < 16 * s + P
    · rw [if_pos z, if_pos (by omega)]
    · rw [if_neg z, if_neg (by omega)]
theorem cs_Gn {W W' : Nat → Int64} {s P : Nat} {g : Nat → Bool} (h : cs_G W W' s P g) (hw : ∀ i, i < 64 → cs_b (W (16 * s + P)) i = g (64 * P + i)) : cs_G W W' s (P + 1) g := by
  intro c i hc hi
  rw [h c i hc hi]
  by_cases e : c = 16 * s + P
  · subst e
    rw [if_neg (by omega), if_pos (by omega), show 16 * s + P - 16 * s = P by omega, hw i hi]
  · by_cases z : 16 * s ≤ c ∧ c < 16 * s + P
    · rw [if_pos z, if_pos (by omega)]
    · rw [if_neg z, if_neg (by omega)]
theorem cs_Gr {W W' : Nat → Int64} {s P : Nat} {g : Nat → Bool} (h : cs_G W W' s P g) {c : Nat} (hc : c < 64) (hn : ¬ (16 * s ≤ c ∧ c < 16 * s + P)) : W' c = W c :=
  cs_bext (fun i hi => by rw [h c i hc hi, if_neg hn])
theorem cs_Gh {W W' : Nat → Int64} {s : Nat} {g : Nat → Bool} (h : cs_G W W' s 16 g) {s' x : Nat} (hs' : s' < 4) (hx : x < 1024) : cs_h W' s' x = if s' = s then g x else cs_h W s' x := by
  unfold cs_h
  rw [h _ _ (by omega) (by omega)]
  by_cases e : s' = s
  · subst e
    rw [if_pos (by omega), if_pos rfl, show 64 * (16 * s' + x / 64 - 16 * s') + x % 64 = x by omega]
  · rw [if_neg (by omega), if_neg e]
theorem cs_GY {W W' : Nat → Int64} {s : Nat} {g : Nat → Bool} (h : cs_G W W' s 16 g) {mk : Nat → Int32} (hm : ∀ s' x, s' < 4 → x < 1024 → mk (1024 * s' + x) = cs_01 (if s' = s then g x else cs_h W s' x)) : cs_Y W' mk := by
  intro s' x hs' hx
  rw [hm s' x hs' hx, cs_Gh h hs' hx]
/-! ===== clear, tidy ===== -/
theorem cs_clear20 {post : Int32 → SX → Prop} {W : Nat → Int64} {x2 : Int32} {mv : Nat → Int64} {s : Nat} (hs : s < 4)
    (h : ∀ W' me kd ct fl sl wd mg, cs_G W W' s 16 (fun _ => false) → cs_X W' kd ct fl sl wd → post x2 (me, kd, ct, fl, sl, wd, mv, mg)) :
    ∀ n p W' me kd ct fl sl wd mg, 16 < n + p → p ≤ 16 → cs_G W W' s p (fun _ => false) → cs_X W' kd ct fl sl wd → wX_clear_20 post (nI s) x2 n (nI (16 * s + p)) me kd ct fl sl wd mv mg := by
  intro n
  induction n with
  | zero => intro p W' me kd ct fl sl wd mg h1 h2; omega
  | succ n ih =>
    intro p W' me kd ct fl sl wd mg h1 h2 hG hX
    simp (disch := omega) only [wX_clear_20, cs_m16, cs_p16, nI_1]
    refine pk_le (16 * s + 16) (16 * s + p) (fun hl => ?_) (fun hl => cs_store hX (by omega) 0 (fun kd' ct' fl' sl' wd' hX' => ?_))
    · have e : p = 16 := by omega
      subst e
      exact h _ _ _ _ _ _ _ _ hG hX
    · exact nm_e (ih (p + 1) _ _ _ _ _ _ _ _ (by omega) (by omega) (cs_Gs hG (fun i _ => cs_b0 i)) hX')
theorem cs_yclear8 {post : Int32 → SY → Prop} {W : Nat → Int64} {md : Nat → Int32} {s t : Nat} (hs : s < 4) (ht : t < 2 ^ 31)
    (h : ∀ mk, (∀ s' x, s' < 4 → x < 1024 → mk (1024 * s' + x) = cs_01 (if s' = s then false else cs_h W s' x)) → post (nI t) (mk, md)) :
    ∀ n x mk, 1024 < n + x → x ≤ 1024 → (∀ s' y, s' < 4 → y < 1024 → mk (1024 * s' + y) = cs_01 (if s' = s ∧ y < x then false else cs_h W s' y)) → wY_clear_8 post (nI s) (nI t) n (nI x) mk md := by
  intro n
  induction n with
  | zero => intro x mk h1 h2; omega
  | succ n ih =>
    intro x mk h1 h2 hm
    simp (disch := omega) only [wY_clear_8, cs_m1024, nI_add, nI_1, nI_clamp]
    refine pk_le 1024 x (fun hl => ?_) (fun hl => br_f (nI_pos ht) ⟨vp_in_nI (by omega) (by decide), nm_e (nm_e (ih (x + 1) _ (by omega) (by omega) (fun s' y hs' hy => ?_)))⟩)
    · refine h mk (fun s' y hs' hy => ?_)
      rw [hm s' y hs' hy]
      by_cases e : s' = s
      · rw [if_pos e, if_pos ⟨e, by omega⟩]
      · rw [if_neg e, if_neg (fun z => e z.1)]
    · by_cases e : 1024 * s' + y = 1024 * s + x
      · have e1 : s' = s := by omega
        have e2 : y = x := by omega
        subst e1; subst e2
        rw [pk_us, if_pos ⟨rfl, by omega⟩]
        rfl
      · rw [pk_un e, hm s' y hs' hy]
        by_cases z : s' = s ∧ y < x
        · rw [if_pos z, if_pos ⟨z.1, by omega⟩]
        · rw [if_neg z, if_neg (by omega)]
theorem i_vc_clear {k : Nat} {u : SX} {v : SY} (I : i_Rel k u v) (hk : k + 5 ≤ 2560) (v1 : Int32) : wpX_clear (fun r u' => wpY_clear (fun r' v' => r' = r ∧ i_Rel (k + 5) u' v') v v1) u v1 := by
  refine cs_el (P := fun u v => wpX_clear (fun r u' => wpY_clear (fun r' v' => r' = r ∧ i_Rel (k + 5) u' v') v v1) u v1) ?_ I
  clear I
  intro W me kd ct fl sl wd mv mg mk md hX hY
  unfold wpX_clear wpY_clear
  dsimp only
  rcases cs_ix v1 4 (by omega) with hb | ⟨s, hs, rfl⟩
  · refine cs_bad_t hb (br_f (by decide) ?_)
    unfold wpY_size
    refine cs_isSet_f hb (br_t rfl ⟨1, ?_⟩)
    unfold wY_clear_8
    exact br_f (by decide) (br_t (by decide) ⟨rfl, cs_Rel hX hY⟩)
  · refine cs_bad_f hs (br_t rfl (cs_total hX hs ?_))
    rw [cs_m16]
    refine nm_e ⟨17, cs_clear20 (W := W) hs (fun W' me' kd' ct' fl' sl' wd' mg' hG hX' => ?_) 17 0 W me kd ct fl sl wd mg (by omega) (by omega) (cs_G0 _ _ _) hX⟩
    refine cs_ysize hY hs ⟨1025, ?_⟩
    have hle := cs_cn_le (cs_h W s) 1024
    refine cs_yclear8 (W := W) hs (by omega) (fun mk' hm => ⟨rfl, cs_Rel hX' (cs_GY hG hm)⟩) 1025 0 mk (by omega) (by omega) (fun s' y hs' hy => ?_)
    rw [if_neg (by omega)]
    exact hY s' y hs' hy
theorem cs_upself (W : Nat → Int64) (c : Nat) : vp_updL W c (W c) = W := by
  funext j
  by_cases e : j = c
  · subst e; exact pk_uLs
  · exact pk_uLn e
theorem cs_tidy14 {post : Int32 → SX → Prop} {W : Nat → Int64} {me : Int32} {mv : Nat → Int64} {mg : Nat → Int32} {s : Nat} (hs : s < 4)
    (h : ∀ kd ct fl sl wd, cs_X W kd ct fl sl wd → post 0 (me, kd, ct, fl, sl, wd, mv, mg)) :
    ∀ n p kd ct fl sl wd, 16 < n + p → p ≤ 16 → cs_X W kd ct fl sl wd → wX_tidy_14 post (nI s) n (nI (16 * s + p)) me kd ct fl sl wd mv mg := by
  intro n
  induction n with
  | zero => intro p kd ct fl sl wd h1 h2; omega
  | succ n ih =>
    intro p kd ct fl sl wd h1 h2 hX
    simp (disch := omega) only [wX_tidy_14, cs_m16, cs_p16, nI_1]
    refine pk_le (16 * s + 16) (16 * s + p) (fun hl => h _ _ _ _ _ hX) (fun hl => cs_wordOf hX (by omega) (cs_store hX (by omega) _ (fun kd' ct' fl' sl' wd' hX' => ?_)))
    rw [cs_upself] at hX'
    exact nm_e (ih (p + 1) _ _ _ _ _ (by omega) (by omega) hX')
theorem i_vc_tidy {k : Nat} {u : SX} {v : SY} (I : i_Rel k u v) (hk : k + 5 ≤ 2560) (v1 : Int32) : wpX_tidy (fun r u' => wpY_tidy (fun r' => r' = r ∧ i_Rel (k + 5) u' v) v v1) u v1 := by
  refine cs_el (P := fun u v => wpX_tidy (fun r u' => wpY_tidy (fun r' => r' = r ∧ i_Rel (k + 5) u' v) v v1) u v1) ?_ I
  clear I
  intro W me kd ct fl sl wd mv mg mk md hX hY
  unfold wpX_tidy wpY_tidy
  dsimp only
  rcases cs_ix v1 4 (by omega) with hb | ⟨s, hs, rfl⟩
  · exact cs_bad_t hb (br_f (by decide) (cs_isSet_f hb (br_t rfl ⟨rfl, cs_Rel hX hY⟩)))
  · refine cs_bad_f hs (br_t rfl ?_)
    rw [cs_m16]
    exact nm_e ⟨17, cs_tidy14 (W := W) hs (fun kd' ct' fl' sl' wd' hX' => cs_isSet_t hs (br_f (by decide) ⟨rfl, cs_Rel hX' hY⟩)) 17 0 kd ct fl sl wd (by omega) (by omega) hX⟩
/-! ===== combine ===== -/
def cs_ob (how : Nat) (a b : Bool) : Bool := if how = 0 then a || b else if how = 1 then a && b else if how = 2 then a && !b else a ^^ b
theorem cs_op_b {how : Nat} {x y : Int64} {i : Nat} (hi : i < 64) : cs_b (cs_op how x y) i = cs_ob how (cs_b x i) (cs_b y i) := by
  unfold cs_op cs_ob
  by_cases e0 : how = 0
  · rw [if_pos e0, if_pos e0, cs_bor]
  · by_cases e1 : how = 1
    · rw [if_neg e0, if_neg e0, if_pos e1, if_pos e1, cs_band]
    · by_cases e2 : how = 2
      · rw [if_neg e0, if_neg e0, if_neg e1, if_neg e1, if_pos e2, if_pos e2, cs_band, cs_bnot _ hi]
      · rw [if_neg e0, if_neg e0, if_neg e1, if_neg e1, if_neg e2, if_neg e2, cs_bxor]
def cs_og (W : Nat → Int64) (how s t : Nat) : Nat → Bool := fun x => cs_ob how (cs_h W s x) (cs_h W t x)
theorem cs_combine40 {post : Int32 → SX → Prop} {W : Nat → Int64} {mv : Nat → Int64} {o s t how : Nat} (ho : o < 4) (hs : s < 4) (ht : t < 4) (hh : how ≤ 3)
    (h : ∀ W' me kd ct fl sl wd mg, cs_G W W' o 16 (cs_og W how s t) → cs_X W' kd ct fl sl wd → post (nI (cs_cn (cs_h W' o) 1024)) (me, kd, ct, fl, sl, wd, mv, mg)) :
    ∀ n p W' me kd ct fl sl wd mg, 16 < n + p → p ≤ 16 → cs_G W W' o p (cs_og W how s t) → cs_X W' kd ct fl sl wd → wX_combine_40 post (nI o) (nI s) (nI t) (nI how) n (nI p) me kd ct fl sl wd mv mg := by
  intro n
  induction n with
  | zero => intro p W' me kd ct fl sl wd mg h1 h2; omega
  | succ n ih =>
    intro p W' me kd ct fl sl wd mg h1 h2 hG hX
    simp (disch := omega) only [wX_combine_40, cs_m16, nI_add, nI_1]
    refine pk_le 16 p (fun hl => ?_) (fun hl => cs_combinePart hX (by omega) (by omega) (by omega) hh (fun me' kd' ct' fl' sl' wd' mg' hX' => ?_))
    · have e : p = 16 := by omega
      subst e
      exact cs_total hX ho (h _ _ _ _ _ _ _ _ hG hX)
    · refine nm_e (ih (p + 1) _ _ _ _ _ _ _ _ (by omega) (by omega) (cs_Gs hG (fun i hi => ?_)) hX')
      rw [cs_op_b hi, cs_Gr hG (by omega) (by omega), cs_Gr hG (by omega) (by omega)]
      show _ = cs_ob how (cs_h W s (64 * p + i)) (cs_h W t (64 * p + i))
      rw [cs_h_at W s p hi, cs_h_at W t p hi]
theorem cs_ystore2 {post : Int32 → SY → Prop} {W W' : Nat → Int64} {md : Nat → Int32} {s : Nat} {g : Nat → Bool} (hs : s < 4) (hG : cs_G W W' s 16 g) (hd : ∀ x, x < 1024 → md x = cs_01 (g x))
    (h : ∀ mk, cs_Y W' mk → post (nI (cs_cn (cs_h W' s) 1024)) (mk, md)) :
    ∀ n x mk, 1024 < n + x → x ≤ 1024 → (∀ s' y, s' < 4 → y < 1024 → mk (1024 * s' + y) = cs_01 (if s' = s ∧ y < x then g y else cs_h W s' y)) → wY_store_2 post (nI s) n (nI x) mk md := by
  intro n
  induction n with
  | zero => intro x mk h1 h2; omega
  | succ n ih =>
    intro x mk h1 h2 hm
    simp (disch := omega) only [wY_store_2, cs_m1024, nI_add, nI_1, nI_clamp]
    refine pk_le 1024 x (fun hl => ?_) (fun hl => ⟨vp_in_nI (by omega) (by decide), vp_in_nI (by omega) (by decide), nm_e (nm_e (ih (x + 1) _ (by omega) (by omega) (fun s' y hs' hy => ?_)))⟩)
    · have hY' : cs_Y W' mk := cs_GY hG (fun s' y hs' hy => by
        rw [hm s' y hs' hy]
        by_cases e : s' = s
        · rw [if_pos e, if_pos ⟨e, by omega⟩]
        · rw [if_neg e, if_neg (fun z => e z.1)])
      exact cs_ysize hY' hs (h mk hY')
    · by_cases e : 1024 * s' + y = 1024 * s + x
      · have e1 : s' = s := by omega
        have e2 : y = x := by omega
        subst e1; subst e2
        rw [pk_us, if_pos ⟨rfl, by omega⟩, hd y hy, cs_nar]
      · rw [pk_un e, hm s' y hs' hy]
        by_cases z : s' = s ∧ y < x
        · rw [if_pos z, if_pos ⟨z.1, by omega⟩]
        · rw [if_neg z, if_neg (by omega)]
theorem cs_ystore {post : Int32 → SY → Prop} {W W' : Nat → Int64} {mk md : Nat → Int32} (hY : cs_Y W mk) {s : Nat} {g : Nat → Bool} (hs : s < 4) (hG : cs_G W W' s 16 g) (hd : ∀ x, x < 1024 → md x = cs_01 (g x))
    (h : ∀ mk, cs_Y W' mk → post (nI (cs_cn (cs_h W' s) 1024)) (mk, md)) : wpY_store post (mk, md) (nI s) := by
  unfold wpY_store
  dsimp only
  refine ⟨1025, cs_ystore2 hs hG hd h 1025 0 mk (by omega) (by omega) (fun s' y hs' hy => ?_)⟩
  rw [if_neg (by omega)]
  exact hY s' y hs' hy
theorem cs_ycombine43 {post : Int32 → SY → Prop} {W W' : Nat → Int64} {mk : Nat → Int32} (hY : cs_Y W mk) {o s t how : Nat} (ho : o < 4) (hs : s < 4) (ht : t < 4) (hh : how ≤ 3) (hG : cs_G W W' o 16 (cs_og W how s t))
    (h : ∀ mk md, cs_Y W' mk → post (nI (cs_cn (cs_h W' o) 1024)) (mk, md)) :
    ∀ n x md, 1024 < n + x → x ≤ 1024 → (∀ y, y < x → md y = cs_01 (cs_og W how s t y)) → wY_combine_43 post (nI o) (nI s) (nI t) (nI how) n (nI x) mk md := by
  intro n
  induction n with
  | zero => intro x md h1 h2; omega
  | succ n ih =>
    intro x md h1 h2 hm
    simp (disch := omega) only [wY_combine_43, cs_m1024, nI_add, nI_1, nI_clamp]
    refine pk_le 1024 x (fun hl => cs_ystore hY ho hG (fun y hy => hm y (by omega)) (fun mk' hY' => h mk' md hY')) (fun hl => ?_)
    have T : ∀ b : Bool, cs_og W how s t x = b → vp_in (nI x) 1024 ∧ ∀ md', md' = upd md x (vp_nar .boolean (cs_01 b)) → ∀ y, y = nI (x + 1) → wY_combine_43 post (nI o) (nI s) (nI t) (nI how) n y mk md' := by
      intro b hb
      rw [cs_nar]
      refine ⟨vp_in_nI hl (by decide), nm_e (nm_e (ih (x + 1) _ (by omega) (by omega) (fun y hy => ?_)))⟩
      by_cases e : y = x
      · subst e; rw [pk_us, hb]
      · rw [pk_un e]; exact hm y (by omega)
    have T0 : cs_og W how s t x = false → vp_in (nI x) 1024 ∧ ∀ md', md' = upd md x (vp_nar .boolean 0) → ∀ y, y = nI (x + 1) → wY_combine_43 post (nI o) (nI s) (nI t) (nI how) n y mk md' := T false
    have T1 : cs_og W how s t x = true → vp_in (nI x) 1024 ∧ ∀ md', md' = upd md x (vp_nar .boolean 1) → ∀ y, y = nI (x + 1) → wY_combine_43 post (nI o) (nI s) (nI t) (nI how) n y mk md' := T true
    clear T
    have eg : cs_og W how s t x = cs_ob how (cs_h W s x) (cs_h W t x) := rfl
    rw [eg] at T0 T1
    rw [hY s x hs hl, hY t x ht hl]
    have hi1 : vp_in (nI (1024 * s + x)) 4096 := vp_in_nI (by omega) (by decide)
    have hi2 : vp_in (nI (1024 * t + x)) 4096 := vp_in_nI (by omega) (by decide)
    refine ⟨hi1, nm_e ⟨hi2, nm_e ?_⟩⟩
    clear ih hm h hG eg
    generalize cs_h W s x = a at *
    generalize cs_h W t x = b at *
    refine pk_eq how 0 (fun e => ?_) (fun e0 => pk_eq how 1 (fun e => ?_) (fun e1 => pk_eq how 2 (fun e => ?_) (fun e2 => ?_)))
    · subst e
      cases a
      · refine br_t rfl ?_
        cases b
        · exact br_t rfl (T0 rfl)
        · exact br_f (by decide) (T1 rfl)
      · exact br_f (by decide) (T1 rfl)
    · subst e
      cases a
      · exact br_t rfl (T0 rfl)
      · refine br_f (by decide) ?_
        cases b
        · exact br_t rfl (T0 rfl)
        · exact br_f (by decide) (T1 rfl)
    · subst e
      cases a
      · exact br_t rfl (T0 rfl)
      · refine br_f (by decide) ?_
        cases b
        · exact br_t rfl (T1 rfl)
        · exact br_f (by decide) (T0 rfl)
    · have e3 : how = 3 := by omega
      subst e3
      cases a <;> cases b
      · exact br_t rfl (T0 rfl)
      · exact br_f (by decide) (T1 rfl)
      · exact br_f (by decide) (T1 rfl)
      · exact br_t rfl (T0 rfl)
theorem i_vc_combine {k : Nat} {u : SX} {v : SY} (I : i_Rel k u v) (hk : k + 5 ≤ 2560) (v1 : Int32) (v2 : Int32) (v3 : Int32) (v4 : Int32) : wpX_combine (fun r u' => wpY_combine (fun r' v' => r' = r ∧ i_Rel (k + 5) u' v') v v1 v2 v3 v4) u v1 v2 v3 v4 := by
  refine cs_el (P := fun u v => wpX_combine (fun r u' => wpY_combine (fun r' v' => r' = r ∧ i_Rel (k + 5) u' v') v v1 v2 v3 v4) u v1 v2 v3 v4) ?_ I
  clear I
  intro W me kd ct fl sl wd mv mg mk md hX hY
  unfold wpX_combine wpY_combine
  dsimp only
  rcases cs_ix v1 4 (by omega) with hb | ⟨o, ho, rfl⟩
  · exact cs_bad_t hb (br_f (by decide) (cs_isSet_f hb (br_t rfl ⟨rfl, cs_Rel hX hY⟩)))
  · rcases cs_ix v2 4 (by omega) with hb | ⟨s, hs, rfl⟩
    · exact cs_bad_f ho (br_t rfl (cs_bad_t hb (br_f (by decide) (cs_isSet_t ho (br_f (by decide) (cs_isSet_f hb (br_t rfl ⟨rfl, cs_Rel hX hY⟩)))))))
    · rcases cs_ix v3 4 (by omega) with hb | ⟨t, ht, rfl⟩
      · exact cs_bad_f ho (br_t rfl (cs_bad_f hs (br_t rfl (cs_bad_t hb (br_f (by decide) (cs_isSet_t ho (br_f (by decide) (cs_isSet_t hs (br_f (by decide) (cs_isSet_f hb (br_t rfl ⟨rfl, cs_Rel hX hY⟩)))))))))))
      · refine cs_bad_f ho (br_t rfl (cs_bad_f hs (br_t rfl (cs_bad_f ht (br_t rfl (br_c (fun h0 => ?_) (fun h0 => ?_)))))))
        · exact cs_isSet_t ho (br_f (by decide) (cs_isSet_t hs (br_f (by decide) (cs_isSet_t ht (br_f (by decide) (br_t h0 ⟨rfl, cs_Rel hX hY⟩))))))
        · obtain ⟨how, hw, rfl⟩ := nI_of h0
          refine pk_le how 3 (fun hl => ?_) (fun hl => ?_)
          · refine ⟨17, cs_combine40 (W := W) ho hs ht hl (fun W' me' kd' ct' fl' sl' wd' mg' hG hX' => ?_) 17 0 W me kd ct fl sl wd mg (by omega) (by omega) (cs_G0 _ _ _) hX⟩
            refine cs_isSet_t ho (br_f (by decide) (cs_isSet_t hs (br_f (by decide) (cs_isSet_t ht (br_f (by decide) (br_f h0 (br_t (nI_le (b := 3) hl (by decide)) ⟨1025, ?_⟩)))))))
            exact cs_ycombine43 hY ho hs ht hl hG (fun mk' md' hY' => ⟨rfl, cs_Rel hX' hY'⟩) 1025 0 md (by omega) (by omega) (fun y hy => absurd hy (Nat.not_lt_zero y))
          · exact cs_isSet_t ho (br_f (by decide) (cs_isSet_t hs (br_f (by decide) (cs_isSet_t ht (br_f (by decide) (br_f h0 (br_f (nI_ge (a := 3) hl hw) ⟨rfl, cs_Rel hX hY⟩)))))))
end
section
/-! ===== range ===== -/
def cs_mb (A B x : Nat) : Bool := decide (A ≤ x) && decide (x < B)
theorem cs_partOf32 {post : Int64 → Prop} {a b : Nat} (hb : b ≤ 64) (ha : a < 2 ^ 31) (h : ∀ m : Int64, (∀ i, i < 64 → cs_b m i = (decide (a ≤ i) && decide (i < b))) → post m) : wX_partOf_32 post (nI a) (nI b) := by
  unfold wX_partOf_32
  refine pk_le b a (fun hl => h 0 (fun i hi => ?_)) (fun hl => cs_stretch (by omega) hb h)
  rw [cs_b0]
  by_cases z : a ≤ i
  · rw [decide_eq_false (show ¬ i < b by omega), Bool.and_false]
  · rw [decide_eq_false z, Bool.false_and]
theorem cs_partOf {post : Int64 → Prop} {p A B : Nat} (hp : p < 16) (hA : A ≤ 1024) (hB : B ≤ 1024) (h : ∀ m : Int64, (∀ i, i < 64 → cs_b m i = cs_mb A B (64 * p + i)) → post m) : wpX_partOf post (nI p) (nI A) (nI B) := by
  have J : wX_partOf_21 post (nI (A - 64 * p)) (nI B - nI (64 * p)) := by
    unfold wX_partOf_21
    by_cases hlt : B < 64 * p
    · have hneg : nI B - nI (64 * p) < 0 := pk_sneg (by omega) hlt
      refine br_t (Int32.le_of_lt (Int32.lt_of_lt_of_le hneg (by decide))) ?_
      unfold wX_partOf_32
      refine br_t (Int32.le_of_lt (Int32.lt_of_lt_of_le hneg (nI_pos' (by omega)))) (h 0 (fun i hi => ?_))
      rw [cs_b0]
      unfold cs_mb
      rw [decide_eq_false (show ¬ 64 * p + i < B by omega), Bool.and_false]
    · rw [pk_sub (by omega)]
      refine pk_le (B - 64 * p) 64 (fun hl => cs_partOf32 hl (by omega) (fun m hm => h m (fun i hi => ?_))) (fun hl => cs_partOf32 (b := 64) (by omega) (by omega) (fun m hm => h m (fun i hi => ?_)))
      · rw [hm i hi]
        unfold cs_mb
        rw [show decide (A - 64 * p ≤ i) = decide (A ≤ 64 * p + i) from decide_eq_decide.mpr ⟨fun z => by omega, fun z => by omega⟩, show decide (i < B - 64 * p) = decide (64 * p + i < B) from decide_eq_decide.mpr ⟨fun z => by omega, fun z => by omega⟩]
      · rw [hm i hi]
        unfold cs_mb
        rw [show decide (A - 64 * p ≤ i) = decide (A ≤ 64 * p + i) from decide_eq_decide.mpr ⟨fun z => by omega, fun z => by omega⟩, decide_eq_true hi, decide_eq_true (show 64 * p + i < B by omega)]
  unfold wpX_partOf
  rw [cs_64m]
  refine nm_e (nm_e ?_)
  by_cases hlt : A < 64 * p
  · have hneg : nI A - nI (64 * p) < 0 := pk_sneg (by omega) hlt
    rw [show A - 64 * p = 0 by omega] at J
    exact br_f (Int32.not_le.mpr hneg) J
  · rw [pk_sub (by omega)]
    exact br_t (nI_pos' (by omega)) J
def cs_rb (how : Nat) (a m : Bool) : Bool := if how = 0 then a || m else if how = 1 then a && !m else a ^^ m
theorem cs_changePart {post : SX → Prop} {W : Nat → Int64} {me : Int32} {kd ct fl sl : Nat → Int32} {wd mv : Nat → Int64} {mg : Nat → Int32} (hX : cs_X W kd ct fl sl wd) {c how : Nat} {m : Int64} (hc : c < 64) (hh : how ≤ 2)
    (h : ∀ w kd' ct' fl' sl' wd', (∀ i, i < 64 → cs_b w i = cs_rb how (cs_b (W c) i) (cs_b m i)) → cs_X (vp_updL W c w) kd' ct' fl' sl' wd' → post (me, kd', ct', fl', sl', wd', mv, mg)) : wpX_changePart post (me, kd, ct, fl, sl, wd, mv, mg) (nI c) m (nI how) := by
  have J : wX_changePart_32 post (nI c) m (nI how) me kd ct fl sl wd mv mg := by
    unfold wX_changePart_32
    refine cs_wordOf hX hc (pk_eq how 0 (fun e => nm_e ?_) (fun e0 => pk_eq how 1 (fun e => nm_e ?_) (fun e1 => nm_e ?_)))
    · unfold wX_changePart_78
      refine cs_store hX hc _ (fun kd' ct' fl' sl' wd' hX' => h _ _ _ _ _ _ (fun i hi => ?_) hX')
      unfold cs_rb
      rw [if_pos e, cs_bor]
    · unfold wX_changePart_78
      refine cs_store hX hc _ (fun kd' ct' fl' sl' wd' hX' => h _ _ _ _ _ _ (fun i hi => ?_) hX')
      unfold cs_rb
      rw [if_neg (show ¬ how = 0 by omega), if_pos e, cs_band, cs_bnot _ hi]
    · unfold wX_changePart_78
      refine cs_store hX hc _ (fun kd' ct' fl' sl' wd' hX' => h _ _ _ _ _ _ (fun i hi => ?_) hX')
      unfold cs_rb
      rw [if_neg e0, if_neg e1, cs_bxor]
  unfold wpX_changePart
  refine br_c (fun em => pk_le 2 how (fun _ => J) (fun hl => pk_eq how 0 (fun e => ?_) (fun e => ?_))) (fun _ => J)
  · unfold wX_changePart_28
    refine cs_store hX hc _ (fun kd' ct' fl' sl' wd' hX' => h _ _ _ _ _ _ (fun i hi => ?_) hX')
    unfold cs_rb
    rw [if_pos e, em, cs_bm1 hi, Bool.or_true]
  · unfold wX_changePart_28
    refine cs_store hX hc _ (fun kd' ct' fl' sl' wd' hX' => h _ _ _ _ _ _ (fun i hi => ?_) hX')
    unfold cs_rb
    rw [if_neg e, if_pos (show how = 1 by omega), em, cs_bm1 hi, cs_b0, Bool.not_true, Bool.and_false]
def cs_rg (W : Nat → Int64) (how s A B : Nat) : Nat → Bool := fun x => cs_rb how (cs_h W s x) (cs_mb A B x)
theorem cs_rb_f (how : Nat) (a : Bool) : cs_rb how a false = a := by
  unfold cs_rb
  split
  · exact Bool.or_false a
  · split
    · exact Bool.and_true a
    · exact Bool.xor_false a
theorem cs_range48 {post : Int32 → SX → Prop} {W : Nat → Int64} {mv : Nat → Int64} {s how A B : Nat} (hs : s < 4) (hh : how ≤ 2) (hA : A ≤ 1024) (hB : B ≤ 1024)
    (h : ∀ W' me kd ct fl sl wd mg, cs_G W W' s 16 (cs_rg W how s A B) → cs_X W' kd ct fl sl wd → post (nI (cs_cn (cs_h W' s) 1024)) (me, kd, ct, fl, sl, wd, mv, mg)) :
    ∀ n p W' me kd ct fl sl wd mg, 16 < n + p → p ≤ 16 → cs_G W W' s p (cs_rg W how s A B) → cs_X W' kd ct fl sl wd → wX_range_48 post (nI s) (nI how) (nI A) (nI B) n (nI p) me kd ct fl sl wd mv mg := by
  intro n
  induction n with
  | zero => intro p W' me kd ct fl sl wd mg h1 h2; omega
  | succ n ih =>
    intro p W' me kd ct fl sl wd mg h1 h2 hG hX
    simp (disch := omega) only [wX_range_48, cs_m16, nI_add, nI_1]
    refine pk_le 16 p (fun hl => ?_) (fun hl => cs_partOf hl hA hB (fun m hm => br_c (fun e => nm_e ?_) (fun e => ?_)))
    · have e : p = 16 := by omega
      subst e
      exact cs_total hX hs (h _ _ _ _ _ _ _ _ hG hX)
    · refine ih (p + 1) _ _ _ _ _ _ _ _ (by omega) (by omega) (cs_Gn hG (fun i hi => ?_)) hX
      have hmi := hm i hi
      rw [e, cs_b0] at hmi
      show _ = cs_rb how (cs_h W s (64 * p + i)) (cs_mb A B (64 * p + i))
      rw [← hmi, cs_rb_f, cs_h_at W s p hi]
    · refine cs_changePart hX (by omega) hh (fun w kd' ct' fl' sl' wd' hw hX' => ?_)
      refine nm_e (ih (p + 1) _ _ _ _ _ _ _ _ (by omega) (by omega) (cs_Gs hG (fun i hi => ?_)) hX')
      rw [hw i hi, hm i hi, cs_Gr hG (by omega) (by omega)]
      show _ = cs_rb how (cs_h W s (64 * p + i)) (cs_mb A B (64 * p + i))
      rw [cs_h_at W s p hi]
theorem cs_yrange37 {post : Int32 → SY → Prop} {W W' : Nat → Int64} {md : Nat → Int32} {s how A B : Nat} {v2 : Int32} (eB : (v2 >>> ((11 : Int32) &&& 31)) &&& 2047 = nI B) (hs : s < 4) (hh : how ≤ 2) (hB : B ≤ 1024) (hA : A ≤ 1024) (hG : cs_G W W' s 16 (cs_rg W how s A B))
    (h : ∀ mk, cs_Y W' mk → post (nI (cs_cn (cs_h W' s) 1024)) (mk, md)) :
    ∀ n x mk, 1024 < n + x → A ≤ x → x ≤ 1024 → (A < x → x ≤ B) → (∀ s' y, s' < 4 → y < 1024 → mk (1024 * s' + y) = cs_01 (if s' = s ∧ A ≤ y ∧ y < x then cs_rg W how s A B y else cs_h W s' y)) → wY_range_37 post (nI s) v2 (nI how) n (nI x) mk md := by
  intro n
  induction n with
  | zero => intro x mk h1 h2 h3; omega
  | succ n ih =>
    intro x mk h1 h2 h3 h4 hm
    simp only [wY_range_37]
    rw [eB]
    simp (disch := omega) only [cs_m1024, nI_add, nI_1]
    refine pk_le B x (fun hl => ?_) (fun hl => nm_e ?_)
    · have hY' : cs_Y W' mk := cs_GY hG (fun s' y hs' hy => by
        rw [hm s' y hs' hy]
        by_cases e : s' = s
        · rw [if_pos e]
          by_cases z : A ≤ y ∧ y < x
          · rw [if_pos ⟨e, z⟩]
          · rw [if_neg (fun q => z q.2)]
            have e0 : cs_mb A B y = false := by
              unfold cs_mb
              by_cases z2 : A ≤ y
              · rw [decide_eq_false (show ¬ y < B by omega), Bool.and_false]
              · rw [decide_eq_false z2, Bool.false_and]
            show _ = cs_01 (cs_rb how (cs_h W s y) (cs_mb A B y))
            rw [e0, cs_rb_f, e]
        · rw [if_neg e, if_neg (fun z => e z.1)])
      exact cs_ysize hY' hs (h mk hY')
    · have hx4 : x < 1024 := by omega
      have hi : vp_in (nI (1024 * s + x)) 4096 := vp_in_nI (by omega) (by decide)
      rw [nI_clamp (by omega)]
      have em : cs_mb A B x = true := by
        unfold cs_mb
        rw [decide_eq_true h2, decide_eq_true hl]; rfl
      have T : ∀ b : Bool, cs_rb how (cs_h W s x) true = b → vp_in (nI (1024 * s + x)) 4096 ∧ ∀ mk', mk' = upd mk (1024 * s + x) (vp_nar .boolean (cs_01 b)) → ∀ y, y = nI (x + 1) → wY_range_37 post (nI s) v2 (nI how) n y mk' md := by
        intro b hb
        rw [cs_nar]
        refine ⟨hi, nm_e (nm_e (ih (x + 1) _ (by omega) (by omega) (by omega) (fun _ => by omega) (fun s' y hs' hy => ?_)))⟩
        by_cases e : 1024 * s' + y = 1024 * s + x
        · have e1 : s' = s := by omega
          have e2 : y = x := by omega
          subst e1; subst e2
          rw [pk_us, if_pos ⟨rfl, h2, by omega⟩]
          show cs_01 b = cs_01 (cs_rb how (cs_h W s' y) (cs_mb A B y))
          rw [em, hb]
        · rw [pk_un e, hm s' y hs' hy]
          by_cases z : s' = s ∧ A ≤ y ∧ y < x
          · rw [if_pos z, if_pos ⟨z.1, z.2.1, by omega⟩]
          · rw [if_neg z, if_neg (by omega)]
      have T0 : cs_rb how (cs_h W s x) true = false → vp_in (nI (1024 * s + x)) 4096 ∧ ∀ mk', mk' = upd mk (1024 * s + x) (vp_nar .boolean 0) → ∀ y, y = nI (x + 1) → wY_range_37 post (nI s) v2 (nI how) n y mk' md := T false
      have T1 : cs_rb how (cs_h W s x) true = true → vp_in (nI (1024 * s + x)) 4096 ∧ ∀ mk', mk' = upd mk (1024 * s + x) (vp_nar .boolean 1) → ∀ y, y = nI (x + 1) → wY_range_37 post (nI s) v2 (nI how) n y mk' md := T true
      clear T
      have ex := hm s x hs hx4
      rw [if_neg (by omega)] at ex
      rw [ex]
      refine pk_eq how 0 (fun e => T1 ?_) (fun e0 => pk_eq how 2 (fun e => ⟨hi, ?_⟩) (fun e1 => T0 ?_))
      · subst e
        cases cs_h W s x <;> rfl
      · subst e
        cases hb : cs_h W s x with
        | false => exact br_t rfl (T1 (by rw [hb]; rfl))
        | true => exact br_f (by decide) (T0 (by rw [hb]; rfl))
      · have e2 : how = 1 := by omega
        subst e2
        cases cs_h W s x <;> rfl
theorem i_vc_range {k : Nat} {u : SX} {v : SY} (I : i_Rel k u v) (hk : k + 5 ≤ 2560) (v1 : Int32) (v2 : Int32) (v3 : Int32) : wpX_range (fun r u' => wpY_range (fun r' v' => r' = r ∧ i_Rel (k + 5) u' v') v v1 v2 v3) u v1 v2 v3 := by
  refine cs_el (P := fun u v => wpX_range (fun r u' => wpY_range (fun r' v' => r' = r ∧ i_Rel (k + 5) u' v') v v1 v2 v3) u v1 v2 v3) ?_ I
  clear I
  intro W me kd ct fl sl wd mv mg mk md hX hY
  unfold wpX_range wpY_range
  dsimp only
  rcases cs_ix v1 4 (by omega) with hb | ⟨s, hs, rfl⟩
  · exact cs_bad_t hb (br_f (by decide) (cs_isSet_f hb (br_t rfl ⟨rfl, cs_Rel hX hY⟩)))
  · obtain ⟨A, hA, eA⟩ := pk_andE v2 (m := 2047) 11 (by decide)
    obtain ⟨B, hB, eB⟩ := pk_andE (v2 >>> ((11 : Int32) &&& 31)) (m := 2047) 11 (by decide)
    refine cs_bad_f hs (br_t rfl (cs_badEnds hA hB eA eB (fun hbad => br_f (by decide) ?_) (fun hA4 hB4 => br_t rfl (br_c (fun h0 => ?_) (fun h0 => ?_)))))
    · exact cs_isSet_t hs (br_f (by decide) (cs_areEnds hA hB eA eB (fun _ => br_t rfl ⟨rfl, cs_Rel hX hY⟩) (fun _ _ => by omega)))
    · exact cs_isSet_t hs (br_f (by decide) (cs_areEnds hA hB eA eB (fun hbad => by omega) (fun _ _ => br_f (by decide) (br_t h0 ⟨rfl, cs_Rel hX hY⟩))))
    · obtain ⟨how, hw, rfl⟩ := nI_of h0
      refine pk_le how 2 (fun hl => ?_) (fun hl => ?_)
      · refine nm_r eA (nm_r eB ⟨17, cs_range48 (W := W) hs hl hA4 hB4 (fun W' me' kd' ct' fl' sl' wd' mg' hG hX' => ?_) 17 0 W me kd ct fl sl wd mg (by omega) (by omega) (cs_G0 _ _ _) hX⟩)
        refine cs_isSet_t hs (br_f (by decide) (cs_areEnds hA hB eA eB (fun hbad => by omega) (fun _ _ => br_f (by decide) (br_f h0 (br_t (nI_le (b := 2) hl (by decide)) (nm_r eA ⟨1025, ?_⟩))))))
        refine cs_yrange37 eB hs hl hB4 hA4 hG (fun mk' hY' => ⟨rfl, cs_Rel hX' hY'⟩) 1025 A mk (by omega) (Nat.le_refl A) hA4 (fun z => absurd z (Nat.lt_irrefl A)) (fun s' y hs' hy => ?_)
        rw [if_neg (by omega)]
        exact hY s' y hs' hy
      · exact cs_isSet_t hs (br_f (by decide) (cs_areEnds hA hB eA eB (fun hbad => by omega) (fun _ _ => br_f (by decide) (br_f h0 (br_f (nI_ge (a := 2) hl hw) ⟨rfl, cs_Rel hX hY⟩)))))
end
section
/-! ===== shift ===== -/
theorem cs_subsub (a b c : Nat) : nI a - (nI b - nI c) = nI (a + c) - nI b := by
  rw [← nI_add]
  grind
theorem cs_shB {v : Int32} (h1 : ¬ v < -1023) (h2 : v ≤ 1023) : ∃ B, 1 ≤ B ∧ B ≤ 2047 ∧ v = nI B - nI 1024 := by
  rw [Int32.lt_iff_toInt_lt, show (-1023 : Int32).toInt = -1023 from by decide] at h1
  rw [Int32.le_iff_toInt_le, show (1023 : Int32).toInt = 1023 from by decide] at h2
  refine ⟨(v.toInt + 1024).toNat, by omega, by omega, Int32.toInt_inj.mp ?_⟩
  rw [pk_sub_toInt (by omega) (by omega)]
  omega
theorem cs_shq {B : Nat} (h : B ≤ 2047) : (nI B - nI 1024) >>> ((6 : Int32) &&& 31) = nI (B / 64) - nI 16 := by
  apply Int32.toInt_inj.mp
  rw [pk_shr _ _ 6 (by decide), pk_sub_toInt (by omega) (by omega), pk_sub_toInt (by omega) (by omega), Int.shiftRight_eq_div_pow]
  omega
theorem cs_shr {B : Nat} (h : B ≤ 2047) : (nI B - nI 1024) &&& 63 = nI (B % 64) := by
  rw [pk_and _ 6 (by decide)]
  have e : (nI B - nI 1024).toBitVec = (nI B).toBitVec - (nI 1024).toBitVec := Int32.toBitVec_sub ..
  rw [e, BitVec.toNat_sub, pk_tn (by omega), pk_tn (by omega)]
  exact congrArg nI (by omega)
/-- where number x of the shifted set comes from -/
def cs_sg (W : Nat → Int64) (s B : Nat) : Nat → Bool := fun x => decide (B ≤ x + 1024) && (decide (x + 1024 - B < 1024) && cs_h W s (x + 1024 - B))
def cs_wd (W : Nat → Int64) (s e : Nat) : Int64 := if 16 ≤ e ∧ e < 32 then W (16 * s + (e - 16)) else 0
theorem cs_wd_b (W : Nat → Int64) (s e : Nat) {j : Nat} (hj : j < 64) : cs_b (cs_wd W s e) j = (decide (1024 ≤ 64 * e + j) && (decide (64 * e + j - 1024 < 1024) && cs_h W s (64 * e + j - 1024))) := by
  unfold cs_wd
  by_cases h : 16 ≤ e ∧ e < 32
  · rw [if_pos h, decide_eq_true (show 1024 ≤ 64 * e + j by omega), decide_eq_true (show 64 * e + j - 1024 < 1024 by omega), show 64 * e + j - 1024 = 64 * (e - 16) + j by omega, cs_h_at W s _ hj]
    rfl
  · rw [if_neg h, cs_b0]
    by_cases z : 1024 ≤ 64 * e + j
    · rw [decide_eq_false (show ¬ 64 * e + j - 1024 < 1024 by omega), Bool.false_and, Bool.and_false]
    · rw [decide_eq_false z, Bool.false_and]
theorem cs_sg_b (W : Nat → Int64) {s B p e : Nat} (he : e + B / 64 = p + 32) (he1 : 1 ≤ e) {i : Nat} (hi : i < 64) : (if B % 64 ≤ i then cs_b (cs_wd W s e) (i - B % 64) else cs_b (cs_wd W s (e - 1)) (64 + i - B % 64)) = cs_sg W s B (64 * p + i) := by
  have hB : B = 64 * (B / 64) + B % 64 := by omega
  have hr : B % 64 < 64 := Nat.mod_lt _ (by decide)
  unfold cs_sg
  by_cases h : B % 64 ≤ i
  · rw [if_pos h, cs_wd_b W s e (by omega), show 64 * e + (i - B % 64) - 1024 = 64 * p + i + 1024 - B by omega, show decide (1024 ≤ 64 * e + (i - B % 64)) = decide (B ≤ 64 * p + i + 1024) from decide_eq_decide.mpr ⟨fun z => by omega, fun z => by omega⟩]
  · rw [if_neg h, cs_wd_b W s (e - 1) (by omega), show 64 * (e - 1) + (64 + i - B % 64) - 1024 = 64 * p + i + 1024 - B by omega, show decide (1024 ≤ 64 * (e - 1) + (64 + i - B % 64)) = decide (B ≤ 64 * p + i + 1024) from decide_eq_decide.mpr ⟨fun z => by omega, fun z => by omega⟩]
theorem cs_shift112 {post : Int32 → SX → Prop} {J : Int32 → (Nat → Int32) → (Nat → Int32) → (Nat → Int32) → (Nat → Int32) → (Nat → Int64) → (Nat → Int64) → (Nat → Int32) → Prop} {x1 x3 me : Int32} {kd ct fl sl : Nat → Int32} {wd mv : Nat → Int64} {mg : Nat → Int32} {p r : Nat} {lo un : Int64} (hp : p < 16) (hr : r < 64)
    (h : ∀ w, (∀ i, i < 64 → cs_b w i = if r ≤ i then cs_b lo (i - r) else cs_b un (64 + i - r)) → J (nI (p + 1)) kd ct fl sl wd (vp_updL mv p w) mg) :
    wX_shift_112 post J x1 x3 (nI r) (nI p) lo un me kd ct fl sl wd mv mg := by
  have hi : vp_in (nI p) 16 := vp_in_nI hp (by decide)
  unfold wX_shift_112
  rw [nI_clamp (show p < 2 ^ 31 by omega), nI_1]
  refine pk_eq r 0 (fun e => ⟨hi, nm_e (nm_e (h _ (fun i hi => ?_)))⟩) (fun e => ⟨hi, nm_e (nm_e (h _ (fun i hi => ?_)))⟩)
  · subst e
    rw [if_pos (Nat.zero_le i), Nat.sub_zero]
  · have e64 : (64 : Int32) - nI r = nI (64 - r) := pk_sub (a := 64) (by omega)
    rw [e64, cs_bor, cs_bshl hr _ hi, cs_bshr (show 64 - r < 64 by omega)]
    by_cases z : r ≤ i
    · rw [if_pos z, decide_eq_true z, cs_bge (show 64 ≤ 64 - r + i by omega), Bool.or_false, Bool.true_and]
    · rw [if_neg z, decide_eq_false z, Bool.false_and, Bool.false_or, show 64 - r + i = 64 + i - r by omega]
theorem cs_shift80 {post : Int32 → SX → Prop} {J : Int32 → (Nat → Int32) → (Nat → Int32) → (Nat → Int32) → (Nat → Int32) → (Nat → Int64) → (Nat → Int64) → (Nat → Int32) → Prop} {W : Nat → Int64} {x3 me : Int32} {kd ct fl sl : Nat → Int32} {wd mv : Nat → Int64} {mg : Nat → Int32} (hX : cs_X W kd ct fl sl wd) {s p r f : Nat} {lo : Int64} (hs : s < 4) (hf : f < 64)
    (h : wX_shift_112 post J (nI s) x3 (nI r) (nI p) lo (cs_wd W s (f + 15)) me kd ct fl sl wd mv mg) :
    wX_shift_80 post J (nI s) x3 (nI r) (nI p) (nI f) lo me kd ct fl sl wd mv mg := by
  unfold wX_shift_80
  unfold cs_wd at h
  refine pk_lt f 1 (fun hl => ?_) (fun hl => pk_lt 16 f (fun hl2 => ?_) (fun hl2 => ?_))
  · rw [if_neg (by omega)] at h
    unfold wX_shift_111
    exact h
  · rw [if_neg (by omega)] at h
    unfold wX_shift_111
    exact h
  · rw [if_pos (by omega), show 16 * s + (f + 15 - 16) = 16 * s + f - 1 by omega] at h
    rw [cs_m16, nI_add, cs_s1 (by omega)]
    exact cs_wordOf hX (by omega) h
theorem cs_shift154 {post : Int32 → SX → Prop} {W : Nat → Int64} {me : Int32} {mv : Nat → Int64} {mg : Nat → Int32} {s : Nat} {g : Nat → Bool} (hs : s < 4) (hmv : ∀ p, p < 16 → ∀ i, i < 64 → cs_b (mv p) i = g (64 * p + i))
    (h : ∀ W' kd ct fl sl wd, cs_G W W' s 16 g → cs_X W' kd ct fl sl wd → post (nI (cs_cn (cs_h W' s) 1024)) (me, kd, ct, fl, sl, wd, mv, mg)) :
    ∀ n p W' kd ct fl sl wd, 16 < n + p → p ≤ 16 → cs_G W W' s p g → cs_X W' kd ct fl sl wd → wX_shift_154 post (nI s) n (nI p) me kd ct fl sl wd mv mg := by
  intro n
  induction n with
  | zero => intro p W' kd ct fl sl wd h1 h2; omega
  | succ n ih =>
    intro p W' kd ct fl sl wd h1 h2 hG hX
    simp (disch := omega) only [wX_shift_154, cs_m16, nI_add, nI_1, nI_clamp]
    refine pk_le 16 p (fun hl => ?_) (fun hl => ⟨vp_in_nI hl (by decide), cs_store hX (by omega) _ (fun kd' ct' fl' sl' wd' hX' => ?_)⟩)
    · have e : p = 16 := by omega
      subst e
      exact cs_total hX hs (h _ _ _ _ _ _ hG hX)
    · exact nm_e (ih (p + 1) _ _ _ _ _ _ (by omega) (by omega) (cs_Gs hG (hmv p hl)) hX')
theorem cs_shift40 {post : Int32 → SX → Prop} {W : Nat → Int64} {me : Int32} {kd ct fl sl : Nat → Int32} {wd : Nat → Int64} {mg : Nat → Int32} (hX : cs_X W kd ct fl sl wd) {s B : Nat} (hs : s < 4) (hB : B ≤ 2047)
    (h : ∀ W' kd ct fl sl wd mv, cs_G W W' s 16 (cs_sg W s B) → cs_X W' kd ct fl sl wd → post (nI (cs_cn (cs_h W' s) 1024)) (me, kd, ct, fl, sl, wd, mv, mg)) :
    ∀ n p mv, 16 < n + p → p ≤ 16 → (∀ q, q < p → ∀ i, i < 64 → cs_b (mv q) i = cs_sg W s B (64 * q + i)) → wX_shift_40 post (nI s) (nI (B / 64) - nI 16) (nI (B % 64)) me n (nI p) kd ct fl sl wd mv mg := by
  intro n
  induction n with
  | zero => intro p mv h1 h2; omega
  | succ n ih =>
    intro p mv h1 h2 hm
    have hr : B % 64 < 64 := Nat.mod_lt _ (by decide)
    simp only [wX_shift_40]
    rw [cs_subsub]
    refine pk_le 16 p (fun hl => ?_) (fun hl => nm_e ?_)
    · refine ⟨17, cs_shift154 (W := W) hs (fun q hq => hm q (by omega)) (fun W' kd' ct' fl' sl' wd' hG hX' => h _ _ _ _ _ _ _ hG hX') 17 0 W kd ct fl sl wd (by omega) (by omega) (cs_G0 _ _ _) hX⟩
    · have K : ∀ w, (∀ i, i < 64 → cs_b w i = cs_sg W s B (64 * p + i)) → wX_shift_40 post (nI s) (nI (B / 64) - nI 16) (nI (B % 64)) me n (nI (p + 1)) kd ct fl sl wd (vp_updL mv p w) mg := by
        intro w hw
        refine ih (p + 1) _ (by omega) (by omega) (fun q hq i hi => ?_)
        by_cases e : q = p
        · subst e; rw [pk_uLs]; exact hw i hi
        · rw [pk_uLn e]; exact hm q (by omega) i hi
      have L : ∀ lo un, lo = cs_wd W s (p + 32 - B / 64) → un = cs_wd W s (p + 32 - B / 64 - 1) → wX_shift_112 post (wX_shift_40 post (nI s) (nI (B / 64) - nI 16) (nI (B % 64)) me n) (nI s) (nI (B / 64) - nI 16) (nI (B % 64)) (nI p) lo un me kd ct fl sl wd mv mg := by
        intro lo un e1 e2
        refine cs_shift112 hl hr (fun w hw => K w (fun i hi => ?_))
        rw [hw i hi, e1, e2]
        exact cs_sg_b W (by omega) (by omega) hi
      clear K
      by_cases hq : p + 16 < B / 64
      · have hneg : nI (p + 16) - nI (B / 64) < 0 := pk_sneg (by omega) hq
        refine br_t hneg ?_
        unfold wX_shift_79 wX_shift_80
        refine br_t (Int32.lt_of_lt_of_le hneg (by decide)) ?_
        unfold wX_shift_111
        refine L 0 0 ?_ ?_
        · unfold cs_wd; rw [if_neg (by omega)]
        · unfold cs_wd; rw [if_neg (by omega)]
      · rw [pk_sub (by omega)]
        refine br_f (nI_pos (by omega)) (pk_le 16 (p + 16 - B / 64) (fun hl2 => ?_) (fun hl2 => ?_))
        · unfold wX_shift_79
          refine cs_shift80 hX hs (by omega) (L 0 _ ?_ ?_)
          · unfold cs_wd; rw [if_neg (by omega)]
          · rw [show p + 32 - B / 64 - 1 = p + 16 - B / 64 + 15 by omega]
        · rw [cs_m16, nI_add]
          refine cs_wordOf hX (by omega) (cs_shift80 hX hs (by omega) (L _ _ ?_ ?_))
          · unfold cs_wd
            rw [if_pos (by omega), show p + 32 - B / 64 - 16 = p + 16 - B / 64 by omega]
          · rw [show p + 32 - B / 64 - 1 = p + 16 - B / 64 + 15 by omega]
theorem cs_yshift29 {post : Int32 → SY → Prop} {W W' : Nat → Int64} {mk : Nat → Int32} (hY : cs_Y W mk) {s B : Nat} (hs : s < 4) (hB : B ≤ 2047) (hG : cs_G W W' s 16 (cs_sg W s B))
    (h : ∀ mk md, cs_Y W' mk → post (nI (cs_cn (cs_h W' s) 1024)) (mk, md)) :
    ∀ n x md, 1024 < n + x → x ≤ 1024 → (∀ y, y < x → md y = cs_01 (cs_sg W s B y)) → wY_shift_29 post (nI s) (nI B - nI 1024) n (nI x) mk md := by
  intro n
  induction n with
  | zero => intro x md h1 h2; omega
  | succ n ih =>
    intro x md h1 h2 hm
    simp (disch := omega) only [wY_shift_29, cs_m1024, nI_add, nI_1, nI_clamp, cs_subsub]
    refine pk_le 1024 x (fun hl => cs_ystore hY hs hG (fun y hy => hm y (by omega)) (fun mk' hY' => h mk' md hY')) (fun hl => ?_)
    have T : ∀ b : Bool, cs_sg W s B x = b → vp_in (nI x) 1024 ∧ ∀ md', md' = upd md x (vp_nar .boolean (cs_01 b)) → ∀ y, y = nI (x + 1) → wY_shift_29 post (nI s) (nI B - nI 1024) n y mk md' := by
      intro b hb
      rw [cs_nar]
      refine ⟨vp_in_nI hl (by decide), nm_e (nm_e (ih (x + 1) _ (by omega) (by omega) (fun y hy => ?_)))⟩
      by_cases e : y = x
      · subst e; rw [pk_us, hb]
      · rw [pk_un e]; exact hm y (by omega)
    have T0 : cs_sg W s B x = false → vp_in (nI x) 1024 ∧ ∀ md', md' = upd md x (vp_nar .boolean 0) → ∀ y, y = nI (x + 1) → wY_shift_29 post (nI s) (nI B - nI 1024) n y mk md' := T false
    have T1 : cs_sg W s B x = true → vp_in (nI x) 1024 ∧ ∀ md', md' = upd md x (vp_nar .boolean 1) → ∀ y, y = nI (x + 1) → wY_shift_29 post (nI s) (nI B - nI 1024) n y mk md' := T true
    clear T
    have eg : cs_sg W s B x = (decide (B ≤ x + 1024) && (decide (x + 1024 - B < 1024) && cs_h W s (x + 1024 - B))) := rfl
    by_cases hlt : x + 1024 < B
    · refine cs_isN_f (Or.inl (pk_sneg (by omega) hlt)) (br_t rfl (T0 ?_))
      rw [eg, decide_eq_false (by omega), Bool.false_and]
    · rw [pk_sub (show B ≤ x + 1024 by omega), pk_sub (show B ≤ 1024 * s + x + 1024 by omega)]
      by_cases hge : x + 1024 - B < 1024
      · refine cs_isN_t hge (br_f (by decide) ⟨vp_in_nI (by omega) (by decide), ?_⟩)
        rw [nI_clamp (by omega), show 1024 * s + x + 1024 - B = 1024 * s + (x + 1024 - B) by omega, hY s _ hs hge]
        rw [decide_eq_true (show B ≤ x + 1024 by omega), decide_eq_true hge, Bool.true_and, Bool.true_and] at eg
        cases hb : cs_h W s (x + 1024 - B) with
        | false => exact br_t rfl (T0 (eg.trans hb))
        | true => exact br_f (by decide) (T1 (eg.trans hb))
      · refine cs_isN_f (Or.inr (nI_le (by omega) (by omega))) (br_t rfl (T0 ?_))
        rw [eg, decide_eq_false hge, Bool.false_and, Bool.and_false]
theorem i_vc_shift {k : Nat} {u : SX} {v : SY} (I : i_Rel k u v) (hk : k + 5 ≤ 2560) (v1 : Int32) (v2 : Int32) : wpX_shift (fun r u' => wpY_shift (fun r' v' => r' = r ∧ i_Rel (k + 5) u' v') v v1 v2) u v1 v2 := by
  refine cs_el (P := fun u v => wpX_shift (fun r u' => wpY_shift (fun r' v' => r' = r ∧ i_Rel (k + 5) u' v') v v1 v2) u v1 v2) ?_ I
  clear I
  intro W me kd ct fl sl wd mv mg mk md hX hY
  unfold wpX_shift wpY_shift
  dsimp only
  rcases cs_ix v1 4 (by omega) with hb | ⟨s, hs, rfl⟩
  · exact cs_bad_t hb (br_f (by decide) (cs_isSet_f hb (br_t rfl ⟨rfl, cs_Rel hX hY⟩)))
  · refine cs_bad_f hs (br_t rfl (br_c (fun h1 => ?_) (fun h1 => br_c (fun h2 => ?_) (fun h2 => ?_))))
    · exact cs_isSet_t hs (br_f (by decide) (br_t h1 ⟨rfl, cs_Rel hX hY⟩))
    · obtain ⟨B, hB1, hB2, rfl⟩ := cs_shB h1 h2
      refine nm_r (cs_shq hB2) (nm_r (cs_shr hB2) ⟨17, ?_⟩)
      refine cs_shift40 hX hs hB2 (fun W' kd' ct' fl' sl' wd' mv' hG hX' => ?_) 17 0 mv (by omega) (by omega) (fun q hq => absurd hq (Nat.not_lt_zero q))
      refine cs_isSet_t hs (br_f (by decide) (br_f h1 (br_t h2 ⟨1025, ?_⟩)))
      exact cs_yshift29 hY hs hB2 hG (fun mk' md' hY' => ⟨rfl, cs_Rel hX' hY'⟩) 1025 0 md (by omega) (by omega) (fun y hy => absurd hy (Nat.not_lt_zero y))
    · exact cs_isSet_t hs (br_f (by decide) (br_f h1 (br_f h2 ⟨rfl, cs_Rel hX hY⟩)))
end
