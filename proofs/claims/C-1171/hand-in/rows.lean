section
/-! pure rows to paste: stores, nI and lN arithmetic, masks, shifts, narrowing, branches by naturals (pk_le, pk_lt, pk_eq), loops (lp1 .. lp16: the measure of the state; rp1 ..: recursion), negatives. Take what you need -/
theorem pk_us {f : Nat → Int32} {k : Nat} {x : Int32} : upd f k x k = x := if_pos rfl
theorem pk_un {f : Nat → Int32} {k j : Nat} {x : Int32} (h : j ≠ k) : upd f k x j = f j := if_neg h
theorem pk_uLs {f : Nat → Int64} {k : Nat} {x : Int64} : vp_updL f k x k = x := if_pos rfl
theorem pk_uLn {f : Nat → Int64} {k j : Nat} {x : Int64} (h : j ≠ k) : vp_updL f k x j = f j := if_neg h
theorem pk_sub {a b : Nat} (h : b ≤ a) : nI a - nI b = nI (a - b) := by
  obtain ⟨c, rfl⟩ : ∃ c, a = c + b := ⟨a - b, by omega⟩
  rw [← nI_add, Int32.add_sub_cancel, Nat.add_sub_cancel]
theorem pk_m1 (n : Nat) : nI (n + 1) + (-1) = nI n := by
  rw [← nI_1, Int32.add_assoc, show (1 : Int32) + (-1) = 0 from rfl, Int32.add_zero]
theorem pk_mul (a b : Nat) : nI a * nI b = nI (a * b) := (Int32.ofNat_mul a b).symm
theorem pk_div {a d : Nat} (ha : a < 2 ^ 31) (h0 : 0 < d) (hd : d < 2 ^ 31) : nI a / nI d = nI (a / d) := by
  apply Int32.toInt_inj.mp
  rw [lg_idiv_nonneg (by rw [nI_toInt ha]; omega) (by rw [nI_toInt hd]; omega), nI_toInt ha, nI_toInt hd, nI_toInt (Nat.lt_of_le_of_lt (Nat.div_le_self a d) ha)]
  first | rfl | exact (Int.natCast_ediv _ _).symm
theorem pk_rem {a d : Nat} (ha : a < 2 ^ 31) (h0 : 0 < d) (hd : d < 2 ^ 31) : nI a - nI a / nI d * nI d = nI (a % d) := by
  rw [pk_div ha h0 hd, pk_mul, pk_sub (Nat.div_mul_le_self a d)]
  exact congrArg nI (by have := Nat.div_add_mod' a d; omega)
theorem pk_sub_toInt {a b : Nat} (ha : a < 2 ^ 30) (hb : b < 2 ^ 30) : (nI a - nI b).toInt = (a : Int) - b := by
  rw [Int32.toInt_sub, nI_toInt (by omega), nI_toInt (by omega)]
  exact Int.bmod_eq_of_le (by omega) (by omega)
theorem pk_sneg {a b : Nat} (hb : b < 2 ^ 30) (h : a < b) : nI a - nI b < 0 := by
  rw [Int32.lt_iff_toInt_lt, pk_sub_toInt (by omega) hb, show (0 : Int32).toInt = 0 from by decide]
  omega
theorem pk_ix (x : Int32) {n : Nat} (hn : n < 2 ^ 31) : x < 0 ∨ nI n ≤ x ∨ ∃ j : Nat, j < n ∧ x = nI j := by
  by_cases h : x < 0
  · exact Or.inl h
  · obtain ⟨j, hj, rfl⟩ := nI_of h
    by_cases h2 : j < n
    · exact Or.inr (Or.inr ⟨j, h2, rfl⟩)
    · exact Or.inr (Or.inl (nI_le (by omega) hj))
theorem pk_le {x y : Int32} {A B : Prop} (a b : Nat) (f : a ≤ b → A) (g : b < a → B) (hx : x = nI a := by rfl) (hy : y = nI b := by rfl) (ha : a < 2 ^ 31 := by omega) (hb : b < 2 ^ 31 := by omega) : (x ≤ y → A) ∧ (¬ x ≤ y → B) := by
  subst hx hy
  rw [nI_leI ha hb]
  exact ⟨f, fun z => g (by omega)⟩
theorem pk_lt {x y : Int32} {A B : Prop} (a b : Nat) (f : a < b → A) (g : b ≤ a → B) (hx : x = nI a := by rfl) (hy : y = nI b := by rfl) (ha : a < 2 ^ 31 := by omega) (hb : b < 2 ^ 31 := by omega) : (x < y → A) ∧ (¬ x < y → B) := by
  subst hx hy
  rw [nI_ltI ha hb]
  exact ⟨f, fun z => g (by omega)⟩
theorem pk_eq {x y : Int32} {A B : Prop} (a b : Nat) (f : a = b → A) (g : a ≠ b → B) (hx : x = nI a := by rfl) (hy : y = nI b := by rfl) (ha : a < 2 ^ 31 := by omega) (hb : b < 2 ^ 31 := by omega) : (x = y → A) ∧ (¬ x = y → B) := by
  subst hx hy
  rw [nI_eq ha hb]
  exact ⟨f, g⟩
theorem pk_in {x : Int32} (n N : Nat) (h : n < N) (hx : x = nI n := by rfl) (hN : N < 2 ^ 31 := by omega) : vp_in x N := by
  subst hx
  exact vp_in_nI h hN
theorem pk_cl {x : Int32} (n : Nat) (hx : x = nI n := by rfl) (h : n < 2 ^ 31 := by omega) : x.toNatClampNeg = n := by
  subst hx
  exact nI_clamp h
theorem pk_tn {n : Nat} (h : n < 2 ^ 32) : (nI n).toBitVec.toNat = n := Nat.mod_eq_of_lt h
theorem pk_and (x : Int32) {m : Int32} (k : Nat) (hm : m.toBitVec.toNat = 2 ^ k - 1) : x &&& m = nI (x.toBitVec.toNat % 2 ^ k) := by
  apply Int32.toBitVec_inj.mp
  apply BitVec.eq_of_toNat_eq
  rw [Int32.toBitVec_and, BitVec.toNat_and, hm, Nat.and_two_pow_sub_one_eq_mod]
  show _ = (BitVec.ofNat 32 _).toNat
  rw [BitVec.toNat_ofNat]
  exact (Nat.mod_eq_of_lt (Nat.lt_of_le_of_lt (Nat.mod_le _ _) x.toBitVec.isLt)).symm
theorem pk_andN {n : Nat} (h : n < 2 ^ 32) {m : Int32} (k : Nat) (hm : m.toBitVec.toNat = 2 ^ k - 1) : nI n &&& m = nI (n % 2 ^ k) := by
  rw [pk_and _ k hm, pk_tn h]
theorem pk_andE (x : Int32) {m : Int32} (k : Nat) (hm : m.toBitVec.toNat = 2 ^ k - 1) : ∃ j : Nat, j < 2 ^ k ∧ x &&& m = nI j := ⟨_, Nat.mod_lt _ (Nat.two_pow_pos k), pk_and x k hm⟩
theorem pk_andIn (x : Int32) {m : Int32} (k : Nat) (hm : m.toBitVec.toNat = 2 ^ k - 1) (hk : k ≤ 30) : vp_in (x &&& m) (2 ^ k) := by
  obtain ⟨j, hj, e⟩ := pk_andE x k hm
  rw [e]
  exact vp_in_nI hj (Nat.lt_of_le_of_lt (Nat.pow_le_pow_right (by decide) hk) (by decide))
theorem pk_shl (a s : Int32) (k : Nat) (hs : (s.toBitVec.smod 32).toNat = k) : (a <<< s).toBitVec.toNat = a.toBitVec.toNat * 2 ^ k % 2 ^ 32 := by
  show (a.toBitVec <<< (s.toBitVec.smod 32).toNat).toNat = _
  rw [hs, BitVec.toNat_shiftLeft, Nat.shiftLeft_eq]
theorem pk_shlN {n : Nat} (s : Int32) (k : Nat) (hs : (s.toBitVec.smod 32).toNat = k) (h : n * 2 ^ k < 2 ^ 32) : nI n <<< s = nI (n * 2 ^ k) := by
  apply Int32.toBitVec_inj.mp
  apply BitVec.eq_of_toNat_eq
  have hn : n < 2 ^ 32 := Nat.lt_of_le_of_lt (Nat.le_mul_of_pos_right n (Nat.two_pow_pos k)) h
  rw [pk_shl _ _ k hs, pk_tn hn, pk_tn h, Nat.mod_eq_of_lt h]
theorem pk_shr (a s : Int32) (k : Nat) (hs : (s.toBitVec.smod 32).toNat = k) : (a >>> s).toInt = a.toInt >>> k := by
  show (a.toBitVec.sshiftRight (s.toBitVec.smod 32).toNat).toInt = _
  rw [hs, BitVec.toInt_sshiftRight]
  rfl
theorem pk_shrN {n : Nat} (h : n < 2 ^ 31) (s : Int32) (k : Nat) (hs : (s.toBitVec.smod 32).toNat = k) : nI n >>> s = nI (n / 2 ^ k) := by
  apply Int32.toInt_inj.mp
  have h2 : n / 2 ^ k ≤ n := Nat.div_le_self _ _
  rw [pk_shr _ _ k hs, nI_toInt h, nI_toInt (by omega), Int.shiftRight_eq_div_pow]
  rfl
theorem pk_ushr (x s : Int32) (k : Nat) (hs : ((s.toUInt32 &&& Int32.toUInt32 31).toBitVec % 32).toNat = k) : (x.toUInt32 >>> (s.toUInt32 &&& Int32.toUInt32 31)).toInt32.toBitVec.toNat = x.toBitVec.toNat / 2 ^ k := by
  have e : (x.toUInt32 >>> (s.toUInt32 &&& Int32.toUInt32 31)).toInt32.toBitVec = x.toBitVec >>> k := by
    rw [← hs]
    exact UInt32.toBitVec_shiftRight _ _
  rw [e, BitVec.toNat_ushiftRight, Nat.shiftRight_eq_div_pow]
theorem pk_ushrN {n : Nat} (hn : n < 2 ^ 32) (s : Int32) (k : Nat) (hs : ((s.toUInt32 &&& Int32.toUInt32 31).toBitVec % 32).toNat = k) : ((nI n).toUInt32 >>> (s.toUInt32 &&& Int32.toUInt32 31)).toInt32 = nI (n / 2 ^ k) := by
  apply Int32.toBitVec_inj.mp
  apply BitVec.eq_of_toNat_eq
  rw [pk_ushr _ s k hs, pk_tn hn, pk_tn (Nat.lt_of_le_of_lt (Nat.div_le_self _ _) hn)]
theorem pk_nb (z : Int32) : narrow .byte (.int z.toInt8.toInt32) = .int z.toInt8.toInt32 := congrArg Value.int (by simp)
theorem pk_ns (z : Int32) : narrow .short (.int z.toInt16.toInt32) = .int z.toInt16.toInt32 := congrArg Value.int (by simp)
theorem pk_fb (r : Int32) : fits .byte (.int r.toInt8.toInt32) = true := by
  have ⟨a, b⟩ := lg_i2b_range r
  have h1 : (-128 : Int32).toInt = -128 := by decide
  have h2 : (127 : Int32).toInt = 127 := by decide
  simp only [fits, Bool.and_eq_true, decide_eq_true_eq, Int32.le_iff_toInt_le, h1, h2]
  omega
theorem pk_fs (r : Int32) : fits .short (.int r.toInt16.toInt32) = true := by
  have ⟨a, b⟩ := lg_i2s_range r
  have h1 : (-32768 : Int32).toInt = -32768 := by decide
  have h2 : (32767 : Int32).toInt = 32767 := by decide
  simp only [fits, Bool.and_eq_true, decide_eq_true_eq, Int32.le_iff_toInt_le, h1, h2]
  omega
theorem pk_charN {q : Nat} (hq : q < 65536) : narrow .char (.int (nI q)) = .int (nI q) ∧ fits .char (.int (nI q)) = true := by
  constructor
  · have e : (nI q).toUInt32.toUInt16.toUInt32.toInt32 = nI q := by
      apply Int32.toBitVec_inj.mp
      apply BitVec.eq_of_toNat_eq
      show (nI q).toUInt32.toUInt16.toUInt32.toNat = q % 2 ^ 32
      rw [UInt16.toNat_toUInt32, UInt32.toNat_toUInt16, show (nI q).toUInt32.toNat = q % 2 ^ 32 from rfl]
      omega
    exact congrArg Value.int e
  · have a : (0 : Int32) ≤ nI q := nI_pos' (by omega)
    have b : nI q ≤ 65535 := nI_le (b := 65535) (by omega) (by decide)
    show (decide ((0 : Int32) ≤ nI q) && decide (nI q ≤ 65535)) = true
    rw [decide_eq_true a, decide_eq_true b]
    rfl
theorem pk_char (x : Int32) : (x.toUInt32 % 65536).toInt32 = nI (x.toBitVec.toNat % 65536) := by
  apply Int32.toBitVec_inj.mp
  apply BitVec.eq_of_toNat_eq
  rw [pk_tn (by omega)]
  show (x.toUInt32 % 65536).toNat = _
  rw [UInt32.toNat_mod]
  rfl
theorem pk_nc (x : Int32) : narrow .char (.int (x.toUInt32 % 65536).toInt32) = .int (x.toUInt32 % 65536).toInt32 := by
  rw [pk_char]
  exact (pk_charN (Nat.mod_lt _ (by decide))).1
theorem pk_fc (x : Int32) : fits .char (.int (x.toUInt32 % 65536).toInt32) = true := by
  rw [pk_char]
  exact (pk_charN (Nat.mod_lt _ (by decide))).2
theorem pk_vb (z : Int32) : vp_nar .byte z.toInt8.toInt32 = z.toInt8.toInt32 := by rw [vp_nar_byte]; simp
theorem pk_vs (z : Int32) : vp_nar .short z.toInt16.toInt32 = z.toInt16.toInt32 := by rw [vp_nar_short]; simp
theorem pk_vc (z : Int32) : vp_nar .char (z.toUInt32 % 65536).toInt32 = (z.toUInt32 % 65536).toInt32 := Value.int.inj (pk_nc z)
theorem pk_lT {n : Nat} (h : n < 2 ^ 63) : (lN n).toInt = (n : Int) := lg_ofNat_toInt h
theorem pk_lLT {a b : Nat} (ha : a < 2 ^ 63) (hb : b < 2 ^ 63) : lN a < lN b ↔ a < b := by
  rw [Int64.lt_iff_toInt_lt, pk_lT ha, pk_lT hb]; omega
theorem pk_lLE {a b : Nat} (ha : a < 2 ^ 63) (hb : b < 2 ^ 63) : lN a ≤ lN b ↔ a ≤ b := by
  rw [Int64.le_iff_toInt_le, pk_lT ha, pk_lT hb]; omega
theorem pk_lEQ {a b : Nat} (ha : a < 2 ^ 63) (hb : b < 2 ^ 63) : lN a = lN b ↔ a = b := by
  rw [← Int64.toInt_inj, pk_lT ha, pk_lT hb]; omega
theorem pk_lOf {x : Int64} (h : ¬ x < 0) : ∃ k : Nat, k < 2 ^ 63 ∧ x = lN k := by
  rw [Int64.lt_iff_toInt_lt] at h
  have h0 : (0 : Int64).toInt = 0 := by decide
  have hx := Int64.toInt_lt x
  refine ⟨x.toInt.toNat, by omega, Int64.toInt_inj.mp ?_⟩
  rw [pk_lT (by omega)]
  omega
theorem pk_lDiv {a b : Nat} (ha : a < 2 ^ 63) (h0 : 0 < b) (hb : b < 2 ^ 63) : lN a / lN b = lN (a / b) := by
  apply Int64.toInt_inj.mp
  rw [lg_ldiv_nonneg (by rw [pk_lT ha]; omega) (by rw [pk_lT hb]; omega), pk_lT ha, pk_lT hb, pk_lT (Nat.lt_of_le_of_lt (Nat.div_le_self a b) ha)]
  rfl
theorem pk_lRem {a b : Nat} (ha : a < 2 ^ 63) (h0 : 0 < b) (hb : b < 2 ^ 63) : lN a - lN a / lN b * lN b = lN (a % b) := by
  rw [pk_lDiv ha h0 hb, lN_mul, lN_sub (Nat.div_mul_le_self a b)]
  exact congrArg lN (by have := Nat.div_add_mod' a b; omega)
theorem pk_loop {σ : Type} (W : Nat → Nat → σ → Prop) (I : Nat → σ → Prop) (e i0 : Nat) (s : σ) (hi : i0 ≤ e) (h0 : I i0 s) (hx : ∀ n s, I e s → W (n + 1) e s)
    (hs : ∀ n i s, i < e → I i s → (∀ s', I (i + 1) s' → W n (i + 1) s') → W (n + 1) i s) : ∃ n, W n i0 s :=
  ⟨e + 1, loop_i W I e hx hs (e + 1) i0 s hi (by omega) h0⟩
theorem pk_loopD {σ : Type} (W : Nat → Nat → σ → Prop) (I : Nat → σ → Prop) (hx : ∀ n s, I 0 s → W (n + 1) 0 s)
    (hs : ∀ n i s, I (i + 1) s → (∀ s', I i s' → W n i s') → W (n + 1) (i + 1) s) : ∀ (e : Nat) (s : σ), I e s → W (e + 1) e s := by
  intro e
  induction e with
  | zero => exact fun s h => hx 0 s h
  | succ e ih => exact fun s h => hs (e + 1) e s h (fun s' h' => ih s' h')
theorem lp1 {A1 : Type} (W : Nat → A1 → Prop) (I : A1 → Prop) (μ : A1 → Nat) (hs : ∀ (n : Nat) (a1 : A1), I a1 → (∀ (b1 : A1), I b1 → μ b1 < μ a1 → W n b1) → W (n + 1) a1) (a1 : A1) (h : I a1) : ∃ n, W n a1 :=
  loop_m (σ := A1) (fun n s => W n s) (fun s => I s) (fun s => μ s) (fun n s hI hk => hs n s hI (fun b1 h9 hm => hk b1 h9 hm)) a1 h
theorem lp2 {A1 A2 : Type} (W : Nat → A1 → A2 → Prop) (I : A1 → A2 → Prop) (μ : A1 → A2 → Nat) (hs : ∀ (n : Nat) (a1 : A1) (a2 : A2), I a1 a2 → (∀ (b1 : A1) (b2 : A2), I b1 b2 → μ b1 b2 < μ a1 a2 → W n b1 b2) → W (n + 1) a1 a2) (a1 : A1) (a2 : A2) (h : I a1 a2) : ∃ n, W n a1 a2 :=
  loop_m (σ := A1 × A2) (fun n s => W n s.1 s.2) (fun s => I s.1 s.2) (fun s => μ s.1 s.2) (fun n s hI hk => hs n s.1 s.2 hI (fun b1 b2 h9 hm => hk (b1, b2) h9 hm)) (a1, a2) h
theorem lp3 {A1 A2 A3 : Type} (W : Nat → A1 → A2 → A3 → Prop) (I : A1 → A2 → A3 → Prop) (μ : A1 → A2 → A3 → Nat) (hs : ∀ (n : Nat) (a1 : A1) (a2 : A2) (a3 : A3), I a1 a2 a3 → (∀ (b1 : A1) (b2 : A2) (b3 : A3), I b1 b2 b3 → μ b1 b2 b3 < μ a1 a2 a3 → W n b1 b2 b3) → W (n + 1) a1 a2 a3) (a1 : A1) (a2 : A2) (a3 : A3) (h : I a1 a2 a3) : ∃ n, W n a1 a2 a3 :=
  loop_m (σ := A1 × A2 × A3) (fun n s => W n s.1 s.2.1 s.2.2) (fun s => I s.1 s.2.1 s.2.2) (fun s => μ s.1 s.2.1 s.2.2) (fun n s hI hk => hs n s.1 s.2.1 s.2.2 hI (fun b1 b2 b3 h9 hm => hk (b1, b2, b3) h9 hm)) (a1, a2, a3) h
theorem lp4 {A1 A2 A3 A4 : Type} (W : Nat → A1 → A2 → A3 → A4 → Prop) (I : A1 → A2 → A3 → A4 → Prop) (μ : A1 → A2 → A3 → A4 → Nat) (hs : ∀ (n : Nat) (a1 : A1) (a2 : A2) (a3 : A3) (a4 : A4), I a1 a2 a3 a4 → (∀ (b1 : A1) (b2 : A2) (b3 : A3) (b4 : A4), I b1 b2 b3 b4 → μ b1 b2 b3 b4 < μ a1 a2 a3 a4 → W n b1 b2 b3 b4) → W (n + 1) a1 a2 a3 a4) (a1 : A1) (a2 : A2) (a3 : A3) (a4 : A4) (h : I a1 a2 a3 a4) : ∃ n, W n a1 a2 a3 a4 :=
  loop_m (σ := A1 × A2 × A3 × A4) (fun n s => W n s.1 s.2.1 s.2.2.1 s.2.2.2) (fun s => I s.1 s.2.1 s.2.2.1 s.2.2.2) (fun s => μ s.1 s.2.1 s.2.2.1 s.2.2.2) (fun n s hI hk => hs n s.1 s.2.1 s.2.2.1 s.2.2.2 hI (fun b1 b2 b3 b4 h9 hm => hk (b1, b2, b3, b4) h9 hm)) (a1, a2, a3, a4) h
theorem lp5 {A1 A2 A3 A4 A5 : Type} (W : Nat → A1 → A2 → A3 → A4 → A5 → Prop) (I : A1 → A2 → A3 → A4 → A5 → Prop) (μ : A1 → A2 → A3 → A4 → A5 → Nat) (hs : ∀ (n : Nat) (a1 : A1) (a2 : A2) (a3 : A3) (a4 : A4) (a5 : A5), I a1 a2 a3 a4 a5 → (∀ (b1 : A1) (b2 : A2) (b3 : A3) (b4 : A4) (b5 : A5), I b1 b2 b3 b4 b5 → μ b1 b2 b3 b4 b5 < μ a1 a2 a3 a4 a5 → W n b1 b2 b3 b4 b5) → W (n + 1) a1 a2 a3 a4 a5) (a1 : A1) (a2 : A2) (a3 : A3) (a4 : A4) (a5 : A5) (h : I a1 a2 a3 a4 a5) : ∃ n, W n a1 a2 a3 a4 a5 :=
  loop_m (σ := A1 × A2 × A3 × A4 × A5) (fun n s => W n s.1 s.2.1 s.2.2.1 s.2.2.2.1 s.2.2.2.2) (fun s => I s.1 s.2.1 s.2.2.1 s.2.2.2.1 s.2.2.2.2) (fun s => μ s.1 s.2.1 s.2.2.1 s.2.2.2.1 s.2.2.2.2) (fun n s hI hk => hs n s.1 s.2.1 s.2.2.1 s.2.2.2.1 s.2.2.2.2 hI (fun b1 b2 b3 b4 b5 h9 hm => hk (b1, b2, b3, b4, b5) h9 hm)) (a1, a2, a3, a4, a5) h
theorem lp6 {A1 A2 A3 A4 A5 A6 : Type} (W : Nat → A1 → A2 → A3 → A4 → A5 → A6 → Prop) (I : A1 → A2 → A3 → A4 → A5 → A6 → Prop) (μ : A1 → A2 → A3 → A4 → A5 → A6 → Nat) (hs : ∀ (n : Nat) (a1 : A1) (a2 : A2) (a3 : A3) (a4 : A4) (a5 : A5) (a6 : A6), I a1 a2 a3 a4 a5 a6 → (∀ (b1 : A1) (b2 : A2) (b3 : A3) (b4 : A4) (b5 : A5) (b6 : A6), I b1 b2 b3 b4 b5 b6 → μ b1 b2 b3 b4 b5 b6 < μ a1 a2 a3 a4 a5 a6 → W n b1 b2 b3 b4 b5 b6) → W (n + 1) a1 a2 a3 a4 a5 a6) (a1 : A1) (a2 : A2) (a3 : A3) (a4 : A4) (a5 : A5) (a6 : A6) (h : I a1 a2 a3 a4 a5 a6) : ∃ n, W n a1 a2 a3 a4 a5 a6 :=
  loop_m (σ := A1 × A2 × A3 × A4 × A5 × A6) (fun n s => W n s.1 s.2.1 s.2.2.1 s.2.2.2.1 s.2.2.2.2.1 s.2.2.2.2.2) (fun s => I s.1 s.2.1 s.2.2.1 s.2.2.2.1 s.2.2.2.2.1 s.2.2.2.2.2) (fun s => μ s.1 s.2.1 s.2.2.1 s.2.2.2.1 s.2.2.2.2.1 s.2.2.2.2.2) (fun n s hI hk => hs n s.1 s.2.1 s.2.2.1 s.2.2.2.1 s.2.2.2.2.1 s.2.2.2.2.2 hI (fun b1 b2 b3 b4 b5 b6 h9 hm => hk (b1, b2, b3, b4, b5, b6) h9 hm)) (a1, a2, a3, a4, a5, a6) h
theorem lp7 {A1 A2 A3 A4 A5 A6 A7 : Type} (W : Nat → A1 → A2 → A3 → A4 → A5 → A6 → A7 → Prop) (I : A1 → A2 → A3 → A4 → A5 → A6 → A7 → Prop) (μ : A1 → A2 → A3 → A4 → A5 → A6 → A7 → Nat) (hs : ∀ (n : Nat) (a1 : A1) (a2 : A2) (a3 : A3) (a4 : A4) (a5 : A5) (a6 : A6) (a7 : A7), I a1 a2 a3 a4 a5 a6 a7 → (∀ (b1 : A1) (b2 : A2) (b3 : A3) (b4 : A4) (b5 : A5) (b6 : A6) (b7 : A7), I b1 b2 b3 b4 b5 b6 b7 → μ b1 b2 b3 b4 b5 b6 b7 < μ a1 a2 a3 a4 a5 a6 a7 → W n b1 b2 b3 b4 b5 b6 b7) → W (n + 1) a1 a2 a3 a4 a5 a6 a7) (a1 : A1) (a2 : A2) (a3 : A3) (a4 : A4) (a5 : A5) (a6 : A6) (a7 : A7) (h : I a1 a2 a3 a4 a5 a6 a7) : ∃ n, W n a1 a2 a3 a4 a5 a6 a7 :=
  loop_m (σ := A1 × A2 × A3 × A4 × A5 × A6 × A7) (fun n s => W n s.1 s.2.1 s.2.2.1 s.2.2.2.1 s.2.2.2.2.1 s.2.2.2.2.2.1 s.2.2.2.2.2.2) (fun s => I s.1 s.2.1 s.2.2.1 s.2.2.2.1 s.2.2.2.2.1 s.2.2.2.2.2.1 s.2.2.2.2.2.2) (fun s => μ s.1 s.2.1 s.2.2.1 s.2.2.2.1 s.2.2.2.2.1 s.2.2.2.2.2.1 s.2.2.2.2.2.2) (fun n s hI hk => hs n s.1 s.2.1 s.2.2.1 s.2.2.2.1 s.2.2.2.2.1 s.2.2.2.2.2.1 s.2.2.2.2.2.2 hI (fun b1 b2 b3 b4 b5 b6 b7 h9 hm => hk (b1, b2, b3, b4, b5, b6, b7) h9 hm)) (a1, a2, a3, a4, a5, a6, a7) h
theorem lp8 {A1 A2 A3 A4 A5 A6 A7 A8 : Type} (W : Nat → A1 → A2 → A3 → A4 → A5 → A6 → A7 → A8 → Prop) (I : A1 → A2 → A3 → A4 → A5 → A6 → A7 → A8 → Prop) (μ : A1 → A2 → A3 → A4 → A5 → A6 → A7 → A8 → Nat) (hs : ∀ (n : Nat) (a1 : A1) (a2 : A2) (a3 : A3) (a4 : A4) (a5 : A5) (a6 : A6) (a7 : A7) (a8 : A8), I a1 a2 a3 a4 a5 a6 a7 a8 → (∀ (b1 : A1) (b2 : A2) (b3 : A3) (b4 : A4) (b5 : A5) (b6 : A6) (b7 : A7) (b8 : A8), I b1 b2 b3 b4 b5 b6 b7 b8 → μ b1 b2 b3 b4 b5 b6 b7 b8 < μ a1 a2 a3 a4 a5 a6 a7 a8 → W n b1 b2 b3 b4 b5 b6 b7 b8) → W (n + 1) a1 a2 a3 a4 a5 a6 a7 a8) (a1 : A1) (a2 : A2) (a3 : A3) (a4 : A4) (a5 : A5) (a6 : A6) (a7 : A7) (a8 : A8) (h : I a1 a2 a3 a4 a5 a6 a7 a8) : ∃ n, W n a1 a2 a3 a4 a5 a6 a7 a8 :=
  loop_m (σ := A1 × A2 × A3 × A4 × A5 × A6 × A7 × A8) (fun n s => W n s.1 s.2.1 s.2.2.1 s.2.2.2.1 s.2.2.2.2.1 s.2.2.2.2.2.1 s.2.2.2.2.2.2.1 s.2.2.2.2.2.2.2) (fun s => I s.1 s.2.1 s.2.2.1 s.2.2.2.1 s.2.2.2.2.1 s.2.2.2.2.2.1 s.2.2.2.2.2.2.1 s.2.2.2.2.2.2.2) (fun s => μ s.1 s.2.1 s.2.2.1 s.2.2.2.1 s.2.2.2.2.1 s.2.2.2.2.2.1 s.2.2.2.2.2.2.1 s.2.2.2.2.2.2.2) (fun n s hI hk => hs n s.1 s.2.1 s.2.2.1 s.2.2.2.1 s.2.2.2.2.1 s.2.2.2.2.2.1 s.2.2.2.2.2.2.1 s.2.2.2.2.2.2.2 hI (fun b1 b2 b3 b4 b5 b6 b7 b8 h9 hm => hk (b1, b2, b3, b4, b5, b6, b7, b8) h9 hm)) (a1, a2, a3, a4, a5, a6, a7, a8) h
theorem lp9 {A1 A2 A3 A4 A5 A6 A7 A8 A9 : Type} (W : Nat → A1 → A2 → A3 → A4 → A5 → A6 → A7 → A8 → A9 → Prop) (I : A1 → A2 → A3 → A4 → A5 → A6 → A7 → A8 → A9 → Prop) (μ : A1 → A2 → A3 → A4 → A5 → A6 → A7 → A8 → A9 → Nat) (hs : ∀ (n : Nat) (a1 : A1) (a2 : A2) (a3 : A3) (a4 : A4) (a5 : A5) (a6 : A6) (a7 : A7) (a8 : A8) (a9 : A9), I a1 a2 a3 a4 a5 a6 a7 a8 a9 → (∀ (b1 : A1) (b2 : A2) (b3 : A3) (b4 : A4) (b5 : A5) (b6 : A6) (b7 : A7) (b8 : A8) (b9 : A9), I b1 b2 b3 b4 b5 b6 b7 b8 b9 → μ b1 b2 b3 b4 b5 b6 b7 b8 b9 < μ a1 a2 a3 a4 a5 a6 a7 a8 a9 → W n b1 b2 b3 b4 b5 b6 b7 b8 b9) → W (n + 1) a1 a2 a3 a4 a5 a6 a7 a8 a9) (a1 : A1) (a2 : A2) (a3 : A3) (a4 : A4) (a5 : A5) (a6 : A6) (a7 : A7) (a8 : A8) (a9 : A9) (h : I a1 a2 a3 a4 a5 a6 a7 a8 a9) : ∃ n, W n a1 a2 a3 a4 a5 a6 a7 a8 a9 :=
  loop_m (σ := A1 × A2 × A3 × A4 × A5 × A6 × A7 × A8 × A9) (fun n s => W n s.1 s.2.1 s.2.2.1 s.2.2.2.1 s.2.2.2.2.1 s.2.2.2.2.2.1 s.2.2.2.2.2.2.1 s.2.2.2.2.2.2.2.1 s.2.2.2.2.2.2.2.2) (fun s => I s.1 s.2.1 s.2.2.1 s.2.2.2.1 s.2.2.2.2.1 s.2.2.2.2.2.1 s.2.2.2.2.2.2.1 s.2.2.2.2.2.2.2.1 s.2.2.2.2.2.2.2.2) (fun s => μ s.1 s.2.1 s.2.2.1 s.2.2.2.1 s.2.2.2.2.1 s.2.2.2.2.2.1 s.2.2.2.2.2.2.1 s.2.2.2.2.2.2.2.1 s.2.2.2.2.2.2.2.2) (fun n s hI hk => hs n s.1 s.2.1 s.2.2.1 s.2.2.2.1 s.2.2.2.2.1 s.2.2.2.2.2.1 s.2.2.2.2.2.2.1 s.2.2.2.2.2.2.2.1 s.2.2.2.2.2.2.2.2 hI (fun b1 b2 b3 b4 b5 b6 b7 b8 b9 h9 hm => hk (b1, b2, b3, b4, b5, b6, b7, b8, b9) h9 hm)) (a1, a2, a3, a4, a5, a6, a7, a8, a9) h
theorem lp10 {A1 A2 A3 A4 A5 A6 A7 A8 A9 A10 : Type} (W : Nat → A1 → A2 → A3 → A4 → A5 → A6 → A7 → A8 → A9 → A10 → Prop) (I : A1 → A2 → A3 → A4 → A5 → A6 → A7 → A8 → A9 → A10 → Prop) (μ : A1 → A2 → A3 → A4 → A5 → A6 → A7 → A8 → A9 → A10 → Nat) (hs : ∀ (n : Nat) (a1 : A1) (a2 : A2) (a3 : A3) (a4 : A4) (a5 : A5) (a6 : A6) (a7 : A7) (a8 : A8) (a9 : A9) (a10 : A10), I a1 a2 a3 a4 a5 a6 a7 a8 a9 a10 → (∀ (b1 : A1) (b2 : A2) (b3 : A3) (b4 : A4) (b5 : A5) (b6 : A6) (b7 : A7) (b8 : A8) (b9 : A9) (b10 : A10), I b1 b2 b3 b4 b5 b6 b7 b8 b9 b10 → μ b1 b2 b3 b4 b5 b6 b7 b8 b9 b10 < μ a1 a2 a3 a4 a5 a6 a7 a8 a9 a10 → W n b1 b2 b3 b4 b5 b6 b7 b8 b9 b10) → W (n + 1) a1 a2 a3 a4 a5 a6 a7 a8 a9 a10) (a1 : A1) (a2 : A2) (a3 : A3) (a4 : A4) (a5 : A5) (a6 : A6) (a7 : A7) (a8 : A8) (a9 : A9) (a10 : A10) (h : I a1 a2 a3 a4 a5 a6 a7 a8 a9 a10) : ∃ n, W n a1 a2 a3 a4 a5 a6 a7 a8 a9 a10 :=
  loop_m (σ := A1 × A2 × A3 × A4 × A5 × A6 × A7 × A8 × A9 × A10) (fun n s => W n s.1 s.2.1 s.2.2.1 s.2.2.2.1 s.2.2.2.2.1 s.2.2.2.2.2.1 s.2.2.2.2.2.2.1 s.2.2.2.2.2.2.2.1 s.2.2.2.2.2.2.2.2.1 s.2.2.2.2.2.2.2.2.2) (fun s => I s.1 s.2.1 s.2.2.1 s.2.2.2.1 s.2.2.2.2.1 s.2.2.2.2.2.1 s.2.2.2.2.2.2.1 s.2.2.2.2.2.2.2.1 s.2.2.2.2.2.2.2.2.1 s.2.2.2.2.2.2.2.2.2) (fun s => μ s.1 s.2.1 s.2.2.1 s.2.2.2.1 s.2.2.2.2.1 s.2.2.2.2.2.1 s.2.2.2.2.2.2.1 s.2.2.2.2.2.2.2.1 s.2.2.2.2.2.2.2.2.1 s.2.2.2.2.2.2.2.2.2) (fun n s hI hk => hs n s.1 s.2.1 s.2.2.1 s.2.2.2.1 s.2.2.2.2.1 s.2.2.2.2.2.1 s.2.2.2.2.2.2.1 s.2.2.2.2.2.2.2.1 s.2.2.2.2.2.2.2.2.1 s.2.2.2.2.2.2.2.2.2 hI (fun b1 b2 b3 b4 b5 b6 b7 b8 b9 b10 h9 hm => hk (b1, b2, b3, b4, b5, b6, b7, b8, b9, b10) h9 hm)) (a1, a2, a3, a4, a5, a6, a7, a8, a9, a10) h
theorem lp11 {A1 A2 A3 A4 A5 A6 A7 A8 A9 A10 A11 : Type} (W : Nat → A1 → A2 → A3 → A4 → A5 → A6 → A7 → A8 → A9 → A10 → A11 → Prop) (I : A1 → A2 → A3 → A4 → A5 → A6 → A7 → A8 → A9 → A10 → A11 → Prop) (μ : A1 → A2 → A3 → A4 → A5 → A6 → A7 → A8 → A9 → A10 → A11 → Nat) (hs : ∀ (n : Nat) (a1 : A1) (a2 : A2) (a3 : A3) (a4 : A4) (a5 : A5) (a6 : A6) (a7 : A7) (a8 : A8) (a9 : A9) (a10 : A10) (a11 : A11), I a1 a2 a3 a4 a5 a6 a7 a8 a9 a10 a11 → (∀ (b1 : A1) (b2 : A2) (b3 : A3) (b4 : A4) (b5 : A5) (b6 : A6) (b7 : A7) (b8 : A8) (b9 : A9) (b10 : A10) (b11 : A11), I b1 b2 b3 b4 b5 b6 b7 b8 b9 b10 b11 → μ b1 b2 b3 b4 b5 b6 b7 b8 b9 b10 b11 < μ a1 a2 a3 a4 a5 a6 a7 a8 a9 a10 a11 → W n b1 b2 b3 b4 b5 b6 b7 b8 b9 b10 b11) → W (n + 1) a1 a2 a3 a4 a5 a6 a7 a8 a9 a10 a11) (a1 : A1) (a2 : A2) (a3 : A3) (a4 : A4) (a5 : A5) (a6 : A6) (a7 : A7) (a8 : A8) (a9 : A9) (a10 : A10) (a11 : A11) (h : I a1 a2 a3 a4 a5 a6 a7 a8 a9 a10 a11) : ∃ n, W n a1 a2 a3 a4 a5 a6 a7 a8 a9 a10 a11 :=
  loop_m (σ := A1 × A2 × A3 × A4 × A5 × A6 × A7 × A8 × A9 × A10 × A11) (fun n s => W n s.1 s.2.1 s.2.2.1 s.2.2.2.1 s.2.2.2.2.1 s.2.2.2.2.2.1 s.2.2.2.2.2.2.1 s.2.2.2.2.2.2.2.1 s.2.2.2.2.2.2.2.2.1 s.2.2.2.2.2.2.2.2.2.1 s.2.2.2.2.2.2.2.2.2.2) (fun s => I s.1 s.2.1 s.2.2.1 s.2.2.2.1 s.2.2.2.2.1 s.2.2.2.2.2.1 s.2.2.2.2.2.2.1 s.2.2.2.2.2.2.2.1 s.2.2.2.2.2.2.2.2.1 s.2.2.2.2.2.2.2.2.2.1 s.2.2.2.2.2.2.2.2.2.2) (fun s => μ s.1 s.2.1 s.2.2.1 s.2.2.2.1 s.2.2.2.2.1 s.2.2.2.2.2.1 s.2.2.2.2.2.2.1 s.2.2.2.2.2.2.2.1 s.2.2.2.2.2.2.2.2.1 s.2.2.2.2.2.2.2.2.2.1 s.2.2.2.2.2.2.2.2.2.2) (fun n s hI hk => hs n s.1 s.2.1 s.2.2.1 s.2.2.2.1 s.2.2.2.2.1 s.2.2.2.2.2.1 s.2.2.2.2.2.2.1 s.2.2.2.2.2.2.2.1 s.2.2.2.2.2.2.2.2.1 s.2.2.2.2.2.2.2.2.2.1 s.2.2.2.2.2.2.2.2.2.2 hI (fun b1 b2 b3 b4 b5 b6 b7 b8 b9 b10 b11 h9 hm => hk (b1, b2, b3, b4, b5, b6, b7, b8, b9, b10, b11) h9 hm)) (a1, a2, a3, a4, a5, a6, a7, a8, a9, a10, a11) h
theorem lp12 {A1 A2 A3 A4 A5 A6 A7 A8 A9 A10 A11 A12 : Type} (W : Nat → A1 → A2 → A3 → A4 → A5 → A6 → A7 → A8 → A9 → A10 → A11 → A12 → Prop) (I : A1 → A2 → A3 → A4 → A5 → A6 → A7 → A8 → A9 → A10 → A11 → A12 → Prop) (μ : A1 → A2 → A3 → A4 → A5 → A6 → A7 → A8 → A9 → A10 → A11 → A12 → Nat) (hs : ∀ (n : Nat) (a1 : A1) (a2 : A2) (a3 : A3) (a4 : A4) (a5 : A5) (a6 : A6) (a7 : A7) (a8 : A8) (a9 : A9) (a10 : A10) (a11 : A11) (a12 : A12), I a1 a2 a3 a4 a5 a6 a7 a8 a9 a10 a11 a12 → (∀ (b1 : A1) (b2 : A2) (b3 : A3) (b4 : A4) (b5 : A5) (b6 : A6) (b7 : A7) (b8 : A8) (b9 : A9) (b10 : A10) (b11 : A11) (b12 : A12), I b1 b2 b3 b4 b5 b6 b7 b8 b9 b10 b11 b12 → μ b1 b2 b3 b4 b5 b6 b7 b8 b9 b10 b11 b12 < μ a1 a2 a3 a4 a5 a6 a7 a8 a9 a10 a11 a12 → W n b1 b2 b3 b4 b5 b6 b7 b8 b9 b10 b11 b12) → W (n + 1) a1 a2 a3 a4 a5 a6 a7 a8 a9 a10 a11 a12) (a1 : A1) (a2 : A2) (a3 : A3) (a4 : A4) (a5 : A5) (a6 : A6) (a7 : A7) (a8 : A8) (a9 : A9) (a10 : A10) (a11 : A11) (a12 : A12) (h : I a1 a2 a3 a4 a5 a6 a7 a8 a9 a10 a11 a12) : ∃ n, W n a1 a2 a3 a4 a5 a6 a7 a8 a9 a10 a11 a12 :=
  loop_m (σ := A1 × A2 × A3 × A4 × A5 × A6 × A7 × A8 × A9 × A10 × A11 × A12) (fun n s => W n s.1 s.2.1 s.2.2.1 s.2.2.2.1 s.2.2.2.2.1 s.2.2.2.2.2.1 s.2.2.2.2.2.2.1 s.2.2.2.2.2.2.2.1 s.2.2.2.2.2.2.2.2.1 s.2.2.2.2.2.2.2.2.2.1 s.2.2.2.2.2.2.2.2.2.2.1 s.2.2.2.2.2.2.2.2.2.2.2) (fun s => I s.1 s.2.1 s.2.2.1 s.2.2.2.1 s.2.2.2.2.1 s.2.2.2.2.2.1 s.2.2.2.2.2.2.1 s.2.2.2.2.2.2.2.1 s.2.2.2.2.2.2.2.2.1 s.2.2.2.2.2.2.2.2.2.1 s.2.2.2.2.2.2.2.2.2.2.1 s.2.2.2.2.2.2.2.2.2.2.2) (fun s => μ s.1 s.2.1 s.2.2.1 s.2.2.2.1 s.2.2.2.2.1 s.2.2.2.2.2.1 s.2.2.2.2.2.2.1 s.2.2.2.2.2.2.2.1 s.2.2.2.2.2.2.2.2.1 s.2.2.2.2.2.2.2.2.2.1 s.2.2.2.2.2.2.2.2.2.2.1 s.2.2.2.2.2.2.2.2.2.2.2) (fun n s hI hk => hs n s.1 s.2.1 s.2.2.1 s.2.2.2.1 s.2.2.2.2.1 s.2.2.2.2.2.1 s.2.2.2.2.2.2.1 s.2.2.2.2.2.2.2.1 s.2.2.2.2.2.2.2.2.1 s.2.2.2.2.2.2.2.2.2.1 s.2.2.2.2.2.2.2.2.2.2.1 s.2.2.2.2.2.2.2.2.2.2.2 hI (fun b1 b2 b3 b4 b5 b6 b7 b8 b9 b10 b11 b12 h9 hm => hk (b1, b2, b3, b4, b5, b6, b7, b8, b9, b10, b11, b12) h9 hm)) (a1, a2, a3, a4, a5, a6, a7, a8, a9, a10, a11, a12) h
theorem lp13 {A1 A2 A3 A4 A5 A6 A7 A8 A9 A10 A11 A12 A13 : Type} (W : Nat → A1 → A2 → A3 → A4 → A5 → A6 → A7 → A8 → A9 → A10 → A11 → A12 → A13 → Prop) (I : A1 → A2 → A3 → A4 → A5 → A6 → A7 → A8 → A9 → A10 → A11 → A12 → A13 → Prop) (μ : A1 → A2 → A3 → A4 → A5 → A6 → A7 → A8 → A9 → A10 → A11 → A12 → A13 → Nat) (hs : ∀ (n : Nat) (a1 : A1) (a2 : A2) (a3 : A3) (a4 : A4) (a5 : A5) (a6 : A6) (a7 : A7) (a8 : A8) (a9 : A9) (a10 : A10) (a11 : A11) (a12 : A12) (a13 : A13), I a1 a2 a3 a4 a5 a6 a7 a8 a9 a10 a11 a12 a13 → (∀ (b1 : A1) (b2 : A2) (b3 : A3) (b4 : A4) (b5 : A5) (b6 : A6) (b7 : A7) (b8 : A8) (b9 : A9) (b10 : A10) (b11 : A11) (b12 : A12) (b13 : A13), I b1 b2 b3 b4 b5 b6 b7 b8 b9 b10 b11 b12 b13 → μ b1 b2 b3 b4 b5 b6 b7 b8 b9 b10 b11 b12 b13 < μ a1 a2 a3 a4 a5 a6 a7 a8 a9 a10 a11 a12 a13 → W n b1 b2 b3 b4 b5 b6 b7 b8 b9 b10 b11 b12 b13) → W (n + 1) a1 a2 a3 a4 a5 a6 a7 a8 a9 a10 a11 a12 a13) (a1 : A1) (a2 : A2) (a3 : A3) (a4 : A4) (a5 : A5) (a6 : A6) (a7 : A7) (a8 : A8) (a9 : A9) (a10 : A10) (a11 : A11) (a12 : A12) (a13 : A13) (h : I a1 a2 a3 a4 a5 a6 a7 a8 a9 a10 a11 a12 a13) : ∃ n, W n a1 a2 a3 a4 a5 a6 a7 a8 a9 a10 a11 a12 a13 :=
  loop_m (σ := A1 × A2 × A3 × A4 × A5 × A6 × A7 × A8 × A9 × A10 × A11 × A12 × A13) (fun n s => W n s.1 s.2.1 s.2.2.1 s.2.2.2.1 s.2.2.2.2.1 s.2.2.2.2.2.1 s.2.2.2.2.2.2.1 s.2.2.2.2.2.2.2.1 s.2.2.2.2.2.2.2.2.1 s.2.2.2.2.2.2.2.2.2.1 s.2.2.2.2.2.2.2.2.2.2.1 s.2.2.2.2.2.2.2.2.2.2.2.1 s.2.2.2.2.2.2.2.2.2.2.2.2) (fun s => I s.1 s.2.1 s.2.2.1 s.2.2.2.1 s.2.2.2.2.1 s.2.2.2.2.2.1 s.2.2.2.2.2.2.1 s.2.2.2.2.2.2.2.1 s.2.2.2.2.2.2.2.2.1 s.2.2.2.2.2.2.2.2.2.1 s.2.2.2.2.2.2.2.2.2.2.1 s.2.2.2.2.2.2.2.2.2.2.2.1 s.2.2.2.2.2.2.2.2.2.2.2.2) (fun s => μ s.1 s.2.1 s.2.2.1 s.2.2.2.1 s.2.2.2.2.1 s.2.2.2.2.2.1 s.2.2.2.2.2.2.1 s.2.2.2.2.2.2.2.1 s.2.2.2.2.2.2.2.2.1 s.2.2.2.2.2.2.2.2.2.1 s.2.2.2.2.2.2.2.2.2.2.1 s.2.2.2.2.2.2.2.2.2.2.2.1 s.2.2.2.2.2.2.2.2.2.2.2.2) (fun n s hI hk => hs n s.1 s.2.1 s.2.2.1 s.2.2.2.1 s.2.2.2.2.1 s.2.2.2.2.2.1 s.2.2.2.2.2.2.1 s.2.2.2.2.2.2.2.1 s.2.2.2.2.2.2.2.2.1 s.2.2.2.2.2.2.2.2.2.1 s.2.2.2.2.2.2.2.2.2.2.1 s.2.2.2.2.2.2.2.2.2.2.2.1 s.2.2.2.2.2.2.2.2.2.2.2.2 hI (fun b1 b2 b3 b4 b5 b6 b7 b8 b9 b10 b11 b12 b13 h9 hm => hk (b1, b2, b3, b4, b5, b6, b7, b8, b9, b10, b11, b12, b13) h9 hm)) (a1, a2, a3, a4, a5, a6, a7, a8, a9, a10, a11, a12, a13) h
theorem lp14 {A1 A2 A3 A4 A5 A6 A7 A8 A9 A10 A11 A12 A13 A14 : Type} (W : Nat → A1 → A2 → A3 → A4 → A5 → A6 → A7 → A8 → A9 → A10 → A11 → A12 → A13 → A14 → Prop) (I : A1 → A2 → A3 → A4 → A5 → A6 → A7 → A8 → A9 → A10 → A11 → A12 → A13 → A14 → Prop) (μ : A1 → A2 → A3 → A4 → A5 → A6 → A7 → A8 → A9 → A10 → A11 → A12 → A13 → A14 → Nat) (hs : ∀ (n : Nat) (a1 : A1) (a2 : A2) (a3 : A3) (a4 : A4) (a5 : A5) (a6 : A6) (a7 : A7) (a8 : A8) (a9 : A9) (a10 : A10) (a11 : A11) (a12 : A12) (a13 : A13) (a14 : A14), I a1 a2 a3 a4 a5 a6 a7 a8 a9 a10 a11 a12 a13 a14 → (∀ (b1 : A1) (b2 : A2) (b3 : A3) (b4 : A4) (b5 : A5) (b6 : A6) (b7 : A7) (b8 : A8) (b9 : A9) (b10 : A10) (b11 : A11) (b12 : A12) (b13 : A13) (b14 : A14), I b1 b2 b3 b4 b5 b6 b7 b8 b9 b10 b11 b12 b13 b14 → μ b1 b2 b3 b4 b5 b6 b7 b8 b9 b10 b11 b12 b13 b14 < μ a1 a2 a3 a4 a5 a6 a7 a8 a9 a10 a11 a12 a13 a14 → W n b1 b2 b3 b4 b5 b6 b7 b8 b9 b10 b11 b12 b13 b14) → W (n + 1) a1 a2 a3 a4 a5 a6 a7 a8 a9 a10 a11 a12 a13 a14) (a1 : A1) (a2 : A2) (a3 : A3) (a4 : A4) (a5 : A5) (a6 : A6) (a7 : A7) (a8 : A8) (a9 : A9) (a10 : A10) (a11 : A11) (a12 : A12) (a13 : A13) (a14 : A14) (h : I a1 a2 a3 a4 a5 a6 a7 a8 a9 a10 a11 a12 a13 a14) : ∃ n, W n a1 a2 a3 a4 a5 a6 a7 a8 a9 a10 a11 a12 a13 a14 :=
  loop_m (σ := A1 × A2 × A3 × A4 × A5 × A6 × A7 × A8 × A9 × A10 × A11 × A12 × A13 × A14) (fun n s => W n s.1 s.2.1 s.2.2.1 s.2.2.2.1 s.2.2.2.2.1 s.2.2.2.2.2.1 s.2.2.2.2.2.2.1 s.2.2.2.2.2.2.2.1 s.2.2.2.2.2.2.2.2.1 s.2.2.2.2.2.2.2.2.2.1 s.2.2.2.2.2.2.2.2.2.2.1 s.2.2.2.2.2.2.2.2.2.2.2.1 s.2.2.2.2.2.2.2.2.2.2.2.2.1 s.2.2.2.2.2.2.2.2.2.2.2.2.2) (fun s => I s.1 s.2.1 s.2.2.1 s.2.2.2.1 s.2.2.2.2.1 s.2.2.2.2.2.1 s.2.2.2.2.2.2.1 s.2.2.2.2.2.2.2.1 s.2.2.2.2.2.2.2.2.1 s.2.2.2.2.2.2.2.2.2.1 s.2.2.2.2.2.2.2.2.2.2.1 s.2.2.2.2.2.2.2.2.2.2.2.1 s.2.2.2.2.2.2.2.2.2.2.2.2.1 s.2.2.2.2.2.2.2.2.2.2.2.2.2) (fun s => μ s.1 s.2.1 s.2.2.1 s.2.2.2.1 s.2.2.2.2.1 s.2.2.2.2.2.1 s.2.2.2.2.2.2.1 s.2.2.2.2.2.2.2.1 s.2.2.2.2.2.2.2.2.1 s.2.2.2.2.2.2.2.2.2.1 s.2.2.2.2.2.2.2.2.2.2.1 s.2.2.2.2.2.2.2.2.2.2.2.1 s.2.2.2.2.2.2.2.2.2.2.2.2.1 s.2.2.2.2.2.2.2.2.2.2.2.2.2) (fun n s hI hk => hs n s.1 s.2.1 s.2.2.1 s.2.2.2.1 s.2.2.2.2.1 s.2.2.2.2.2.1 s.2.2.2.2.2.2.1 s.2.2.2.2.2.2.2.1 s.2.2.2.2.2.2.2.2.1 s.2.2.2.2.2.2.2.2.2.1 s.2.2.2.2.2.2.2.2.2.2.1 s.2.2.2.2.2.2.2.2.2.2.2.1 s.2.2.2.2.2.2.2.2.2.2.2.2.1 s.2.2.2.2.2.2.2.2.2.2.2.2.2 hI (fun b1 b2 b3 b4 b5 b6 b7 b8 b9 b10 b11 b12 b13 b14 h9 hm => hk (b1, b2, b3, b4, b5, b6, b7, b8, b9, b10, b11, b12, b13, b14) h9 hm)) (a1, a2, a3, a4, a5, a6, a7, a8, a9, a10, a11, a12, a13, a14) h
theorem lp15 {A1 A2 A3 A4 A5 A6 A7 A8 A9 A10 A11 A12 A13 A14 A15 : Type} (W : Nat → A1 → A2 → A3 → A4 → A5 → A6 → A7 → A8 → A9 → A10 → A11 → A12 → A13 → A14 → A15 → Prop) (I : A1 → A2 → A3 → A4 → A5 → A6 → A7 → A8 → A9 → A10 → A11 → A12 → A13 → A14 → A15 → Prop) (μ : A1 → A2 → A3 → A4 → A5 → A6 → A7 → A8 → A9 → A10 → A11 → A12 → A13 → A14 → A15 → Nat) (hs : ∀ (n : Nat) (a1 : A1) (a2 : A2) (a3 : A3) (a4 : A4) (a5 : A5) (a6 : A6) (a7 : A7) (a8 : A8) (a9 : A9) (a10 : A10) (a11 : A11) (a12 : A12) (a13 : A13) (a14 : A14) (a15 : A15), I a1 a2 a3 a4 a5 a6 a7 a8 a9 a10 a11 a12 a13 a14 a15 → (∀ (b1 : A1) (b2 : A2) (b3 : A3) (b4 : A4) (b5 : A5) (b6 : A6) (b7 : A7) (b8 : A8) (b9 : A9) (b10 : A10) (b11 : A11) (b12 : A12) (b13 : A13) (b14 : A14) (b15 : A15), I b1 b2 b3 b4 b5 b6 b7 b8 b9 b10 b11 b12 b13 b14 b15 → μ b1 b2 b3 b4 b5 b6 b7 b8 b9 b10 b11 b12 b13 b14 b15 < μ a1 a2 a3 a4 a5 a6 a7 a8 a9 a10 a11 a12 a13 a14 a15 → W n b1 b2 b3 b4 b5 b6 b7 b8 b9 b10 b11 b12 b13 b14 b15) → W (n + 1) a1 a2 a3 a4 a5 a6 a7 a8 a9 a10 a11 a12 a13 a14 a15) (a1 : A1) (a2 : A2) (a3 : A3) (a4 : A4) (a5 : A5) (a6 : A6) (a7 : A7) (a8 : A8) (a9 : A9) (a10 : A10) (a11 : A11) (a12 : A12) (a13 : A13) (a14 : A14) (a15 : A15) (h : I a1 a2 a3 a4 a5 a6 a7 a8 a9 a10 a11 a12 a13 a14 a15) : ∃ n, W n a1 a2 a3 a4 a5 a6 a7 a8 a9 a10 a11 a12 a13 a14 a15 :=
  loop_m (σ := A1 × A2 × A3 × A4 × A5 × A6 × A7 × A8 × A9 × A10 × A11 × A12 × A13 × A14 × A15) (fun n s => W n s.1 s.2.1 s.2.2.1 s.2.2.2.1 s.2.2.2.2.1 s.2.2.2.2.2.1 s.2.2.2.2.2.2.1 s.2.2.2.2.2.2.2.1 s.2.2.2.2.2.2.2.2.1 s.2.2.2.2.2.2.2.2.2.1 s.2.2.2.2.2.2.2.2.2.2.1 s.2.2.2.2.2.2.2.2.2.2.2.1 s.2.2.2.2.2.2.2.2.2.2.2.2.1 s.2.2.2.2.2.2.2.2.2.2.2.2.2.1 s.2.2.2.2.2.2.2.2.2.2.2.2.2.2) (fun s => I s.1 s.2.1 s.2.2.1 s.2.2.2.1 s.2.2.2.2.1 s.2.2.2.2.2.1 s.2.2.2.2.2.2.1 s.2.2.2.2.2.2.2.1 s.2.2.2.2.2.2.2.2.1 s.2.2.2.2.2.2.2.2.2.1 s.2.2.2.2.2.2.2.2.2.2.1 s.2.2.2.2.2.2.2.2.2.2.2.1 s.2.2.2.2.2.2.2.2.2.2.2.2.1 s.2.2.2.2.2.2.2.2.2.2.2.2.2.1 s.2.2.2.2.2.2.2.2.2.2.2.2.2.2) (fun s => μ s.1 s.2.1 s.2.2.1 s.2.2.2.1 s.2.2.2.2.1 s.2.2.2.2.2.1 s.2.2.2.2.2.2.1 s.2.2.2.2.2.2.2.1 s.2.2.2.2.2.2.2.2.1 s.2.2.2.2.2.2.2.2.2.1 s.2.2.2.2.2.2.2.2.2.2.1 s.2.2.2.2.2.2.2.2.2.2.2.1 s.2.2.2.2.2.2.2.2.2.2.2.2.1 s.2.2.2.2.2.2.2.2.2.2.2.2.2.1 s.2.2.2.2.2.2.2.2.2.2.2.2.2.2) (fun n s hI hk => hs n s.1 s.2.1 s.2.2.1 s.2.2.2.1 s.2.2.2.2.1 s.2.2.2.2.2.1 s.2.2.2.2.2.2.1 s.2.2.2.2.2.2.2.1 s.2.2.2.2.2.2.2.2.1 s.2.2.2.2.2.2.2.2.2.1 s.2.2.2.2.2.2.2.2.2.2.1 s.2.2.2.2.2.2.2.2.2.2.2.1 s.2.2.2.2.2.2.2.2.2.2.2.2.1 s.2.2.2.2.2.2.2.2.2.2.2.2.2.1 s.2.2.2.2.2.2.2.2.2.2.2.2.2.2 hI (fun b1 b2 b3 b4 b5 b6 b7 b8 b9 b10 b11 b12 b13 b14 b15 h9 hm => hk (b1, b2, b3, b4, b5, b6, b7, b8, b9, b10, b11, b12, b13, b14, b15) h9 hm)) (a1, a2, a3, a4, a5, a6, a7, a8, a9, a10, a11, a12, a13, a14, a15) h
theorem lp16 {A1 A2 A3 A4 A5 A6 A7 A8 A9 A10 A11 A12 A13 A14 A15 A16 : Type} (W : Nat → A1 → A2 → A3 → A4 → A5 → A6 → A7 → A8 → A9 → A10 → A11 → A12 → A13 → A14 → A15 → A16 → Prop) (I : A1 → A2 → A3 → A4 → A5 → A6 → A7 → A8 → A9 → A10 → A11 → A12 → A13 → A14 → A15 → A16 → Prop) (μ : A1 → A2 → A3 → A4 → A5 → A6 → A7 → A8 → A9 → A10 → A11 → A12 → A13 → A14 → A15 → A16 → Nat) (hs : ∀ (n : Nat) (a1 : A1) (a2 : A2) (a3 : A3) (a4 : A4) (a5 : A5) (a6 : A6) (a7 : A7) (a8 : A8) (a9 : A9) (a10 : A10) (a11 : A11) (a12 : A12) (a13 : A13) (a14 : A14) (a15 : A15) (a16 : A16), I a1 a2 a3 a4 a5 a6 a7 a8 a9 a10 a11 a12 a13 a14 a15 a16 → (∀ (b1 : A1) (b2 : A2) (b3 : A3) (b4 : A4) (b5 : A5) (b6 : A6) (b7 : A7) (b8 : A8) (b9 : A9) (b10 : A10) (b11 : A11) (b12 : A12) (b13 : A13) (b14 : A14) (b15 : A15) (b16 : A16), I b1 b2 b3 b4 b5 b6 b7 b8 b9 b10 b11 b12 b13 b14 b15 b16 → μ b1 b2 b3 b4 b5 b6 b7 b8 b9 b10 b11 b12 b13 b14 b15 b16 < μ a1 a2 a3 a4 a5 a6 a7 a8 a9 a10 a11 a12 a13 a14 a15 a16 → W n b1 b2 b3 b4 b5 b6 b7 b8 b9 b10 b11 b12 b13 b14 b15 b16) → W (n + 1) a1 a2 a3 a4 a5 a6 a7 a8 a9 a10 a11 a12 a13 a14 a15 a16) (a1 : A1) (a2 : A2) (a3 : A3) (a4 : A4) (a5 : A5) (a6 : A6) (a7 : A7) (a8 : A8) (a9 : A9) (a10 : A10) (a11 : A11) (a12 : A12) (a13 : A13) (a14 : A14) (a15 : A15) (a16 : A16) (h : I a1 a2 a3 a4 a5 a6 a7 a8 a9 a10 a11 a12 a13 a14 a15 a16) : ∃ n, W n a1 a2 a3 a4 a5 a6 a7 a8 a9 a10 a11 a12 a13 a14 a15 a16 :=
  loop_m (σ := A1 × A2 × A3 × A4 × A5 × A6 × A7 × A8 × A9 × A10 × A11 × A12 × A13 × A14 × A15 × A16) (fun n s => W n s.1 s.2.1 s.2.2.1 s.2.2.2.1 s.2.2.2.2.1 s.2.2.2.2.2.1 s.2.2.2.2.2.2.1 s.2.2.2.2.2.2.2.1 s.2.2.2.2.2.2.2.2.1 s.2.2.2.2.2.2.2.2.2.1 s.2.2.2.2.2.2.2.2.2.2.1 s.2.2.2.2.2.2.2.2.2.2.2.1 s.2.2.2.2.2.2.2.2.2.2.2.2.1 s.2.2.2.2.2.2.2.2.2.2.2.2.2.1 s.2.2.2.2.2.2.2.2.2.2.2.2.2.2.1 s.2.2.2.2.2.2.2.2.2.2.2.2.2.2.2) (fun s => I s.1 s.2.1 s.2.2.1 s.2.2.2.1 s.2.2.2.2.1 s.2.2.2.2.2.1 s.2.2.2.2.2.2.1 s.2.2.2.2.2.2.2.1 s.2.2.2.2.2.2.2.2.1 s.2.2.2.2.2.2.2.2.2.1 s.2.2.2.2.2.2.2.2.2.2.1 s.2.2.2.2.2.2.2.2.2.2.2.1 s.2.2.2.2.2.2.2.2.2.2.2.2.1 s.2.2.2.2.2.2.2.2.2.2.2.2.2.1 s.2.2.2.2.2.2.2.2.2.2.2.2.2.2.1 s.2.2.2.2.2.2.2.2.2.2.2.2.2.2.2) (fun s => μ s.1 s.2.1 s.2.2.1 s.2.2.2.1 s.2.2.2.2.1 s.2.2.2.2.2.1 s.2.2.2.2.2.2.1 s.2.2.2.2.2.2.2.1 s.2.2.2.2.2.2.2.2.1 s.2.2.2.2.2.2.2.2.2.1 s.2.2.2.2.2.2.2.2.2.2.1 s.2.2.2.2.2.2.2.2.2.2.2.1 s.2.2.2.2.2.2.2.2.2.2.2.2.1 s.2.2.2.2.2.2.2.2.2.2.2.2.2.1 s.2.2.2.2.2.2.2.2.2.2.2.2.2.2.1 s.2.2.2.2.2.2.2.2.2.2.2.2.2.2.2) (fun n s hI hk => hs n s.1 s.2.1 s.2.2.1 s.2.2.2.1 s.2.2.2.2.1 s.2.2.2.2.2.1 s.2.2.2.2.2.2.1 s.2.2.2.2.2.2.2.1 s.2.2.2.2.2.2.2.2.1 s.2.2.2.2.2.2.2.2.2.1 s.2.2.2.2.2.2.2.2.2.2.1 s.2.2.2.2.2.2.2.2.2.2.2.1 s.2.2.2.2.2.2.2.2.2.2.2.2.1 s.2.2.2.2.2.2.2.2.2.2.2.2.2.1 s.2.2.2.2.2.2.2.2.2.2.2.2.2.2.1 s.2.2.2.2.2.2.2.2.2.2.2.2.2.2.2 hI (fun b1 b2 b3 b4 b5 b6 b7 b8 b9 b10 b11 b12 b13 b14 b15 b16 h9 hm => hk (b1, b2, b3, b4, b5, b6, b7, b8, b9, b10, b11, b12, b13, b14, b15, b16) h9 hm)) (a1, a2, a3, a4, a5, a6, a7, a8, a9, a10, a11, a12, a13, a14, a15, a16) h
theorem pk_least (P : Nat → Prop) (h : ∃ k, P k) : ∃ k, P k ∧ ∀ j, j < k → ¬ P j := by
  obtain ⟨k, hk⟩ := h
  induction k using Nat.strongRecOn with
  | ind k ih =>
    by_cases e : ∃ j, j < k ∧ P j
    · obtain ⟨j, hj, pj⟩ := e
      exact ih j hj pj
    · exact ⟨k, hk, fun j hj pj => e ⟨j, hj, pj⟩⟩
theorem rp1 {ρ A1 : Type} (W : Nat → (ρ → Prop) → A1 → Prop) (ok : A1 → Prop) (μ : A1 → Nat) (val : A1 → ρ)
    (hs : ∀ (d : Nat) (post : ρ → Prop) (a1 : A1), ok a1 → post (val a1) → (∀ (post' : ρ → Prop) (b1 : A1), ok b1 → μ b1 < μ a1 → post' (val b1) → W d post' b1) → W (d + 1) post a1) :
    ∀ (d : Nat) (post : ρ → Prop) (a1 : A1), ok a1 → μ a1 < d → post (val a1) → W d post a1 := by
  intro d
  induction d with
  | zero => intro post a1 _ h; omega
  | succ d ih =>
    intro post a1 ho hm hp
    exact hs d post a1 ho hp (fun post' b1 ho' hm' hp' => ih post' b1 ho' (by omega) hp')
theorem rp2 {ρ A1 A2 : Type} (W : Nat → (ρ → Prop) → A1 → A2 → Prop) (ok : A1 → A2 → Prop) (μ : A1 → A2 → Nat) (val : A1 → A2 → ρ)
    (hs : ∀ (d : Nat) (post : ρ → Prop) (a1 : A1) (a2 : A2), ok a1 a2 → post (val a1 a2) → (∀ (post' : ρ → Prop) (b1 : A1) (b2 : A2), ok b1 b2 → μ b1 b2 < μ a1 a2 → post' (val b1 b2) → W d post' b1 b2) → W (d + 1) post a1 a2) :
    ∀ (d : Nat) (post : ρ → Prop) (a1 : A1) (a2 : A2), ok a1 a2 → μ a1 a2 < d → post (val a1 a2) → W d post a1 a2 := by
  intro d
  induction d with
  | zero => intro post a1 a2 _ h; omega
  | succ d ih =>
    intro post a1 a2 ho hm hp
    exact hs d post a1 a2 ho hp (fun post' b1 b2 ho' hm' hp' => ih post' b1 b2 ho' (by omega) hp')
theorem rp3 {ρ A1 A2 A3 : Type} (W : Nat → (ρ → Prop) → A1 → A2 → A3 → Prop) (ok : A1 → A2 → A3 → Prop) (μ : A1 → A2 → A3 → Nat) (val : A1 → A2 → A3 → ρ)
    (hs : ∀ (d : Nat) (post : ρ → Prop) (a1 : A1) (a2 : A2) (a3 : A3), ok a1 a2 a3 → post (val a1 a2 a3) → (∀ (post' : ρ → Prop) (b1 : A1) (b2 : A2) (b3 : A3), ok b1 b2 b3 → μ b1 b2 b3 < μ a1 a2 a3 → post' (val b1 b2 b3) → W d post' b1 b2 b3) → W (d + 1) post a1 a2 a3) :
    ∀ (d : Nat) (post : ρ → Prop) (a1 : A1) (a2 : A2) (a3 : A3), ok a1 a2 a3 → μ a1 a2 a3 < d → post (val a1 a2 a3) → W d post a1 a2 a3 := by
  intro d
  induction d with
  | zero => intro post a1 a2 a3 _ h; omega
  | succ d ih =>
    intro post a1 a2 a3 ho hm hp
    exact hs d post a1 a2 a3 ho hp (fun post' b1 b2 b3 ho' hm' hp' => ih post' b1 b2 b3 ho' (by omega) hp')
theorem rp4 {ρ A1 A2 A3 A4 : Type} (W : Nat → (ρ → Prop) → A1 → A2 → A3 → A4 → Prop) (ok : A1 → A2 → A3 → A4 → Prop) (μ : A1 → A2 → A3 → A4 → Nat) (val : A1 → A2 → A3 → A4 → ρ)
    (hs : ∀ (d : Nat) (post : ρ → Prop) (a1 : A1) (a2 : A2) (a3 : A3) (a4 : A4), ok a1 a2 a3 a4 → post (val a1 a2 a3 a4) → (∀ (post' : ρ → Prop) (b1 : A1) (b2 : A2) (b3 : A3) (b4 : A4), ok b1 b2 b3 b4 → μ b1 b2 b3 b4 < μ a1 a2 a3 a4 → post' (val b1 b2 b3 b4) → W d post' b1 b2 b3 b4) → W (d + 1) post a1 a2 a3 a4) :
    ∀ (d : Nat) (post : ρ → Prop) (a1 : A1) (a2 : A2) (a3 : A3) (a4 : A4), ok a1 a2 a3 a4 → μ a1 a2 a3 a4 < d → post (val a1 a2 a3 a4) → W d post a1 a2 a3 a4 := by
  intro d
  induction d with
  | zero => intro post a1 a2 a3 a4 _ h; omega
  | succ d ih =>
    intro post a1 a2 a3 a4 ho hm hp
    exact hs d post a1 a2 a3 a4 ho hp (fun post' b1 b2 b3 b4 ho' hm' hp' => ih post' b1 b2 b3 b4 ho' (by omega) hp')
theorem rp5 {ρ A1 A2 A3 A4 A5 : Type} (W : Nat → (ρ → Prop) → A1 → A2 → A3 → A4 → A5 → Prop) (ok : A1 → A2 → A3 → A4 → A5 → Prop) (μ : A1 → A2 → A3 → A4 → A5 → Nat) (val : A1 → A2 → A3 → A4 → A5 → ρ)
    (hs : ∀ (d : Nat) (post : ρ → Prop) (a1 : A1) (a2 : A2) (a3 : A3) (a4 : A4) (a5 : A5), ok a1 a2 a3 a4 a5 → post (val a1 a2 a3 a4 a5) → (∀ (post' : ρ → Prop) (b1 : A1) (b2 : A2) (b3 : A3) (b4 : A4) (b5 : A5), ok b1 b2 b3 b4 b5 → μ b1 b2 b3 b4 b5 < μ a1 a2 a3 a4 a5 → post' (val b1 b2 b3 b4 b5) → W d post' b1 b2 b3 b4 b5) → W (d + 1) post a1 a2 a3 a4 a5) :
    ∀ (d : Nat) (post : ρ → Prop) (a1 : A1) (a2 : A2) (a3 : A3) (a4 : A4) (a5 : A5), ok a1 a2 a3 a4 a5 → μ a1 a2 a3 a4 a5 < d → post (val a1 a2 a3 a4 a5) → W d post a1 a2 a3 a4 a5 := by
  intro d
  induction d with
  | zero => intro post a1 a2 a3 a4 a5 _ h; omega
  | succ d ih =>
    intro post a1 a2 a3 a4 a5 ho hm hp
    exact hs d post a1 a2 a3 a4 a5 ho hp (fun post' b1 b2 b3 b4 b5 ho' hm' hp' => ih post' b1 b2 b3 b4 b5 ho' (by omega) hp')
theorem rp6 {ρ A1 A2 A3 A4 A5 A6 : Type} (W : Nat → (ρ → Prop) → A1 → A2 → A3 → A4 → A5 → A6 → Prop) (ok : A1 → A2 → A3 → A4 → A5 → A6 → Prop) (μ : A1 → A2 → A3 → A4 → A5 → A6 → Nat) (val : A1 → A2 → A3 → A4 → A5 → A6 → ρ)
    (hs : ∀ (d : Nat) (post : ρ → Prop) (a1 : A1) (a2 : A2) (a3 : A3) (a4 : A4) (a5 : A5) (a6 : A6), ok a1 a2 a3 a4 a5 a6 → post (val a1 a2 a3 a4 a5 a6) → (∀ (post' : ρ → Prop) (b1 : A1) (b2 : A2) (b3 : A3) (b4 : A4) (b5 : A5) (b6 : A6), ok b1 b2 b3 b4 b5 b6 → μ b1 b2 b3 b4 b5 b6 < μ a1 a2 a3 a4 a5 a6 → post' (val b1 b2 b3 b4 b5 b6) → W d post' b1 b2 b3 b4 b5 b6) → W (d + 1) post a1 a2 a3 a4 a5 a6) :
    ∀ (d : Nat) (post : ρ → Prop) (a1 : A1) (a2 : A2) (a3 : A3) (a4 : A4) (a5 : A5) (a6 : A6), ok a1 a2 a3 a4 a5 a6 → μ a1 a2 a3 a4 a5 a6 < d → post (val a1 a2 a3 a4 a5 a6) → W d post a1 a2 a3 a4 a5 a6 := by
  intro d
  induction d with
  | zero => intro post a1 a2 a3 a4 a5 a6 _ h; omega
  | succ d ih =>
    intro post a1 a2 a3 a4 a5 a6 ho hm hp
    exact hs d post a1 a2 a3 a4 a5 a6 ho hp (fun post' b1 b2 b3 b4 b5 b6 ho' hm' hp' => ih post' b1 b2 b3 b4 b5 b6 ho' (by omega) hp')
theorem rec_p {σ ρ : Type} (W : Nat → (ρ → Prop) → σ → Prop) (ok : σ → Prop) (μ : σ → Nat) (val : σ → ρ)
    (hs : ∀ d s post, ok s → post (val s) → (∀ s' post', ok s' → μ s' < μ s → post' (val s') → W d post' s') → W (d + 1) post s) :
    ∀ d s post, ok s → μ s < d → post (val s) → W d post s := by
  intro d
  induction d with
  | zero => intro s post _ h; omega
  | succ d ih =>
    intro s post ho hm hp
    exact hs d s post ho hp (fun s' post' ho' hm' hp' => ih s' post' ho' (by omega) hp')
theorem rec_q {σ ρ : Type} (W : Nat → (ρ → Prop) → σ → Prop) (ok : σ → Prop) (μ : σ → Nat) (Q : σ → ρ → Prop)
    (hs : ∀ d s post, ok s → (∀ r, Q s r → post r) → (∀ s' post', ok s' → μ s' < μ s → (∀ r, Q s' r → post' r) → W d post' s') → W (d + 1) post s) :
    ∀ d s post, ok s → μ s < d → (∀ r, Q s r → post r) → W d post s := by
  intro d
  induction d with
  | zero => intro s post _ h; omega
  | succ d ih =>
    intro s post ho hm hp
    exact hs d s post ho hp (fun s' post' ho' hm' hp' => ih s' post' ho' (by omega) hp')
def bx_sum (f : Nat → Int32) : Nat → Int32
  | 0 => 0
  | n + 1 => bx_sum f n + f n
theorem ek_u {A : Prop} {B : Nat → Prop} {k N : Nat} (hk : k < N) (h : B k) : (some k = none → A) ∧ (∀ y : Nat, some k = some y → (y < N ∧ B y)) :=
  ⟨fun z => absurd z (Option.some_ne_none k), fun _ e => (by cases e; exact ⟨hk, h⟩)⟩
theorem ek_nu {A : Prop} {B : Nat → Prop} (h : A) : ((none : Option Nat) = none → A) ∧ (∀ y : Nat, (none : Option Nat) = some y → B y) :=
  ⟨fun _ => h, fun _ e => (by cases e)⟩
theorem ek_if {c d A B : Prop} (e : c ↔ d) (f : d → A) (g : ¬ d → B) : (c → A) ∧ (¬ c → B) :=
  ⟨fun z => f (e.mp z), fun z => g (fun y => z (e.mpr y))⟩
theorem ek_v {α : Sort _} {P : α → Prop} {a b : α} (e : a = b) (h : P b) : P a := e ▸ h
theorem co_some {x : Option Nat} {A : Prop} {B : Nat → Prop} (i : Nat) (h : B i) (hx : x = some i := by rfl) : (x = none → A) ∧ (∀ y : Nat, x = some y → B y) := by
  subst hx
  exact ⟨fun e => (nomatch e), fun y e => Option.some.inj e ▸ h⟩
theorem co_none {x : Option Nat} {A : Prop} {B : Nat → Prop} (h : A) (hx : x = none := by rfl) : (x = none → A) ∧ (∀ y : Nat, x = some y → B y) := by
  subst hx
  exact ⟨fun _ => h, fun y e => (nomatch e)⟩
theorem co_any {x : Option Nat} {A : Prop} {B : Nat → Prop} (hn : x = none → A) (hs : ∀ i : Nat, x = some i → B i) : (x = none → A) ∧ (∀ y : Nat, x = some y → B y) := ⟨hn, hs⟩
theorem co_2 {P : Nat → Prop} (h0 : P 0) (h1 : P 1) {i : Nat} (hi : i < 2) : P i :=
  match i, hi with
  | 0, _ => h0
  | 1, _ => h1
theorem co_3 {P : Nat → Prop} (h0 : P 0) (h1 : P 1) (h2 : P 2) {i : Nat} (hi : i < 3) : P i :=
  match i, hi with
  | 0, _ => h0
  | 1, _ => h1
  | 2, _ => h2
theorem co_4 {P : Nat → Prop} (h0 : P 0) (h1 : P 1) (h2 : P 2) (h3 : P 3) {i : Nat} (hi : i < 4) : P i :=
  match i, hi with
  | 0, _ => h0
  | 1, _ => h1
  | 2, _ => h2
  | 3, _ => h3
theorem co_dec {N : Nat} {P : Nat → Prop} [DecidablePred P] (h : (List.range N).all (fun i => decide (P i)) = true) {i : Nat} (hi : i < N) : P i := by
  have := List.all_eq_true.mp h i (List.mem_range.mpr hi)
  exact of_decide_eq_true this
theorem co_tab {α : Type} {l : List α} {d : α} {P : α → Prop} (h : ∀ a, a ∈ l → P a) {i : Nat} (hi : i < l.length) : P (l.getD i d) := by
  rw [List.getD_eq_getElem?_getD, List.getElem?_eq_getElem hi]
  exact h _ (List.getElem_mem hi)
theorem pk_mu {x : Int32} {L : Nat} (h0 : ¬ x < 0) (h : ¬ nI L ≤ x) (hL : L < 2 ^ 31) : ∃ j : Nat, j < L ∧ x = nI j ∧ x + 1 = nI (j + 1) ∧ x.toNatClampNeg = j ∧ L - (x + 1).toNatClampNeg < L - x.toNatClampNeg := by
  obtain ⟨j, hj, rfl⟩ := nI_of h0
  have hl : j < L := Nat.not_le.mp fun q => h (nI_le q hj)
  refine ⟨j, hl, rfl, nI_1 j, nI_clamp hj, ?_⟩
  rw [nI_1, nI_clamp (by omega), nI_clamp hj]
  omega
theorem op_s {α : Type} {r : Option α} {A : Prop} {B : α → Prop} {y : α} (h : r = some y) (b : B y) : (r = none → A) ∧ ∀ z, r = some z → B z :=
  ⟨fun e => (by rw [h] at e; cases e), fun z e => (by rw [h] at e; cases e; exact b)⟩
def l_holds {α : Type} (a : Nat → Option Nat) (LP : List Nat) (p : Nat → α) (c : Nat) (b : Nat → α) : Prop :=
  ∀ j, j < c → ∃ y, a j = some y ∧ y ∈ LP ∧ p y = b j
theorem l_holds_0 {α : Type} {a : Nat → Option Nat} {LP : List Nat} {p b : Nat → α} : l_holds a LP p 0 b := fun j h => absurd h (Nat.not_lt_zero j)
theorem l_in_new (LP : List Nat) (q : Nat) : q ∈ LP ++ [q] := List.mem_append.mpr (Or.inr (List.mem_singleton.mpr rfl))
def l_sum (b : Nat → Int32) : Nat → Int32
  | 0 => 0
  | k + 1 => l_sum b k + b k
theorem sb_shr0 (x : Int32) : x >>> ((0 : Int32) &&& 31) = x := by
  rw [show ((0 : Int32) &&& 31) = 0 by decide]
  simp
theorem sb_shl0 (x : Int32) : x <<< ((0 : Int32) &&& 31) = x := by
  rw [show ((0 : Int32) &&& 31) = 0 by decide]
  simp
theorem sb_cl0 : (0 : Int32).toNatClampNeg = 0 := by decide
theorem sb_m1 {p : Nat} (h : 0 < p) : nI p + (-1) = nI (p - 1) := by
  obtain ⟨q, rfl⟩ : ∃ q, p = q + 1 := ⟨p - 1, by omega⟩
  exact pk_m1 q
def sb_b (c : Nat) : Int32 := (nI c).toInt8.toInt32
theorem sb_byte : ∀ c, c < 256 → sb_b c &&& 255 = nI c ∧ ((nI c).toUInt32 % 65536).toInt32 = nI c ∧ nI c ≤ 255 := by decide +kernel
def sb_Fit (a : Nat → Int32) : Prop := ∀ j, fits .byte (.int (a j)) = true
def sb_Lat (t : Nat → Nat) (n : Nat) (a : Nat → Int32) : Prop := ∀ j, j < n → t j < 256 ∧ a j = sb_b (t j)
theorem sb_fitB (c : Nat) : fits .byte (.int (sb_b c)) = true := pk_fb _
theorem sb_fit0 : sb_Fit (fun _ => 0) := fun _ => by
  show fits .byte (.int 0) = true
  decide
theorem sb_fitU {a : Nat → Int32} {k : Nat} {x : Int32} (h : sb_Fit a) (hx : fits .byte (.int x) = true) : sb_Fit (upd a k x) := by
  intro j
  by_cases e : j = k
  · subst e
    rw [pk_us]
    exact hx
  · rw [pk_un e]
    exact h j
def sb_cat (t : Nat → Nat) (n : Nat) (s : Nat → Nat) : Nat → Nat := fun j => if j < n then t j else s (j - n)
theorem sb_cat_lo {t s : Nat → Nat} {n j : Nat} (h : j < n) : sb_cat t n s j = t j := if_pos h
theorem sb_cat_hi {t s : Nat → Nat} {n j : Nat} : sb_cat t n s (n + j) = s j := by
  show (if n + j < n then t (n + j) else s (n + j - n)) = s j
  rw [if_neg (by omega), Nat.add_sub_cancel_left]
theorem sb_latPut {t s : Nat → Nat} {n w : Nat} {a a' : Nat → Int32} (h : sb_Lat t n a) (hk : ∀ j, j < n → a' j = a j) (hs : ∀ i, i < w → s i < 256 ∧ a' (n + i) = sb_b (s i)) : sb_Lat (sb_cat t n s) (n + w) a' := by
  intro j hj
  by_cases e : j < n
  · rw [sb_cat_lo e, hk j e]
    exact h j e
  · obtain ⟨i, rfl⟩ : ∃ i, j = n + i := ⟨j - n, by omega⟩
    rw [sb_cat_hi]
    exact hs i (by omega)
theorem sb_latKeep {t : Nat → Nat} {n : Nat} {a a' : Nat → Int32} (h : sb_Lat t n a) (hk : ∀ j, j < n → a' j = a j) : sb_Lat t n a' := fun j hj => by
  rw [hk j hj]
  exact h j hj
def sb_cap (q m : Nat) : Nat := if q ≤ m then m else if 2 * m + 2 < q then q else 2 * m + 2
def sb_Room (q m mc ms : Nat) : Prop := q ≤ m ∨ (1 ≤ mc ∧ sb_cap q m ≤ ms ∧ sb_cap q m ≤ 65536)
theorem sb_cap_ge (q m : Nat) : q ≤ sb_cap q m := by
  unfold sb_cap
  split
  · omega
  · split <;> omega
theorem sb_cap_gem (q m : Nat) : m ≤ sb_cap q m := by
  unfold sb_cap
  split
  · omega
  · split <;> omega
theorem sb_cap_le {q m mc ms : Nat} (hm : m ≤ 65536) (hr : sb_Room q m mc ms) : sb_cap q m ≤ 65536 := by
  rcases hr with h | h
  · rw [sb_cap, if_pos h]
    exact hm
  · exact h.2.2
theorem sb_at {P : Int32 → Prop} {x y : Int32} (e : x = y) (h : P y) : P x := e ▸ h
def sb_dg (w : Nat) : Nat := if w < 10 then 1 else if w < 100 then 2 else if w < 1000 then 3 else if w < 10000 then 4 else if w < 100000 then 5 else if w < 1000000 then 6 else if w < 10000000 then 7 else if w < 100000000 then 8 else if w < 1000000000 then 9 else 10
def sb_dec (v : Nat) : Nat → Nat := fun i => 48 + v / 10 ^ (sb_dg v - 1 - i) % 10
theorem sb_dg_in (w : Nat) : 1 ≤ sb_dg w ∧ sb_dg w ≤ 10 := by
  unfold sb_dg
  constructor <;> (repeat' split) <;> omega
theorem sb_dg100 {w : Nat} (h : 100 ≤ w) (hw : w < 2 ^ 31) : sb_dg w = sb_dg (w / 100) + 2 := by
  rw [sb_dg, sb_dg, if_neg (show ¬ w < 10 by omega), if_neg (show ¬ w < 100 by omega)]
  by_cases h3 : w < 1000
  · rw [if_pos h3, if_pos (show w / 100 < 10 by omega)]
  rw [if_neg h3, if_neg (show ¬ w / 100 < 10 by omega)]
  by_cases h4 : w < 10000
  · rw [if_pos h4, if_pos (show w / 100 < 100 by omega)]
  rw [if_neg h4, if_neg (show ¬ w / 100 < 100 by omega)]
  by_cases h5 : w < 100000
  · rw [if_pos h5, if_pos (show w / 100 < 1000 by omega)]
  rw [if_neg h5, if_neg (show ¬ w / 100 < 1000 by omega)]
  by_cases h6 : w < 1000000
  · rw [if_pos h6, if_pos (show w / 100 < 10000 by omega)]
  rw [if_neg h6, if_neg (show ¬ w / 100 < 10000 by omega)]
  by_cases h7 : w < 10000000
  · rw [if_pos h7, if_pos (show w / 100 < 100000 by omega)]
  rw [if_neg h7, if_neg (show ¬ w / 100 < 100000 by omega)]
  by_cases h8 : w < 100000000
  · rw [if_pos h8, if_pos (show w / 100 < 1000000 by omega)]
  rw [if_neg h8, if_neg (show ¬ w / 100 < 1000000 by omega)]
  by_cases h9 : w < 1000000000
  · rw [if_pos h9, if_pos (show w / 100 < 10000000 by omega)]
  rw [if_neg h9, if_neg (show ¬ w / 100 < 10000000 by omega)]
  rw [if_pos (show w / 100 < 100000000 by omega)]
theorem sb_negT {w : Nat} (h : w < 2 ^ 31) : (-nI w).toInt = -(w : Int) := by
  rw [Int32.toInt_neg, nI_toInt h]
  exact Int.bmod_eq_of_le (by omega) (by omega)
theorem sb_nle {a b : Nat} (ha : a < 2 ^ 31) (hb : b < 2 ^ 31) : -nI a ≤ -nI b ↔ b ≤ a := by
  rw [Int32.le_iff_toInt_le, sb_negT ha, sb_negT hb]
  omega
theorem sb_nlt {a b : Nat} (ha : a < 2 ^ 31) (hb : b < 2 ^ 31) : -nI a < -nI b ↔ b < a := by
  rw [Int32.lt_iff_toInt_lt, sb_negT ha, sb_negT hb]
  omega
theorem sb_cmp {A B : Prop} {x : Int32} (v c : Nat) (f : c ≤ v → A) (g : v < c → B) (hv : v < 2 ^ 31) (hx : x = -nI c := by rfl) (hc : c < 2 ^ 31 := by omega) : (-nI v ≤ x → A) ∧ (¬ -nI v ≤ x → B) := by
  subst hx
  rw [sb_nle hv hc]
  exact ⟨f, fun z => g (by omega)⟩
theorem sb_ndiv {w : Nat} (hw : w < 2 ^ 31) : (-nI w) / 100 = -nI (w / 100) := by
  apply Int32.toInt_inj.mp
  have h100 : (100 : Int32).toInt = 100 := by decide
  rw [Int32.toInt_div, sb_negT hw, h100, sb_negT (by omega), Int.neg_tdiv, Int.tdiv_eq_ediv_of_nonneg (by omega), Int.bmod_eq_of_le (by omega) (by omega)]
  omega
theorem sb_nrem {w : Nat} (hw : w < 2 ^ 31) : (-nI (w / 100)) * 100 - (-nI w) = nI (w % 100) := by
  have h := pk_rem (a := w) (d := 100) hw (by decide) (by decide)
  rw [pk_div hw (by decide) (by decide)] at h
  rw [← h]
  show (-nI (w / 100)) * nI 100 - (-nI w) = nI w - nI (w / 100) * nI 100
  rw [Int32.neg_mul, Int32.sub_neg, Int32.add_comm, ← Int32.sub_eq_add_neg]
end
section
/-! rows on bits, shifts and unsigned numbers, to paste: each family out of a closed proof of our own, whole with what it rests on; each by itself clean at Lean in its own claim (generation 39, form 5). Take a family whole -/
/-! ===== Int32 by its bits: bt x i ===== -/
def bt (x : Int32) (i : Nat) : Bool := x.toBitVec.getLsbD i
theorem b_ext {x y : Int32} (h : ∀ i, i < 32 → bt x i = bt y i) : x = y := Int32.toBitVec_inj.mp (BitVec.eq_of_getLsbD_eq (fun i hi => h i hi))
theorem b_or (x y : Int32) (i : Nat) : bt (x ||| y) i = (bt x i || bt y i) := by unfold bt; rw [Int32.toBitVec_or, BitVec.getLsbD_or]
theorem b_and (x y : Int32) (i : Nat) : bt (x &&& y) i = (bt x i && bt y i) := by unfold bt; rw [Int32.toBitVec_and, BitVec.getLsbD_and]
theorem b_xor (x y : Int32) (i : Nat) : bt (x ^^^ y) i = (bt x i ^^ bt y i) := by unfold bt; rw [Int32.toBitVec_xor, BitVec.getLsbD_xor]
theorem b_big {x : Int32} {i : Nat} (h : 32 ≤ i) : bt x i = false := BitVec.getLsbD_of_ge _ _ h
theorem b_255 (i : Nat) : bt 255 i = decide (i < 8) := by
  rcases Nat.lt_or_ge i 32 with h | h
  · exact (by decide +kernel : ∀ i, i < 32 → bt 255 i = decide (i < 8)) i h
  · rw [b_big h, decide_eq_false (by omega)]
theorem b_65535 (i : Nat) : bt 65535 i = decide (i < 16) := by
  rcases Nat.lt_or_ge i 32 with h | h
  · exact (by decide +kernel : ∀ i, i < 32 → bt 65535 i = decide (i < 16)) i h
  · rw [b_big h, decide_eq_false (by omega)]
theorem b_m1 : ∀ i, i < 32 → bt (-1) i = true := by decide +kernel
theorem b_0 (i : Nat) : bt 0 i = false := BitVec.getLsbD_zero
theorem s_l : ∀ n, n < 32 → ((nI n &&& 31).toBitVec.smod 32).toNat = n := by decide +kernel
theorem s_u : ∀ n, n < 32 → (((nI n).toUInt32 &&& Int32.toUInt32 31).toBitVec % 32).toNat = n := by decide +kernel
theorem b_shl (n : Nat) (hn : n < 32) (x : Int32) {i : Nat} (hi : i < 32) : bt (x <<< (nI n &&& 31)) i = (decide (n ≤ i) && bt x (i - n)) := by
  unfold bt
  rw [Int32.toBitVec_shiftLeft]
  show (x.toBitVec <<< ((nI n &&& 31).toBitVec.smod 32).toNat).getLsbD i = _
  rw [s_l n hn, BitVec.getLsbD_shiftLeft]
  rcases Nat.lt_or_ge i n with h | h
  · simp [h, Nat.not_le.mpr h]
  · simp [hi, h, Nat.not_lt.mpr h]
theorem b_ushr (n : Nat) (hn : n < 32) (x : Int32) (i : Nat) : bt ((x.toUInt32 >>> ((nI n).toUInt32 &&& Int32.toUInt32 31)).toInt32) i = bt x (n + i) := by
  show (x.toUInt32 >>> ((nI n).toUInt32 &&& Int32.toUInt32 31)).toBitVec.getLsbD i = x.toUInt32.toBitVec.getLsbD (n + i)
  rw [UInt32.toBitVec_shiftRight]
  show (x.toUInt32.toBitVec >>> (((nI n).toUInt32 &&& Int32.toUInt32 31).toBitVec % 32).toNat).getLsbD i = _
  rw [s_u n hn, BitVec.getLsbD_ushiftRight]
theorem b_sshr (n : Nat) (hn : n < 32) (x : Int32) {i : Nat} (hi : i < 32) : bt (x >>> (nI n &&& 31)) i = if n + i < 32 then bt x (n + i) else bt x 31 := by
  unfold bt
  rw [Int32.toBitVec_shiftRight]
  show (x.toBitVec.sshiftRight ((nI n &&& 31).toBitVec.smod 32).toNat).getLsbD i = _
  rw [s_l n hn, BitVec.getLsbD_sshiftRight, BitVec.msb_eq_getLsbD_last]
  simp [hi]
theorem b_shl8 (x : Int32) {i : Nat} (hi : i < 32) : bt (x <<< ((8 : Int32) &&& 31)) i = (decide (8 ≤ i) && bt x (i - 8)) := b_shl 8 (by omega) x hi
theorem b_shl16 (x : Int32) {i : Nat} (hi : i < 32) : bt (x <<< ((16 : Int32) &&& 31)) i = (decide (16 ≤ i) && bt x (i - 16)) := b_shl 16 (by omega) x hi
theorem b_shl24 (x : Int32) {i : Nat} (hi : i < 32) : bt (x <<< ((24 : Int32) &&& 31)) i = (decide (24 ≤ i) && bt x (i - 24)) := b_shl 24 (by omega) x hi
theorem b_sshr8 (x : Int32) {i : Nat} (hi : i < 32) : bt (x >>> ((8 : Int32) &&& 31)) i = if 8 + i < 32 then bt x (8 + i) else bt x 31 := b_sshr 8 (by omega) x hi
/-! ===== nI under and, xor, >>>, one bit, 65535 ===== -/
theorem nx_and (a b : Nat) : nI a &&& nI b = nI (a &&& b) := by
  apply Int32.toBitVec_inj.1
  show BitVec.ofNat 32 a &&& BitVec.ofNat 32 b = BitVec.ofNat 32 (a &&& b)
  apply BitVec.eq_of_getLsbD_eq
  intro i hi
  simp [hi]
theorem nx_xor (a b : Nat) : nI a ^^^ nI b = nI (a ^^^ b) := by
  apply Int32.toBitVec_inj.1
  show BitVec.ofNat 32 a ^^^ BitVec.ofNat 32 b = BitVec.ofNat 32 (a ^^^ b)
  apply BitVec.eq_of_getLsbD_eq
  intro i hi
  simp [hi]
theorem nx_cnt : ∀ j : Fin 32, (UInt32.ofNat j.val &&& Int32.toUInt32 31).toNat % 32 = j.val := by decide +kernel
theorem nx_ush {k j : Nat} (hk : k < 65536) (hj : j < 32) : ((nI k).toUInt32 >>> ((nI j).toUInt32 &&& Int32.toUInt32 31)).toInt32 = nI (k >>> j) := by
  have hs : k >>> j ≤ k := by
    rw [Nat.shiftRight_eq_div_pow]
    exact Nat.div_le_self _ _
  have e2 : UInt32.ofNat k >>> (UInt32.ofNat j &&& Int32.toUInt32 31) = UInt32.ofNat (k >>> j) := by
    apply UInt32.toNat_inj.1
    have h1 : (UInt32.ofNat k).toNat = k := Nat.mod_eq_of_lt (by omega)
    have h2 : (UInt32.ofNat (k >>> j)).toNat = k >>> j := Nat.mod_eq_of_lt (by omega)
    rw [UInt32.toNat_shiftRight, nx_cnt ⟨j, hj⟩, h1, h2]
  show (UInt32.ofNat k >>> (UInt32.ofNat j &&& Int32.toUInt32 31)).toInt32 = _
  rw [e2]
  rfl
theorem nx_bit {k j : Nat} (hk : k < 65536) (hj : j < 16) : (((nI k).toUInt32 >>> ((nI j).toUInt32 &&& Int32.toUInt32 31)).toInt32 &&& 1) = 0 ↔ k.testBit j = false := by
  rw [nx_ush hk (by omega)]
  show nI (k >>> j) &&& nI 1 = 0 ↔ _
  rw [nx_and, Nat.and_one_is_mod, ← nI_0, nI_eq (by omega) (by omega), Nat.testBit_eq_decide_div_mod_eq, Nat.shiftRight_eq_div_pow, decide_eq_false_iff_not]
  generalize k / 2 ^ j = z
  omega
theorem nx_mod (k : Nat) : nI k &&& 65535 = nI (k % 65536) := by
  show nI k &&& nI 65535 = _
  rw [nx_and, show (65535 : Nat) = 2 ^ 16 - 1 from rfl, Nat.and_two_pow_sub_one_eq_mod]
theorem nx_m16 {k : Nat} (h : k < 65536) : nI k &&& 65535 = nI k := by rw [nx_mod, Nat.mod_eq_of_lt h]
theorem nx_mask (x : Int32) : ∃ k, k < 65536 ∧ x &&& 65535 = nI k := by
  have e : x = nI x.toBitVec.toNat := by
    apply Int32.toBitVec_inj.1
    show x.toBitVec = BitVec.ofNat 32 x.toBitVec.toNat
    simp
  refine ⟨x.toBitVec.toNat % 65536, Nat.mod_lt _ (by omega), ?_⟩
  rw [← nx_mod, ← e]
/-! ===== Int32 as a set of bits: test, set ===== -/
def nf_M (m : Int32) : Nat := 4294967296 - m.toBitVec.toNat
theorem nf_sh : ∀ l, l < 32 → ((1 : Int32) <<< (nI l &&& 31)).toBitVec = BitVec.twoPow 32 l := by decide +kernel
theorem nf_sl : ∀ l, l < 32 → (((nI l).toUInt32 &&& Int32.toUInt32 31).toBitVec % 32).toNat = l := by decide +kernel
theorem nf_tp : ∀ l, l < 32 → BitVec.twoPow 32 l ≠ 0#32 := by decide +kernel
theorem nf_bit (m : Int32) (l : Nat) (hl : l < 32) : ((m.toUInt32 >>> ((nI l).toUInt32 &&& Int32.toUInt32 31)).toInt32 &&& 1) = 0 ↔ (m &&& ((1 : Int32) <<< (nI l &&& 31))) = 0 := by
  have e : ((m.toUInt32 >>> ((nI l).toUInt32 &&& Int32.toUInt32 31)).toInt32).toBitVec = m.toBitVec >>> l := by
    show m.toBitVec >>> (((nI l).toUInt32 &&& Int32.toUInt32 31).toBitVec % 32) = m.toBitVec >>> l
    rw [BitVec.ushiftRight_eq', nf_sl l hl]
  rw [← Int32.toBitVec_inj, ← Int32.toBitVec_inj, Int32.toBitVec_and, Int32.toBitVec_and, nf_sh l hl, e, BitVec.and_twoPow]
  show (m.toBitVec >>> l &&& 1#32) = 0#32 ↔ _ = 0#32
  rw [BitVec.and_one_eq_setWidth_ofBool_getLsbD, BitVec.getLsbD_ushiftRight, Nat.add_zero]
  cases hb : m.toBitVec.getLsbD l
  · exact ⟨fun _ => by simp, fun _ => by decide⟩
  · exact ⟨fun z => absurd z (by decide), fun z => absurd ((if_pos rfl).symm.trans z) (nf_tp l hl)⟩
theorem nf_gr (m k : Int32) (h : m &&& k = 0) (hk : k ≠ 0) : nf_M (m ||| k) < nf_M m := by
  have hm := m.toBitVec.isLt
  have hm' := (m ||| k).toBitVec.isLt
  have h1 : m.toBitVec.toNat ≤ (m ||| k).toBitVec.toNat := by
    rw [Int32.toBitVec_or, BitVec.toNat_or]
    exact Nat.left_le_or
  have h2 : m.toBitVec.toNat ≠ (m ||| k).toBitVec.toNat := by
    intro e
    have e2 : m = m ||| k := Int32.toBitVec_inj.mp (BitVec.eq_of_toNat_eq e)
    apply hk
    apply Int32.toBitVec_inj.mp
    show k.toBitVec = 0#32
    apply BitVec.eq_of_getLsbD_eq
    intro i hi
    have a : m.toBitVec.getLsbD i = (m.toBitVec.getLsbD i || k.toBitVec.getLsbD i) := by rw [← BitVec.getLsbD_or, ← Int32.toBitVec_or, ← e2]
    have b : (m.toBitVec.getLsbD i && k.toBitVec.getLsbD i) = false := by
      rw [← BitVec.getLsbD_and, ← Int32.toBitVec_and, h]
      exact BitVec.getLsbD_zero
    rw [BitVec.getLsbD_zero]
    revert a b
    cases m.toBitVec.getLsbD i <;> cases k.toBitVec.getLsbD i <;> simp
  unfold nf_M
  omega
/-! ===== a byte read unsigned ===== -/
theorem bp_b (x : Int32) : x.toInt8.toInt32 &&& 255 = x &&& 255 := by
  apply Int32.toBitVec_inj.mp
  rw [Int32.toBitVec_and, Int32.toBitVec_and, Int8.toBitVec_toInt32, Int32.toBitVec_toInt8]
  apply BitVec.eq_of_getLsbD_eq
  intro i hi
  rw [BitVec.getLsbD_and, BitVec.getLsbD_and]
  have hm : ∀ i < 32, 8 ≤ i → (255 : Int32).toBitVec.getLsbD i = false := by decide
  rcases Nat.lt_or_ge i 8 with z | z
  · rw [BitVec.getLsbD_signExtend, BitVec.getLsbD_signExtend, if_pos z, if_pos hi]
    simp only [z, hi, decide_true, Bool.true_and]
  · rw [hm i hi z]; simp
/-! ===== the char cast and 65535 ===== -/
theorem em_w (v : Int32) : ∃ w : Nat, w < 65536 ∧ (v.toUInt32 % 65536).toInt32 = nI w ∧ v &&& 65535 = nI w := by
  have hr := lw_u16_r v
  have h0 : (0 : Int32).toInt = 0 := by decide
  obtain ⟨w, h1, h2⟩ := nI_of (x := lw_u16 v) (by rw [Int32.lt_iff_toInt_lt]; omega)
  have h3 : (v.toUInt32 % 65536).toInt32 = nI w := h2
  rw [h2, nI_toInt h1] at hr
  exact ⟨w, by omega, h3, by rw [← lg_i2c_mask, ← lg_i2c_nf, h3]⟩
end
section
/-! numbers, bits as sets -/
theorem cd_1 : ∀ i, i < 32 → bt 1 i = decide (i = 0) := by decide +kernel
theorem cd_b0 (x : Int32) {j : Nat} (hj : j < 32) : bt ((x >>> (nI j &&& 31)) &&& 1) 0 = bt x j := by
  rw [b_and, b_sshr j hj x (by omega), cd_1 0 (by omega)]
  simp [hj]
theorem cd_b0s (x : Int32) {j i : Nat} (hi : i + 1 < 32) : bt ((x >>> (nI j &&& 31)) &&& 1) (i + 1) = false := by
  rw [b_and, cd_1 (i + 1) hi]
  simp
theorem cd_t0 (x : Int32) {j : Nat} (hj : j < 32) : ((x >>> (nI j &&& 31)) &&& 1) = 0 ↔ bt x j = false := by
  constructor
  · intro h
    rw [← cd_b0 x hj, h, b_0]
  · intro h
    apply b_ext
    intro i hi
    rw [b_0]
    cases i with
    | zero => rw [cd_b0 x hj, h]
    | succ i => exact cd_b0s x hi
theorem cd_t1 (x : Int32) {j : Nat} (hj : j < 32) : ((x >>> (nI j &&& 31)) &&& 1) = 1 ↔ bt x j = true := by
  constructor
  · intro h
    rw [← cd_b0 x hj, h, cd_1 0 (by omega)]
    rfl
  · intro h
    apply b_ext
    intro i hi
    rw [cd_1 i hi]
    cases i with
    | zero => rw [cd_b0 x hj, h]; rfl
    | succ i => rw [cd_b0s x hi]; simp
theorem cd_sh {j i : Nat} (hj : j < 32) (hi : i < 32) : bt ((1 : Int32) <<< (nI j &&& 31)) i = decide (i = j) := by
  rw [b_shl j hj 1 hi, cd_1 (i - j) (by omega), Bool.eq_iff_iff]
  simp only [Bool.and_eq_true, decide_eq_true_eq]
  omega
theorem cd_not (x : Int32) {i : Nat} (hi : i < 32) : bt (x ^^^ (-1)) i = !bt x i := by
  rw [b_xor, b_m1 i hi, Bool.xor_true]
theorem cd_bn {s i : Nat} (hi : i < 32) : bt (nI s) i = s.testBit i := by
  show (BitVec.ofNat 32 s).getLsbD i = _
  rw [BitVec.getLsbD_ofNat]
  simp [hi]
/-- x holds just the numbers of P -/
def cd_R (x : Int32) (P : Nat → Prop) : Prop := ∀ t, t < 32 → (bt x t = true ↔ P t)
theorem cd_Ru {x y : Int32} {P : Nat → Prop} (h : cd_R x P) (h' : cd_R y P) : x = y := by
  apply b_ext
  intro i hi
  rw [Bool.eq_iff_iff, h i hi, h' i hi]
theorem cd_Rc {x : Int32} {P Q : Nat → Prop} (h : cd_R x P) (e : ∀ t, t < 32 → (P t ↔ Q t)) : cd_R x Q :=
  fun t ht => (h t ht).trans (e t ht)
theorem cd_Ror {x y : Int32} {P Q : Nat → Prop} (h : cd_R x P) (h' : cd_R y Q) : cd_R (x ||| y) (fun t => P t ∨ Q t) := by
  intro t ht
  rw [b_or, Bool.or_eq_true, h t ht, h' t ht]
theorem cd_Rand {x y : Int32} {P Q : Nat → Prop} (h : cd_R x P) (h' : cd_R y Q) : cd_R (x &&& y) (fun t => P t ∧ Q t) := by
  intro t ht
  rw [b_and, Bool.and_eq_true, h t ht, h' t ht]
theorem cd_Rnot {x : Int32} {P : Nat → Prop} (h : cd_R x P) : cd_R (x ^^^ (-1)) (fun t => ¬ P t) := by
  intro t ht
  show _ ↔ ¬ P t
  rw [cd_not x ht, Bool.not_eq_true', ← h t ht, Bool.not_eq_true]
theorem cd_R0 : cd_R 0 (fun _ => False) := by
  intro t _
  rw [b_0]
  simp
theorem cd_Rsh {j : Nat} (hj : j < 32) : cd_R ((1 : Int32) <<< (nI j &&& 31)) (fun t => t = j) := by
  intro t ht
  rw [cd_sh hj ht, decide_eq_true_eq]
theorem cd_Rn {s : Nat} : cd_R (nI s) (fun t => s.testBit t = true) := fun t ht => by rw [cd_bn ht]
theorem cd_Rt0 {x : Int32} {P : Nat → Prop} (h : cd_R x P) {j : Nat} (hj : j < 32) : ((x >>> (nI j &&& 31)) &&& 1) = 0 ↔ ¬ P j := by
  rw [cd_t0 x hj, ← h j hj, Bool.not_eq_true]
theorem cd_Rt1 {x : Int32} {P : Nat → Prop} (h : cd_R x P) {j : Nat} (hj : j < 32) : ((x >>> (nI j &&& 31)) &&& 1) = 1 ↔ P j := by
  rw [cd_t1 x hj, h j hj]
/-- the branch on a bit, either form -/
theorem cd_r0 {x : Int32} {P : Nat → Prop} {A B : Prop} (h : cd_R x P) {j : Nat} (hj : j < 32) (f : ¬ P j → A) (g : P j → B) : (((x >>> (nI j &&& 31)) &&& 1) = 0 → A) ∧ (¬ ((x >>> (nI j &&& 31)) &&& 1) = 0 → B) := by
  rw [cd_Rt0 h hj]
  exact ⟨f, fun z => g (Classical.not_not.mp z)⟩
theorem cd_r1 {x : Int32} {P : Nat → Prop} {A B : Prop} (h : cd_R x P) {j : Nat} (hj : j < 32) (f : P j → A) (g : ¬ P j → B) : (((x >>> (nI j &&& 31)) &&& 1) = 1 → A) ∧ (¬ ((x >>> (nI j &&& 31)) &&& 1) = 1 → B) := by
  rw [cd_Rt1 h hj]
  exact ⟨f, g⟩
theorem cd_bi {c d A B : Prop} (e : c ↔ d) (f : d → A) (g : ¬ d → B) : (c → A) ∧ (¬ c → B) := by
  rw [e]
  exact ⟨f, g⟩
/-- a set of numbers below 8 is a number below 256 -/
theorem cd_R8 {x : Int32} {P : Nat → Prop} (h : cd_R x P) (h8 : ∀ t, P t → t < 8) : ∃ s, s < 256 ∧ x = nI s := by
  have e : x &&& 255 = x := by
    apply b_ext
    intro i hi
    rw [b_and, b_255]
    cases hb : bt x i
    · rfl
    · simp [h8 i ((h i hi).mp hb)]
  obtain ⟨s, hs, es⟩ := pk_andE x (m := 255) 8 (by decide)
  exact ⟨s, hs, by rw [← es, e]⟩
theorem cd_s16 : ∀ s, s < 256 → (nI s).toInt16.toInt32 = nI s := by decide +kernel
theorem cd_s8 : ∀ s, s < 128 → (nI s).toInt8.toInt32 = nI s := by decide +kernel
theorem cd_vs {s : Nat} (h : s < 256) : vp_nar .short (nI s).toInt16.toInt32 = nI s := by rw [pk_vs, cd_s16 s h]
theorem cd_vb {s : Nat} (h : s < 128) : vp_nar .byte (nI s).toInt8.toInt32 = nI s := by rw [pk_vb, cd_s8 s h]
theorem cd_vb' {s : Nat} (h : s < 128) : vp_nar .byte (nI s) = nI s := by rw [vp_nar_byte, cd_s8 s h]
theorem cd_vs0 : vp_nar .short 0 = 0 := by rw [vp_nar_short]; decide
theorem cd_vb0 : vp_nar .byte 0 = 0 := by rw [vp_nar_byte]; decide
theorem cd_vbm1 : vp_nar .byte (-1) = -1 := by rw [vp_nar_byte]; decide
theorem cd_vbm2 : vp_nar .byte (-2) = -2 := by rw [vp_nar_byte]; decide
theorem cd_Rs {x : Int32} {P : Nat → Prop} (h : cd_R x P) (h8 : ∀ t, P t → t < 8) : vp_nar .short x.toInt16.toInt32 = x := by
  obtain ⟨s, hs, rfl⟩ := cd_R8 h h8
  exact cd_vs hs
theorem cd_us {f : Nat → Int32} {k : Nat} {x : Int32} : upd f k x k = x := if_pos rfl
theorem cd_un {f : Nat → Int32} {k j : Nat} {x : Int32} (h : j ≠ k) : upd f k x j = f j := if_neg h
theorem cd_ue {f : Nat → Int32} {k : Nat} {x : Int32} (h : f k = x) : upd f k x = f := by
  funext j
  by_cases e : j = k
  · subst e; rw [cd_us, h]
  · exact cd_un e
theorem cd_n1 {a : Nat} (h : a < 2 ^ 31) : ¬ nI a = -1 := by
  intro e
  have := nI_pos (n := a) h
  rw [e] at this
  exact this (by decide)
theorem cd_n2 {a : Nat} (h : a < 2 ^ 31) : ¬ nI a = -2 := by
  intro e
  have := nI_pos (n := a) h
  rw [e] at this
  exact this (by decide)
theorem cd_m1 {p : Nat} (h : 0 < p) : nI p + (-1) = nI (p - 1) := by
  obtain ⟨m, rfl⟩ : ∃ m, p = m + 1 := ⟨p - 1, by omega⟩
  exact pk_m1 m
theorem cd_d1 {p : Nat} (h : 0 < p) : nI p - 1 = nI (p - 1) := by
  obtain ⟨m, rfl⟩ : ∃ m, p = m + 1 := ⟨p - 1, by omega⟩
  exact nI_pred m
theorem cd_cl {n : Nat} (h : n < 2 ^ 31) : (nI n).toNatClampNeg = n := nI_clamp h
/-- growth of a set -/
def cd_v (x : Int32) : Nat := x.toBitVec.toNat
theorem cd_vle {x y : Int32} (h : ∀ t, t < 32 → bt x t = true → bt y t = true) : cd_v x ≤ cd_v y := by
  have e : y = x ||| y := by
    apply b_ext
    intro i hi
    rw [b_or]
    cases hb : bt x i
    · rfl
    · rw [h i hi hb]; rfl
  unfold cd_v
  rw [e, Int32.toBitVec_or, BitVec.toNat_or]
  exact Nat.left_le_or
theorem cd_vlt {x y : Int32} (h : ∀ t, t < 32 → bt x t = true → bt y t = true) (hn : ¬ y = x) : cd_v x < cd_v y := by
  have h1 := cd_vle h
  have h2 : cd_v x ≠ cd_v y := fun e => hn (Int32.toBitVec_inj.mp (BitVec.eq_of_toNat_eq e.symm))
  omega
theorem cd_v256 {x : Int32} {P : Nat → Prop} (h : cd_R x P) (h8 : ∀ t, P t → t < 8) : cd_v x < 256 := by
  obtain ⟨s, hs, rfl⟩ := cd_R8 h h8
  unfold cd_v
  rw [pk_tn (by omega)]
  exact hs
/-! sums -/
def cd_sg (f : Nat → Nat) : Nat → Nat
  | 0 => 0
  | n + 1 => cd_sg f n + f n
theorem cd_sgs (f : Nat → Nat) (n : Nat) : cd_sg f (n + 1) = cd_sg f n + f n := rfl
theorem cd_sgc {f g : Nat → Nat} {n : Nat} (h : ∀ i, i < n → f i = g i) : cd_sg f n = cd_sg g n := by
  induction n with
  | zero => rfl
  | succ n ih => rw [cd_sgs, cd_sgs, ih (fun i hi => h i (by omega)), h n (by omega)]
theorem cd_sgle {f g : Nat → Nat} {n : Nat} (h : ∀ i, i < n → f i ≤ g i) : cd_sg f n ≤ cd_sg g n := by
  induction n with
  | zero => exact Nat.le_refl _
  | succ n ih =>
    have h1 := ih (fun i hi => h i (by omega))
    have h2 := h n (by omega)
    rw [cd_sgs, cd_sgs]
    omega
theorem cd_sglt {f g : Nat → Nat} {n k : Nat} (h : ∀ i, i < n → f i ≤ g i) (hk : k < n) (hl : f k < g k) : cd_sg f n < cd_sg g n := by
  induction n with
  | zero => omega
  | succ n ih =>
    rw [cd_sgs, cd_sgs]
    rcases Nat.lt_or_ge k n with z | z
    · have h1 := ih (fun i hi => h i (by omega)) z
      have h2 := h n (by omega)
      omega
    · have e : k = n := by omega
      subst e
      have h1 := cd_sgle (f := f) (g := g) (n := k) (fun i hi => h i (by omega))
      omega
theorem cd_sg0 (n : Nat) : cd_sg (fun _ => 0) n = 0 := by
  induction n with
  | zero => rfl
  | succ n ih => rw [cd_sgs, ih]
theorem cd_sgk (f : Nat → Nat) (k n : Nat) (h : ∀ i, i < n → f i ≤ k) : cd_sg f n ≤ n * k := by
  induction n with
  | zero => simp [cd_sg]
  | succ n ih =>
    have h1 := ih (fun i hi => h i (by omega))
    have h2 := h n (by omega)
    rw [cd_sgs, Nat.succ_mul]
    omega
theorem cd_sga (f g : Nat → Nat) (n : Nat) : cd_sg (fun i => f i + g i) n = cd_sg f n + cd_sg g n := by
  induction n with
  | zero => rfl
  | succ n ih => rw [cd_sgs, cd_sgs, cd_sgs, ih]; omega
/-- sums in the other order -/
theorem cd_sgx (f : Nat → Nat → Nat) (m n : Nat) : cd_sg (fun i => cd_sg (fun j => f i j) n) m = cd_sg (fun j => cd_sg (fun i => f i j) m) n := by
  induction m with
  | zero => rw [show cd_sg (fun j => cd_sg (fun i => f i j) 0) n = cd_sg (fun _ => 0) n from rfl, cd_sg0]; rfl
  | succ m ih =>
    rw [cd_sgs, ih]
    have e : cd_sg (fun j => cd_sg (fun i => f i j) (m + 1)) n = cd_sg (fun j => cd_sg (fun i => f i j) m + f m j) n := rfl
    rw [e, cd_sga]
theorem cd_sg_mono {f : Nat → Nat} {m n : Nat} (h : m ≤ n) : cd_sg f m ≤ cd_sg f n := by
  induction n with
  | zero => have e : m = 0 := by omega
            rw [e]; exact Nat.le_refl _
  | succ n ih =>
    rcases Nat.lt_or_ge n m with z | z
    · have e : m = n + 1 := by omega
      rw [e]; exact Nat.le_refl _
    · have := ih z
      rw [cd_sgs]
      omega
/-- one term alone -/
theorem cd_sg1 {f : Nat → Nat} {n k : Nat} (hk : k < n) (h : ∀ i, i < n → i ≠ k → f i = 0) : cd_sg f n = f k := by
  induction n with
  | zero => omega
  | succ n ih =>
    rw [cd_sgs]
    rcases Nat.lt_or_ge k n with z | z
    · rw [ih z (fun i hi => h i (by omega)), h n (by omega) (by omega), Nat.add_zero]
    · have e : k = n := by omega
      subst e
      rw [cd_sgc (g := fun _ => 0) (fun i hi => h i (by omega) (by omega)), cd_sg0, Nat.zero_add]
theorem cd_sgz {f : Nat → Nat} {n : Nat} (h : ∀ i, i < n → f i = 0) : cd_sg f n = 0 := by
  rw [cd_sgc (g := fun _ => 0) h, cd_sg0]
end
section
/-! the search for registers, pure: K who clashes with whom, W the MOVEs between two, k registers, M what is in memory -/
def sr_mo (k M t : Nat) : Nat := if M.testBit t = true then 1 else k
def sr_cf (K : Nat → Nat → Bool) (M t u : Nat) : Prop := M.testBit t = false ∧ M.testBit u = false ∧ K t u = true
def sr_ok (K : Nat → Nat → Bool) (M : Nat) (f : Nat → Nat) (t : Nat) : Prop := ∀ u, u < t → f u = f t → ¬ sr_cf K M t u
def sr_VA (K : Nat → Nat → Bool) (k M : Nat) (f : Nat → Nat) : Prop := ∀ t, t < 8 → f t < sr_mo k M t ∧ sr_ok K M f t
def sr_g1 (W : Nat → Nat → Nat) (M : Nat) (f : Nat → Nat) (t u : Nat) : Nat := if M.testBit t = false ∧ M.testBit u = false ∧ f u = f t then W t u else 0
def sr_gn (W : Nat → Nat → Nat) (M : Nat) (f : Nat → Nat) (t : Nat) : Nat := cd_sg (sr_g1 W M f t) t
def sr_sc (W : Nat → Nat → Nat) (M : Nat) (f : Nat → Nat) (t : Nat) : Nat := cd_sg (sr_gn W M f) t
def sr_b1 (K : Nat → Nat → Bool) (W : Nat → Nat → Nat) (M t u : Nat) : Nat := if M.testBit t = false ∧ M.testBit u = false ∧ K t u = false then W t u else 0
def sr_bd (K : Nat → Nat → Bool) (W : Nat → Nat → Nat) (M t : Nat) : Nat := cd_sg (sr_b1 K W M t) t
def sr_ps (K : Nat → Nat → Bool) (W : Nat → Nat → Nat) (M t : Nat) : Nat := cd_sg (sr_bd K W M) 8 - cd_sg (sr_bd K W M) t
/-- the assignments that the search has behind it -/
def sr_Dn (f : Nat → Nat) (t c : Nat) (Q : Nat → Nat) : Prop := (∃ s, s < t ∧ (∀ u, u < s → Q u = f u) ∧ Q s < f s) ∨ ((∀ u, u < t → Q u = f u) ∧ Q t < c)
def sr_lx (Q P : Nat → Nat) : Prop := ∃ s, s < 8 ∧ (∀ u, u < s → Q u = P u) ∧ Q s < P s
def sr_BA (K : Nat → Nat → Bool) (W : Nat → Nat → Nat) (k M : Nat) (P : Nat → Nat) : Prop :=
  sr_VA K k M P ∧ ∀ Q, sr_VA K k M Q → sr_sc W M Q 8 ≤ sr_sc W M P 8 ∧ (sr_lx Q P → sr_sc W M Q 8 < sr_sc W M P 8)
/-- the best so far, v its count plus one, 0: none -/
def sr_BS (K : Nat → Nat → Bool) (W : Nat → Nat → Nat) (k M : Nat) (D : (Nat → Nat) → Prop) (v : Nat) (P : Nat → Nat) : Prop :=
  (∀ Q, sr_VA K k M Q → D Q → sr_sc W M Q 8 < v) ∧ (v = 0 ∨ (sr_VA K k M P ∧ D P ∧ sr_sc W M P 8 + 1 = v ∧ ∀ Q, sr_VA K k M Q → sr_lx Q P → sr_sc W M Q 8 + 1 < v))
theorem sr_uniq {K : Nat → Nat → Bool} {W : Nat → Nat → Nat} {k M : Nat} {P P' : Nat → Nat} (h : sr_BA K W k M P) (h' : sr_BA K W k M P') : ∀ t, t < 8 → P t = P' t := by
  have e1 := (h.2 P' h'.1)
  have e2 := (h'.2 P h.1)
  intro t
  induction t using Nat.strongRecOn with
  | ind t ih =>
    intro ht
    rcases Nat.lt_trichotomy (P t) (P' t) with z | z | z
    · have := e2.2 ⟨t, ht, fun u hu => ih u hu (by omega), z⟩
      have := e1.1
      omega
    · exact z
    · have := e1.2 ⟨t, ht, fun u hu => (ih u hu (by omega)).symm, z⟩
      have := e2.1
      omega
/-! what the first t decide -/
theorem sr_okc {K : Nat → Nat → Bool} {M t : Nat} {f g : Nat → Nat} (h : ∀ u, u ≤ t → f u = g u) (hf : sr_ok K M f t) : sr_ok K M g t := by
  intro u hu e
  exact hf u hu (by rw [h u (by omega), h t (by omega)]; exact e)
theorem sr_gnc {W : Nat → Nat → Nat} {M t : Nat} {f g : Nat → Nat} (h : ∀ u, u ≤ t → f u = g u) : sr_gn W M f t = sr_gn W M g t := by
  apply cd_sgc
  intro u hu
  unfold sr_g1
  rw [h u (by omega), h t (by omega)]
theorem sr_scc {W : Nat → Nat → Nat} {M t : Nat} {f g : Nat → Nat} (h : ∀ u, u < t → f u = g u) : sr_sc W M f t = sr_sc W M g t := by
  apply cd_sgc
  intro v hv
  exact sr_gnc (fun u hu => h u (by omega))
theorem sr_VAc {K : Nat → Nat → Bool} {k M : Nat} {f g : Nat → Nat} (h : ∀ u, u < 8 → f u = g u) (hf : sr_VA K k M f) : sr_VA K k M g := by
  intro t ht
  exact ⟨by rw [← h t ht]; exact (hf t ht).1, sr_okc (fun u hu => h u (by omega)) (hf t ht).2⟩
theorem sr_sgbd {K : Nat → Nat → Bool} {W : Nat → Nat → Nat} {M : Nat} {t : Nat} (ht : t ≤ 8) : cd_sg (sr_bd K W M) t ≤ cd_sg (sr_bd K W M) 8 := cd_sg_mono ht
/-- the bound is one -/
theorem sr_gle {K : Nat → Nat → Bool} {W : Nat → Nat → Nat} {k M : Nat} {Q : Nat → Nat} (h : sr_VA K k M Q) {t : Nat} (ht : t < 8) : sr_gn W M Q t ≤ sr_bd K W M t := by
  apply cd_sgle
  intro u hu
  unfold sr_g1 sr_b1
  by_cases c : M.testBit t = false ∧ M.testBit u = false ∧ Q u = Q t
  · have n := (h t ht).2 u hu c.2.2
    have c2 : M.testBit t = false ∧ M.testBit u = false ∧ K t u = false := by
      refine ⟨c.1, c.2.1, ?_⟩
      cases e : K t u
      · rfl
      · exact absurd ⟨c.1, c.2.1, e⟩ n
    rw [if_pos c, if_pos c2]
    exact Nat.le_refl _
  · rw [if_neg c]
    exact Nat.zero_le _
theorem sr_bound {K : Nat → Nat → Bool} {W : Nat → Nat → Nat} {k M : Nat} {Q : Nat → Nat} (h : sr_VA K k M Q) (t : Nat) : ∀ d, t + d ≤ 8 → sr_sc W M Q (t + d) + cd_sg (sr_bd K W M) t ≤ sr_sc W M Q t + cd_sg (sr_bd K W M) (t + d) := by
  intro d
  induction d with
  | zero => intro _; exact Nat.le_refl _
  | succ d ih =>
    intro hd
    have h1 := ih (by omega)
    have h2 := sr_gle (W := W) h (show t + d < 8 by omega)
    have e1 : sr_sc W M Q (t + (d + 1)) = sr_sc W M Q (t + d) + sr_gn W M Q (t + d) := rfl
    have e2 : cd_sg (sr_bd K W M) (t + (d + 1)) = cd_sg (sr_bd K W M) (t + d) + sr_bd K W M (t + d) := rfl
    omega
theorem sr_bound8 {K : Nat → Nat → Bool} {W : Nat → Nat → Nat} {k M : Nat} {Q : Nat → Nat} (h : sr_VA K k M Q) {t : Nat} (ht : t ≤ 8) : sr_sc W M Q 8 ≤ sr_sc W M Q t + sr_ps K W M t := by
  have h1 := sr_bound (W := W) h t (8 - t) (by omega)
  rw [show t + (8 - t) = 8 by omega] at h1
  have h2 := sr_sgbd (K := K) (W := W) (M := M) ht
  unfold sr_ps
  omega
/-! where the search stands -/
theorem sr_down {f : Nat → Nat} {t c : Nat} {P Q : Nat → Nat} (h : sr_Dn f t c P) (hl : sr_lx Q P) : sr_Dn f t c Q := by
  obtain ⟨r, hr, hq, hlt⟩ := hl
  rcases h with ⟨s, hs, ha, hb⟩ | ⟨ha, hb⟩
  · rcases Nat.lt_trichotomy r s with z | z | z
    · exact Or.inl ⟨r, by omega, fun u hu => by rw [hq u hu, ha u (by omega)], by rw [← ha r z]; exact hlt⟩
    · subst z
      exact Or.inl ⟨r, hs, fun u hu => by rw [hq u hu, ha u hu], by omega⟩
    · exact Or.inl ⟨s, hs, fun u hu => by rw [hq u (by omega), ha u hu], by rw [hq s z]; exact hb⟩
  · rcases Nat.lt_trichotomy r t with z | z | z
    · exact Or.inl ⟨r, z, fun u hu => by rw [hq u hu, ha u (by omega)], by rw [← ha r z]; exact hlt⟩
    · subst z
      exact Or.inr ⟨fun u hu => by rw [hq u hu, ha u hu], by omega⟩
    · exact Or.inr ⟨fun u hu => by rw [hq u (by omega), ha u hu], by rw [hq t z]; exact hb⟩
theorem sr_Dnc {f g : Nat → Nat} {t c : Nat} {Q : Nat → Nat} (h : ∀ u, u < t → f u = g u) (hd : sr_Dn f t c Q) : sr_Dn g t c Q := by
  rcases hd with ⟨s, hs, ha, hb⟩ | ⟨ha, hb⟩
  · exact Or.inl ⟨s, hs, fun u hu => by rw [ha u hu, h u (by omega)], by rw [← h s hs]; exact hb⟩
  · exact Or.inr ⟨fun u hu => by rw [ha u hu, h u hu], hb⟩
/-- a step down the tree keeps the place -/
theorem sr_in {f g : Nat → Nat} {t c : Nat} (h : ∀ u, u < t → f u = g u) (hc : g t = c) (Q : Nat → Nat) : sr_Dn g (t + 1) 0 Q ↔ sr_Dn f t c Q := by
  constructor
  · rintro (⟨s, hs, ha, hb⟩ | ⟨ha, hb⟩)
    · rcases Nat.lt_or_ge s t with z | z
      · exact Or.inl ⟨s, z, fun u hu => by rw [ha u hu, h u (by omega)], by rw [h s z]; exact hb⟩
      · have e : s = t := by omega
        subst e
        exact Or.inr ⟨fun u hu => by rw [ha u hu, h u hu], by rw [← hc]; exact hb⟩
    · omega
  · rintro (⟨s, hs, ha, hb⟩ | ⟨ha, hb⟩)
    · exact Or.inl ⟨s, by omega, fun u hu => by rw [ha u hu, h u (by omega)], by rw [← h s hs]; exact hb⟩
    · exact Or.inl ⟨t, by omega, fun u hu => by rw [ha u hu, h u hu], by rw [hc]; exact hb⟩
/-- a step up -/
theorem sr_out {f : Nat → Nat} {t c : Nat} {Q : Nat → Nat} (hq : Q (t + 1) < c) : sr_Dn f t (f t + 1) Q ↔ sr_Dn f (t + 1) c Q := by
  constructor
  · rintro (⟨s, hs, ha, hb⟩ | ⟨ha, hb⟩)
    · exact Or.inl ⟨s, by omega, ha, hb⟩
    · rcases Nat.lt_or_ge (Q t) (f t) with z | z
      · exact Or.inl ⟨t, by omega, ha, z⟩
      · exact Or.inr ⟨fun u hu => by
          rcases Nat.lt_or_ge u t with y | y
          · exact ha u y
          · have e : u = t := by omega
            subst e
            omega, hq⟩
  · rintro (⟨s, hs, ha, hb⟩ | ⟨ha, hb⟩)
    · rcases Nat.lt_or_ge s t with z | z
      · exact Or.inl ⟨s, z, ha, hb⟩
      · have e : s = t := by omega
        subst e
        exact Or.inr ⟨ha, by omega⟩
    · exact Or.inr ⟨fun u hu => ha u (by omega), by rw [ha t (by omega)]; omega⟩
/-- a candidate that none of the valid ones takes -/
theorem sr_skip {f : Nat → Nat} {t c : Nat} {Q : Nat → Nat} (h : (∀ u, u < t → Q u = f u) → Q t ≠ c) : sr_Dn f t (c + 1) Q ↔ sr_Dn f t c Q := by
  constructor
  · rintro (⟨s, hs, ha, hb⟩ | ⟨ha, hb⟩)
    · exact Or.inl ⟨s, hs, ha, hb⟩
    · have := h ha
      exact Or.inr ⟨ha, by omega⟩
  · rintro (⟨s, hs, ha, hb⟩ | ⟨ha, hb⟩)
    · exact Or.inl ⟨s, hs, ha, hb⟩
    · exact Or.inr ⟨ha, by omega⟩
theorem sr_Dn1 {f : Nat → Nat} {t c : Nat} {Q : Nat → Nat} (h : sr_Dn f t c Q) : sr_Dn f t (c + 1) Q := by
  rcases h with ⟨s, hs, ha, hb⟩ | ⟨ha, hb⟩
  · exact Or.inl ⟨s, hs, ha, hb⟩
  · exact Or.inr ⟨ha, by omega⟩
theorem sr_BSi {K : Nat → Nat → Bool} {W : Nat → Nat → Nat} {k M v : Nat} {D D' : (Nat → Nat) → Prop} {P : Nat → Nat} (h : sr_BS K W k M D v P) (e : ∀ Q, sr_VA K k M Q → (D' Q ↔ D Q)) : sr_BS K W k M D' v P := by
  refine ⟨fun Q hQ hD => h.1 Q hQ ((e Q hQ).mp hD), ?_⟩
  rcases h.2 with z | ⟨a, b, c, d⟩
  · exact Or.inl z
  · exact Or.inr ⟨a, (e P a).mpr b, c, d⟩
/-- a candidate that can't win -/
theorem sr_BSp {K : Nat → Nat → Bool} {W : Nat → Nat → Nat} {k M v t c : Nat} {f P : Nat → Nat} (h : sr_BS K W k M (sr_Dn f t c) v P) (hp : ∀ Q, sr_VA K k M Q → (∀ u, u < t → Q u = f u) → Q t = c → sr_sc W M Q 8 < v) : sr_BS K W k M (sr_Dn f t (c + 1)) v P := by
  refine ⟨fun Q hQ hD => ?_, ?_⟩
  · rcases hD with ⟨s, hs, ha, hb⟩ | ⟨ha, hb⟩
    · exact h.1 Q hQ (Or.inl ⟨s, hs, ha, hb⟩)
    · by_cases e : Q t = c
      · exact hp Q hQ ha e
      · exact h.1 Q hQ (Or.inr ⟨ha, by omega⟩)
  · rcases h.2 with z | ⟨a, b, c', d⟩
    · exact Or.inl z
    · exact Or.inr ⟨a, sr_Dn1 b, c', d⟩
theorem sr_irr {P Q : Nat → Nat} (h : ∀ u, u < 8 → P u = Q u) : ¬ sr_lx P Q := by
  rintro ⟨s, hs, _, hb⟩
  rw [h s hs] at hb
  omega
theorem sr_lx8 {f Q : Nat → Nat} : sr_Dn f 8 0 Q ↔ sr_lx Q f := by
  constructor
  · rintro (h | ⟨_, h⟩)
    · exact h
    · omega
  · exact fun h => Or.inl h
/-- a new one that is better than all before it -/
theorem sr_BSk {K : Nat → Nat → Bool} {W : Nat → Nat → Nat} {k M v : Nat} {f P : Nat → Nat} (h : sr_BS K W k M (sr_Dn f 8 0) v P) (hf : sr_VA K k M f) (hv : v ≤ sr_sc W M f 8) : sr_BS K W k M (sr_Dn f 7 (f 7 + 1)) (sr_sc W M f 8 + 1) f := by
  refine ⟨fun Q hQ hD => ?_, Or.inr ⟨hf, Or.inr ⟨fun _ _ => rfl, by omega⟩, rfl, fun Q hQ hl => ?_⟩⟩
  · rcases hD with ⟨s, hs, ha, hb⟩ | ⟨ha, hb⟩
    · have := h.1 Q hQ (Or.inl ⟨s, by omega, ha, hb⟩)
      omega
    · rcases Nat.lt_or_ge (Q 7) (f 7) with z | z
      · have := h.1 Q hQ (Or.inl ⟨7, by omega, ha, z⟩)
        omega
      · have e : sr_sc W M Q 8 = sr_sc W M f 8 := sr_scc (fun u hu => by
          rcases Nat.lt_or_ge u 7 with y | y
          · exact ha u y
          · have e : u = 7 := by omega
            subst e
            omega)
        omega
  · have := h.1 Q hQ (Or.inl hl)
    omega
/-- a new one that isn't -/
theorem sr_BSn {K : Nat → Nat → Bool} {W : Nat → Nat → Nat} {k M v : Nat} {f P : Nat → Nat} (h : sr_BS K W k M (sr_Dn f 8 0) v P) (hv : sr_sc W M f 8 < v) : sr_BS K W k M (sr_Dn f 7 (f 7 + 1)) v P := by
  have hin : ∀ Q, sr_Dn f 8 0 Q → sr_Dn f 7 (f 7 + 1) Q := by
    rintro Q (⟨s, hs, ha, hb⟩ | ⟨_, hb⟩)
    · rcases Nat.lt_or_ge s 7 with z | z
      · exact Or.inl ⟨s, z, ha, hb⟩
      · have e : s = 7 := by omega
        subst e
        exact Or.inr ⟨ha, by omega⟩
    · omega
  refine ⟨fun Q hQ hD => ?_, ?_⟩
  · rcases hD with ⟨s, hs, ha, hb⟩ | ⟨ha, hb⟩
    · exact h.1 Q hQ (Or.inl ⟨s, by omega, ha, hb⟩)
    · rcases Nat.lt_or_ge (Q 7) (f 7) with z | z
      · exact h.1 Q hQ (Or.inl ⟨7, by omega, ha, z⟩)
      · have e : sr_sc W M Q 8 = sr_sc W M f 8 := sr_scc (fun u hu => by
          rcases Nat.lt_or_ge u 7 with y | y
          · exact ha u y
          · have e : u = 7 := by omega
            subst e
            omega)
        omega
  · rcases h.2 with z | ⟨a, b, c, d⟩
    · exact Or.inl z
    · exact Or.inr ⟨a, hin P b, c, d⟩
theorem sr_fin {K : Nat → Nat → Bool} {W : Nat → Nat → Nat} {k M v : Nat} {D : (Nat → Nat) → Prop} {P : Nat → Nat} (h : sr_BS K W k M D v P) (hD : ∀ Q, sr_VA K k M Q → D Q) (hx : ∃ Q, sr_VA K k M Q) : sr_BA K W k M P ∧ sr_sc W M P 8 + 1 = v := by
  obtain ⟨Q0, hQ0⟩ := hx
  have h0 := h.1 Q0 hQ0 (hD Q0 hQ0)
  rcases h.2 with z | ⟨a, b, c, d⟩
  · omega
  · refine ⟨⟨a, fun Q hQ => ⟨?_, fun hl => ?_⟩⟩, c⟩
    · have := h.1 Q hQ (hD Q hQ)
      omega
    · have := d Q hQ hl
      omega
/-! the measure: nine digits to base 32 -/
def sr_hm (g : Nat → Nat) : Nat → Nat
  | 0 => 0
  | s + 1 => 32 * sr_hm g s + g s
theorem sr_hmc {g h : Nat → Nat} {s : Nat} (e : ∀ u, u < s → g u = h u) : sr_hm g s = sr_hm h s := by
  induction s with
  | zero => rfl
  | succ s ih =>
    show 32 * sr_hm g s + g s = 32 * sr_hm h s + h s
    rw [ih (fun u hu => e u (by omega)), e s (by omega)]
theorem sr_hml {g h : Nat → Nat} {s : Nat} (e : ∀ u, u < s → g u = h u) (hl : g s < h s) (hb : ∀ u, g u < 32) : ∀ d, sr_hm g (s + 1 + d) < sr_hm h (s + 1 + d) := by
  intro d
  induction d with
  | zero =>
    show 32 * sr_hm g s + g s < 32 * sr_hm h s + h s
    rw [sr_hmc e]
    omega
  | succ d ih =>
    show 32 * sr_hm g (s + 1 + d) + g (s + 1 + d) < 32 * sr_hm h (s + 1 + d) + h (s + 1 + d)
    have := hb (s + 1 + d)
    omega
def sr_dg (f : Nat → Nat) (t c : Nat) (s : Nat) : Nat := if s < t then 15 - 2 * f s else if s = t then 16 - 2 * c else 16
def sr_mu (f : Nat → Nat) (t c : Nat) : Nat := sr_hm (sr_dg f t c) 9
theorem sr_dg32 (f : Nat → Nat) (t c s : Nat) : sr_dg f t c s < 32 := by
  unfold sr_dg
  split
  · omega
  · split <;> omega
theorem sr_mu_in {f g : Nat → Nat} {t c c' : Nat} (h : ∀ u, u < t → g u = f u) (hc : g t = c') (hcc : c ≤ c') (h8 : c' < 8) (ht : t < 8) : sr_mu g (t + 1) 0 < sr_mu f t c := by
  have k := sr_hml (g := sr_dg g (t + 1) 0) (h := sr_dg f t c) (s := t) (fun u hu => by
    unfold sr_dg
    rw [if_pos (by omega), if_pos hu, h u hu]) (by
    unfold sr_dg
    rw [if_pos (by omega), if_neg (by omega), if_pos rfl, hc]
    omega) (sr_dg32 g (t + 1) 0) (8 - t)
  rw [show t + 1 + (8 - t) = 9 by omega] at k
  exact k
theorem sr_mu_out {f : Nat → Nat} {t c : Nat} (h8 : f t < 8) (ht : t < 8) : sr_mu f t (f t + 1) < sr_mu f (t + 1) c := by
  have k := sr_hml (g := sr_dg f t (f t + 1)) (h := sr_dg f (t + 1) c) (s := t) (fun u hu => by
    unfold sr_dg
    rw [if_pos (by omega), if_pos (by omega)]) (by
    unfold sr_dg
    rw [if_neg (by omega), if_pos rfl, if_pos (by omega)]
    omega) (sr_dg32 f t (f t + 1)) (8 - t)
  rw [show t + 1 + (8 - t) = 9 by omega] at k
  exact k
/-- the assignments grow -/
def sr_m8 (f : Nat → Nat) : Nat := sr_hm (fun s => 15 - 2 * f s) 8
theorem sr_m8l {f g : Nat → Nat} (h : sr_lx f g) (h8 : ∀ u, u < 8 → g u < 8) : sr_m8 g < sr_m8 f := by
  obtain ⟨s, hs, ha, hb⟩ := h
  have := h8 s hs
  have k := sr_hml (g := fun s => 15 - 2 * g s) (h := fun s => 15 - 2 * f s) (s := s) (fun u hu => by
    show 15 - 2 * g u = 15 - 2 * f u
    rw [ha u hu]) (by
    show 15 - 2 * g s < 15 - 2 * f s
    omega) (fun u => by
    show 15 - 2 * g u < 32
    omega) (7 - s)
  rw [show s + 1 + (7 - s) = 8 by omega] at k
  exact k
end
section
/-! how many registers a set needs, pure -/
def co_Cb (K : Nat → Nat → Bool) (s r : Nat) : Prop := ∃ f : Nat → Nat, (∀ t, t < 8 → s.testBit t = true → f t < r) ∧ (∀ t u, t < 8 → u < 8 → s.testBit t = true → s.testBit u = true → K t u = true → f t ≠ f u)
def co_Nd (K : Nat → Nat → Bool) (s m : Nat) : Prop := ∀ r, co_Cb K s r ↔ m ≤ r
def co_ap (K : Nat → Nat → Bool) (p : Nat) : Prop := ∀ t u, t < 8 → u < 8 → p.testBit t = true → p.testBit u = true → K t u = false
def co_sy (K : Nat → Nat → Bool) : Prop := (∀ t, t < 8 → K t t = false) ∧ ∀ t u, t < 8 → u < 8 → K t u = K u t
/-- a number by its bits -/
def co_nm (P : Nat → Bool) : Nat → Nat
  | 0 => 0
  | n + 1 => co_nm P n ||| (if P n = true then 2 ^ n else 0)
theorem co_nml (P : Nat → Bool) (n : Nat) : co_nm P n < 2 ^ n := by
  induction n with
  | zero => exact Nat.lt_succ_self 0
  | succ n ih =>
    apply Nat.or_lt_two_pow
    · have : 2 ^ n ≤ 2 ^ (n + 1) := Nat.pow_le_pow_right (by decide) (by omega)
      omega
    · have : 2 ^ n < 2 ^ (n + 1) := Nat.pow_lt_pow_right (by decide) (by omega)
      split
      · exact this
      · exact Nat.two_pow_pos _
theorem co_nmt (P : Nat → Bool) (n t : Nat) : (co_nm P n).testBit t = (decide (t < n) && P t) := by
  induction n with
  | zero => simp [co_nm]
  | succ n ih =>
    show (co_nm P n ||| (if P n = true then 2 ^ n else 0)).testBit t = _
    rw [Nat.testBit_or, ih]
    by_cases e : t = n
    · subst e
      cases hp : P t
      · simp
      · simp [Nat.testBit_two_pow_self]
    · have e1 : (if P n = true then 2 ^ n else 0 : Nat).testBit t = false := by
        split
        · rw [Nat.testBit_two_pow]
          exact decide_eq_false (fun z => e z.symm)
        · exact Nat.zero_testBit t
      rw [e1, Bool.or_false]
      congr 1
      rw [decide_eq_decide]
      omega
theorem co_nl {K : Nat → Nat → Bool} (hK : co_sy K) (s : Nat) : co_Cb K s 8 := by
  refine ⟨fun t => t, fun t ht _ => ht, fun t u ht hu _ _ hk e => ?_⟩
  have e' : t = u := e
  subst e'
  rw [hK.1 t ht] at hk
  exact absurd hk (by decide)
theorem co_m {K : Nat → Nat → Bool} {s r r' : Nat} (h : co_Cb K s r) (hr : r ≤ r') : co_Cb K s r' := by
  obtain ⟨f, h1, h2⟩ := h
  exact ⟨f, fun t ht hs => Nat.lt_of_lt_of_le (h1 t ht hs) hr, h2⟩
theorem co_z {K : Nat → Nat → Bool} {r : Nat} : co_Cb K 0 r := by
  refine ⟨fun _ => 0, fun t _ hs => ?_, fun t u _ _ hs => ?_⟩
  · rw [Nat.zero_testBit] at hs; exact absurd hs (by decide)
  · rw [Nat.zero_testBit] at hs; exact absurd hs (by decide)
/-- p is a part of s -/
def co_in (p s : Nat) : Prop := p &&& s = p
theorem co_inb {p s : Nat} (h : co_in p s) {t : Nat} (ht : p.testBit t = true) : s.testBit t = true := by
  have e : (p &&& s).testBit t = p.testBit t := by rw [h]
  rw [Nat.testBit_and, ht, Bool.true_and] at e
  exact e
theorem co_ini {p s : Nat} (h : ∀ t, p.testBit t = true → s.testBit t = true) : co_in p s := by
  apply Nat.eq_of_testBit_eq
  intro t
  rw [Nat.testBit_and]
  cases hp : p.testBit t
  · rfl
  · rw [h t hp]; rfl
theorem co_df {p s : Nat} (h : co_in p s) (t : Nat) : (s ^^^ p).testBit t = (s.testBit t && !p.testBit t) := by
  rw [Nat.testBit_xor]
  cases hp : p.testBit t
  · simp
  · rw [co_inb h hp]; rfl
/-- one register for a part that is apart -/
theorem co_add {K : Nat → Nat → Bool} {s p r : Nat} (hp : co_in p s) (ha : co_ap K p) (h : co_Cb K (s ^^^ p) r) : co_Cb K s (r + 1) := by
  obtain ⟨f, h1, h2⟩ := h
  refine ⟨fun t => if p.testBit t = true then r else f t, fun t ht hs => ?_, fun t u ht hu hs hsu hk => ?_⟩
  · show (if p.testBit t = true then r else f t) < r + 1
    cases e : p.testBit t
    · have := h1 t ht (by rw [co_df hp, hs, e]; rfl)
      rw [if_neg (by decide)]
      omega
    · rw [if_pos rfl]
      omega
  · show (if p.testBit t = true then r else f t) ≠ (if p.testBit u = true then r else f u)
    cases e : p.testBit t
    · have a1 := h1 t ht (by rw [co_df hp, hs, e]; rfl)
      rw [if_neg (by decide)]
      cases e' : p.testBit u
      · rw [if_neg (by decide)]
        exact h2 t u ht hu (by rw [co_df hp, hs, e]; rfl) (by rw [co_df hp, hsu, e']; rfl) hk
      · rw [if_pos rfl]
        omega
    · rw [if_pos rfl]
      cases e' : p.testBit u
      · have a1 := h1 u hu (by rw [co_df hp, hsu, e']; rfl)
        rw [if_neg (by decide)]
        omega
      · rw [ha t u ht hu e e'] at hk
        exact absurd hk (by decide)
/-- and every way to colour gives such a part with a number j in it -/
theorem co_cut {K : Nat → Nat → Bool} {s r j : Nat} (hs8 : s < 256) (hj : j < 8) (hsj : s.testBit j = true) (h : co_Cb K s r) : ∃ p r', co_in p s ∧ p.testBit j = true ∧ co_ap K p ∧ r = r' + 1 ∧ co_Cb K (s ^^^ p) r' := by
  obtain ⟨f, h1, h2⟩ := h
  have hr := h1 j hj hsj
  have hb : ∀ t, (co_nm (fun t => s.testBit t && decide (f t = f j)) 8).testBit t = true ↔ t < 8 ∧ s.testBit t = true ∧ f t = f j := by
    intro t
    rw [co_nmt]
    simp only [Bool.and_eq_true, decide_eq_true_eq]
  generalize co_nm (fun t => s.testBit t && decide (f t = f j)) 8 = p at hb
  have hp : co_in p s := co_ini (fun t ht => ((hb t).mp ht).2.1)
  refine ⟨p, r - 1, hp, (hb j).mpr ⟨hj, hsj, rfl⟩, fun t u ht hu pt pu => ?_, by omega, fun t => if f t = r - 1 then f j else f t, fun t ht hst => ?_, fun t u ht hu hst hsu hk => ?_⟩
  · have a := (hb t).mp pt
    have b := (hb u).mp pu
    cases hk : K t u
    · rfl
    · exact absurd (a.2.2.trans b.2.2.symm) (h2 t u ht hu a.2.1 b.2.1 hk)
  · rw [co_df hp, Bool.and_eq_true, Bool.not_eq_true'] at hst
    have a := h1 t ht hst.1
    have b : f t ≠ f j := fun e => by
      have := (hb t).mpr ⟨ht, hst.1, e⟩
      rw [hst.2] at this
      exact absurd this (by decide)
    show (if f t = r - 1 then f j else f t) < r - 1
    split <;> omega
  · rw [co_df hp, Bool.and_eq_true, Bool.not_eq_true'] at hst hsu
    have a := h2 t u ht hu hst.1 hsu.1 hk
    have b : f t ≠ f j := fun e => by
      have := (hb t).mpr ⟨ht, hst.1, e⟩
      rw [hst.2] at this
      exact absurd this (by decide)
    have b' : f u ≠ f j := fun e => by
      have := (hb u).mpr ⟨hu, hsu.1, e⟩
      rw [hsu.2] at this
      exact absurd this (by decide)
    show (if f t = r - 1 then f j else f t) ≠ (if f u = r - 1 then f j else f u)
    split <;> split <;> omega
/-! the parts of a set, from the greatest down -/
theorem co_and2 {a b : Nat} : (a &&& b) / 2 = a / 2 &&& b / 2 := Nat.and_div_two
theorem co_m2 (a b : Nat) : (a &&& b) % 2 = (a % 2) * (b % 2) := by
  have h : (a &&& b).testBit 0 = (a.testBit 0 && b.testBit 0) := Nat.testBit_and a b 0
  rw [Nat.testBit_zero, Nat.testBit_zero, Nat.testBit_zero] at h
  rcases Nat.mod_two_eq_zero_or_one a with x | x <;> rcases Nat.mod_two_eq_zero_or_one b with y | y <;> rcases Nat.mod_two_eq_zero_or_one (a &&& b) with z | z <;> simp [x, y, z] at h ⊢
theorem co_next (p : Nat) : ∀ s q : Nat, co_in p s → co_in q s → q < p → q ≤ (p - 1) &&& s := by
  induction p using Nat.strongRecOn with
  | ind p ih =>
    intro s q hp hq hl
    have hp2 : co_in (p / 2) (s / 2) := by
      show p / 2 &&& s / 2 = p / 2
      rw [← co_and2, hp]
    have hq2 : co_in (q / 2) (s / 2) := by
      show q / 2 &&& s / 2 = q / 2
      rw [← co_and2, hq]
    have e2 := co_and2 (a := p - 1) (b := s)
    have em := co_m2 (p - 1) s
    have eq := co_m2 q s
    rw [show q &&& s = q from hq] at eq
    rcases Nat.mod_two_eq_zero_or_one p with z | z
    · have h1 := ih (p / 2) (by omega) (s / 2) (q / 2) hp2 hq2 (by omega)
      have e3 : (p - 1) / 2 = p / 2 - 1 := by omega
      have e4 : (p - 1) % 2 = 1 := by omega
      rw [e3] at e2
      rw [e4, Nat.one_mul] at em
      have e5 : q % 2 ≤ s % 2 := by
        rcases Nat.mod_two_eq_zero_or_one q with y | y
        · omega
        · rw [y, Nat.one_mul] at eq
          omega
      omega
    · have e3 : (p - 1) / 2 = p / 2 := by omega
      rw [e3, show p / 2 &&& s / 2 = p / 2 from hp2] at e2
      omega
theorem co_nxi (p s : Nat) : co_in ((p - 1) &&& s) s := by
  show (p - 1) &&& s &&& s = (p - 1) &&& s
  rw [Nat.and_assoc, Nat.and_self]
theorem co_nxl {p s : Nat} (h : 0 < p) : (p - 1) &&& s < p := by
  have : (p - 1) &&& s ≤ p - 1 := Nat.and_le_left
  omega
theorem co_le {p s : Nat} (h : co_in p s) : p ≤ s := by
  have : p &&& s ≤ s := Nat.and_le_right
  rw [h] at this
  exact this
theorem co_xl {p s : Nat} (h : co_in p s) (hs : s < 256) : s ^^^ p < 256 := by
  have h1 : p < 2 ^ 8 := by have := co_le h; omega
  exact Nat.xor_lt_two_pow (n := 8) hs h1
theorem co_xlt {p s : Nat} (h : co_in p s) (hp : 0 < p) : s ^^^ p < s := by
  have h2 : co_in (s ^^^ p) s := co_ini (fun t ht => by
    rw [co_df h, Bool.and_eq_true] at ht
    exact ht.1)
  have h3 := co_le h2
  rcases Nat.lt_or_ge (s ^^^ p) s with z | z
  · exact z
  · have e : s ^^^ p = s := by omega
    exfalso
    have : p = 0 := by
      apply Nat.eq_of_testBit_eq
      intro t
      rw [Nat.zero_testBit]
      cases hb : p.testBit t
      · rfl
      · have e1 := co_df h t
        rw [e, hb, co_inb h hb] at e1
        exact absurd e1 (by decide)
    omega
/-! the tables' entries as Int32 -/
theorem co_iand {p s : Nat} : nI p &&& nI s = nI (p &&& s) := nx_and p s
theorem co_idf {p s : Nat} (h : co_in p s) : nI s &&& (nI p ^^^ (-1)) = nI (s ^^^ p) := by
  apply b_ext
  intro i hi
  rw [b_and, cd_not _ hi, cd_bn hi, cd_bn hi, cd_bn hi, co_df h]
theorem co_low : ∀ s, s < 256 → 0 < s → ∃ j, j < 8 ∧ s.testBit j = true ∧ nI s &&& (-(nI s)) = nI (2 ^ j) := by decide +kernel
theorem co_lowt {p j : Nat} (hj : j < 8) (hp : p < 256) : nI p &&& nI (2 ^ j) = 0 ↔ p.testBit j = false := by
  have hr := cd_Rand (cd_Rn (s := p)) (cd_Rn (s := 2 ^ j))
  constructor
  · intro e
    cases h : p.testBit j
    · rfl
    · have := (hr j (by omega)).mpr ⟨h, Nat.testBit_two_pow_self⟩
      rw [e, b_0] at this
      exact absurd this (by decide)
  · intro h
    refine cd_Ru hr (cd_Rc cd_R0 (fun t _ => ⟨fun z => z.elim, fun z => ?_⟩))
    obtain ⟨z1, z2⟩ := z
    rw [Nat.testBit_two_pow, decide_eq_true_eq] at z2
    rw [← z2, h] at z1
    exact absurd z1 (by decide)
theorem co_cmp : ∀ s, s < 256 → (255 : Int32) &&& (nI s ^^^ (-1)) = nI (255 ^^^ s) := by decide +kernel
theorem co_cmt {s t : Nat} (ht : t < 8) : (255 ^^^ s).testBit t = !s.testBit t := by
  rw [Nat.testBit_xor, (by decide : ∀ t, t < 8 → (255 : Nat).testBit t = true) t ht, Bool.true_xor]
theorem co_cml {s : Nat} (h : s < 256) : 255 ^^^ s < 256 := Nat.xor_lt_two_pow (n := 8) (by decide) h
/-! the valid assignments are the colourings of what is not in memory -/
theorem co_VA {K : Nat → Nat → Bool} (hK : co_sy K) {k M : Nat} : (∃ f, sr_VA K k M f) ↔ co_Cb K (255 ^^^ M) k := by
  constructor
  · rintro ⟨f, hf⟩
    have key : ∀ t u, t < 8 → u < t → M.testBit t = false → M.testBit u = false → K t u = true → f u ≠ f t := fun t u ht hu a b c e => (hf t ht).2 u hu e ⟨a, b, c⟩
    refine ⟨f, fun t ht hs => ?_, fun t u ht hu hst hsu hk e => ?_⟩
    · rw [co_cmt ht, Bool.not_eq_true'] at hs
      have := (hf t ht).1
      unfold sr_mo at this
      rw [hs, if_neg (by decide)] at this
      exact this
    · rw [co_cmt ht, Bool.not_eq_true'] at hst
      rw [co_cmt hu, Bool.not_eq_true'] at hsu
      rcases Nat.lt_trichotomy t u with z | z | z
      · exact key u t hu z hsu hst (by rw [hK.2 u t hu ht]; exact hk) e
      · subst z
        rw [hK.1 t ht] at hk
        exact absurd hk (by decide)
      · exact key t u ht z hst hsu hk e.symm
  · rintro ⟨g, h1, h2⟩
    refine ⟨fun t => if M.testBit t = true then 0 else g t, fun t ht => ⟨?_, fun u hu e c => ?_⟩⟩
    · show (if M.testBit t = true then 0 else g t) < sr_mo k M t
      unfold sr_mo
      cases hm : M.testBit t
      · rw [if_neg (by decide), if_neg (by decide)]
        exact h1 t ht (by rw [co_cmt ht, hm]; rfl)
      · rw [if_pos rfl, if_pos rfl]
        decide
    · have e' : (if M.testBit u = true then 0 else g u) = (if M.testBit t = true then 0 else g t) := e
      rw [c.1, c.2.1, if_neg (by decide), if_neg (by decide)] at e'
      exact h2 t u ht (by omega) (by rw [co_cmt ht, c.1]; rfl) (by rw [co_cmt (by omega), c.2.1]; rfl) c.2.2 e'.symm
theorem co_255 {K : Nat → Nat → Bool} {k : Nat} : co_Cb K (255 ^^^ 255) k := co_z
end
section
/-! the code, pure: how many, which, d, a, b, the number of an LI -/
abbrev cd_T : Type := Nat × (Nat → Nat) × (Nat → Nat) × (Nat → Nat) × (Nat → Nat) × (Nat → Int32)
def cd_n (c : cd_T) : Nat := c.1
def cd_o (c : cd_T) (i : Nat) : Nat := c.2.1 i
def cd_d (c : cd_T) (i : Nat) : Nat := c.2.2.1 i
def cd_a (c : cd_T) (i : Nat) : Nat := c.2.2.2.1 i
def cd_b (c : cd_T) (i : Nat) : Nat := c.2.2.2.2.1 i
def cd_w (c : cd_T) (i : Nat) : Int32 := c.2.2.2.2.2 i
def cd_df (o : Nat) : Bool := decide (o < 6 ∨ o = 9)
def cd_ua (o : Nat) : Bool := decide ((0 < o ∧ o < 6) ∨ o = 7 ∨ o = 8)
def cd_ub (o : Nat) : Bool := decide (0 < o ∧ o < 5)
/-- the arrays of either side hold the code c -/
def cd_I1 (c : cd_T) (op oD oA oB : Nat → Int32) (i : Nat) : Prop :=
  op i = nI (cd_o c i) ∧ cd_o c i < 11 ∧ (cd_df (cd_o c i) = true → oD i = nI (cd_d c i) ∧ cd_d c i < 8) ∧ (cd_ua (cd_o c i) = true → oA i = nI (cd_a c i) ∧ cd_a c i < 8)
    ∧ (cd_ub (cd_o c i) = true → oB i = nI (cd_b c i) ∧ cd_b c i < 8) ∧ (cd_o c i = 6 → oA i = nI (cd_a c i) ∧ cd_a c i < 21) ∧ (cd_o c i = 7 → oB i = nI (cd_b c i) ∧ cd_b c i < 21) ∧ (cd_o c i = 0 → oA i = cd_w c i)
def cd_Is (c : cd_T) (m : Int32) (op oD oA oB : Nat → Int32) : Prop := m = nI (cd_n c) ∧ cd_n c ≤ 20 ∧ ∀ i, i < cd_n c → cd_I1 c op oD oA oB i
def cd_def (c : cd_T) (i t : Nat) : Prop := cd_df (cd_o c i) = true ∧ cd_d c i = t
def cd_use (c : cd_T) (i t : Nat) : Prop := (cd_ua (cd_o c i) = true ∧ cd_a c i = t) ∨ (cd_ub (cd_o c i) = true ∧ cd_b c i = t)
def cd_suc (c : cd_T) (i j : Nat) : Bool := decide ((cd_o c i = 6 ∧ cd_a c i = j) ∨ (cd_o c i = 7 ∧ cd_b c i = j) ∨ (cd_o c i ≠ 6 ∧ cd_o c i ≠ 10 ∧ j = i + 1))
/-- what is alive behind i, F alive before -/
def cd_bh (c : cd_T) (F : Nat → Nat → Prop) (i t : Nat) : Prop := ∃ j, j < cd_n c ∧ cd_suc c i j = true ∧ F j t
def cd_st (c : cd_T) (F : Nat → Nat → Prop) (i t : Nat) : Prop := cd_use c i t ∨ (cd_bh c F i t ∧ ¬ cd_def c i t)
def cd_LB (c : cd_T) (i t : Nat) : Prop := ∀ S : Nat → Nat → Prop, (∀ i t, i < cd_n c → cd_st c S i t → S i t) → S i t
theorem cd_bhm {c : cd_T} {F G : Nat → Nat → Prop} (h : ∀ j t, j < cd_n c → F j t → G j t) {i t : Nat} (hb : cd_bh c F i t) : cd_bh c G i t := by
  obtain ⟨j, hj, hs, hf⟩ := hb
  exact ⟨j, hj, hs, h j t hj hf⟩
theorem cd_stm {c : cd_T} {F G : Nat → Nat → Prop} (h : ∀ j t, j < cd_n c → F j t → G j t) {i t : Nat} (hb : cd_st c F i t) : cd_st c G i t := by
  rcases hb with z | ⟨a, b⟩
  · exact Or.inl z
  · exact Or.inr ⟨cd_bhm h a, b⟩
theorem cd_LBi {c : cd_T} {i t : Nat} (hi : i < cd_n c) (h : cd_st c (cd_LB c) i t) : cd_LB c i t := by
  intro S hS
  exact hS i t hi (cd_stm (fun j t _ hb => hb S hS) h)
/-- a set that is closed and within: it is the one -/
theorem cd_LBe {c : cd_T} {F : Nat → Nat → Prop} (h1 : ∀ i t, i < cd_n c → cd_st c F i t → F i t) (h2 : ∀ i t, i < cd_n c → F i t → cd_LB c i t) {i t : Nat} (hi : i < cd_n c) : F i t ↔ cd_LB c i t :=
  ⟨h2 i t hi, fun h => h F h1⟩
theorem cd_use8 {c : cd_T} {m : Int32} {op oD oA oB : Nat → Int32} (h : cd_Is c m op oD oA oB) {i t : Nat} (hi : i < cd_n c) (hu : cd_use c i t) : t < 8 := by
  have h1 := h.2.2 i hi
  rcases hu with ⟨a, b⟩ | ⟨a, b⟩
  · have := (h1.2.2.2.1 a).2
    omega
  · have := (h1.2.2.2.2.1 a).2
    omega
theorem cd_LB8 {c : cd_T} {m : Int32} {op oD oA oB : Nat → Int32} (h : cd_Is c m op oD oA oB) {i t : Nat} (hl : cd_LB c i t) : i < cd_n c ∧ t < 8 := by
  refine hl (fun i t => i < cd_n c ∧ t < 8) (fun i t hi hs => ?_)
  rcases hs with z | ⟨⟨j, _, _, _, z⟩, _⟩
  · exact ⟨hi, cd_use8 h hi z⟩
  · exact ⟨hi, z⟩
/-- who clashes with whom -/
def cd_co (c : cd_T) (t u : Nat) : Prop := (0 < cd_n c ∧ cd_LB c 0 t ∧ cd_LB c 0 u) ∨ ∃ i, i < cd_n c ∧ cd_def c i t ∧ ¬ (cd_o c i = 5 ∧ cd_a c i = u) ∧ cd_bh c (cd_LB c) i u
def cd_CL (c : cd_T) (t u : Nat) : Prop := t ≠ u ∧ (cd_co c t u ∨ cd_co c u t)
noncomputable def cd_K (c : cd_T) (t u : Nat) : Bool := @decide (cd_CL c t u) (Classical.propDecidable _)
theorem cd_Kt {c : cd_T} {t u : Nat} : cd_K c t u = true ↔ cd_CL c t u := by
  unfold cd_K
  exact @decide_eq_true_iff (cd_CL c t u) (Classical.propDecidable _)
theorem cd_CLs {c : cd_T} {t u : Nat} (h : cd_CL c t u) : cd_CL c u t := ⟨h.1.symm, h.2.symm⟩
theorem cd_Ks (c : cd_T) : co_sy (cd_K c) := by
  refine ⟨fun t _ => ?_, fun t u _ _ => ?_⟩
  · cases e : cd_K c t t
    · rfl
    · exact absurd rfl (cd_Kt.mp e).1
  · rw [Bool.eq_iff_iff, cd_Kt, cd_Kt]
    exact ⟨cd_CLs, cd_CLs⟩
/-- ways -/
def cd_rw (c : cd_T) : Nat → Nat → Nat → Bool
  | 0, i, j => cd_suc c i j && decide (j < cd_n c)
  | m + 1, i, j => cd_rw c m i j || (cd_rw c m i m && cd_rw c m m j)
theorem cd_rwm (c : cd_T) (m j : Nat) : cd_rw c (m + 1) m j = cd_rw c m m j := by
  show (cd_rw c m m j || (cd_rw c m m m && cd_rw c m m j)) = _
  cases cd_rw c m m j <;> cases cd_rw c m m m <;> rfl
def cd_wt (c : cd_T) (i : Nat) : Nat := if cd_rw c (cd_n c) i i = true then 10 else 1
def cd_01 (b : Bool) : Nat := if b = true then 1 else 0
def cd_tm (c : cd_T) (i t : Nat) : Nat := cd_01 (cd_df (cd_o c i) && decide (cd_d c i = t)) + cd_01 (cd_ua (cd_o c i) && decide (cd_a c i = t)) + cd_01 (cd_ub (cd_o c i) && decide (cd_b c i = t))
def cd_ct (c : cd_T) (t i : Nat) : Nat := cd_sg (fun i => cd_tm c i t * cd_wt c i) i
def cd_cost (c : cd_T) (t : Nat) : Nat := cd_ct c t (cd_n c)
theorem cd_01l (b : Bool) : cd_01 b ≤ 1 := by cases b <;> decide
theorem cd_tml (c : cd_T) (i t : Nat) : cd_tm c i t ≤ 3 := by
  unfold cd_tm
  have h1 := cd_01l (cd_df (cd_o c i) && decide (cd_d c i = t))
  have h2 := cd_01l (cd_ua (cd_o c i) && decide (cd_a c i = t))
  have h3 := cd_01l (cd_ub (cd_o c i) && decide (cd_b c i = t))
  omega
theorem cd_wtl (c : cd_T) (i : Nat) : cd_wt c i ≤ 10 := by
  unfold cd_wt
  split <;> omega
theorem cd_ctl (c : cd_T) (t i : Nat) : cd_ct c t i ≤ i * 30 := by
  apply cd_sgk
  intro j _
  have h1 := cd_tml c j t
  have h2 := cd_wtl c j
  calc cd_tm c j t * cd_wt c j ≤ 3 * 10 := Nat.mul_le_mul h1 h2
    _ = 30 := rfl
/-- the cost of a set -/
def cd_cs1 (c : cd_T) (s t : Nat) : Nat := if s.testBit t = true then cd_cost c t else 0
def cd_cs (c : cd_T) (s : Nat) : Nat := cd_sg (cd_cs1 c s) 8
/-- MOVEs -/
def cd_mv1 (c : cd_T) (v u i : Nat) : Nat := cd_01 (decide (cd_o c i = 5 ∧ cd_d c i ≠ cd_a c i ∧ ((cd_d c i = v ∧ cd_a c i = u) ∨ (cd_d c i = u ∧ cd_a c i = v))))
def cd_mv (c : cd_T) (v u : Nat) : Nat := cd_sg (cd_mv1 c v u) (cd_n c)
def cd_sf (c : cd_T) (i : Nat) : Nat := cd_sg (fun i => cd_01 (decide (cd_o c i = 5 ∧ cd_d c i = cd_a c i))) i
def cd_al (c : cd_T) (i : Nat) : Nat := cd_sg (fun i => cd_01 (decide (cd_o c i = 5))) i
/-- the set in memory -/
def cd_Pk (c : cd_T) (k s : Nat) : Prop := co_Cb (cd_K c) (255 ^^^ s) k
/-- the best of the sets below s; v its cost plus one, 0: none -/
def cd_MS (c : cd_T) (k s v M : Nat) : Prop := (v = 0 ∧ ∀ s', s' < s → ¬ cd_Pk c k s') ∨ (M < s ∧ cd_Pk c k M ∧ v = cd_cs c M + 1 ∧ ∀ s', s' < s → cd_Pk c k s' → cd_cs c M ≤ cd_cs c s' ∧ (s' < M → cd_cs c M < cd_cs c s'))
def cd_MB (c : cd_T) (k M : Nat) : Prop := M < 256 ∧ cd_Pk c k M ∧ ∀ s', s' < 256 → cd_Pk c k s' → cd_cs c M ≤ cd_cs c s' ∧ (s' < M → cd_cs c M < cd_cs c s')
theorem cd_MBu {c : cd_T} {k M M' : Nat} (h : cd_MB c k M) (h' : cd_MB c k M') : M = M' := by
  have e1 := h.2.2 M' h'.1 h'.2.1
  have e2 := h'.2.2 M h.1 h.2.1
  rcases Nat.lt_trichotomy M M' with z | z | z
  · have := e2.2 z
    omega
  · exact z
  · have := e1.2 z
    omega
theorem cd_MS0 (c : cd_T) (k M : Nat) : cd_MS c k 0 0 M := Or.inl ⟨rfl, fun _ h => absurd h (by omega)⟩
theorem cd_MSno {c : cd_T} {k s v M : Nat} (h : cd_MS c k s v M) (hn : ¬ cd_Pk c k s) : cd_MS c k (s + 1) v M := by
  rcases h with ⟨a, b⟩ | ⟨a, b, e, d⟩
  · exact Or.inl ⟨a, fun s' hs' hp => by
      rcases Nat.lt_or_ge s' s with z | z
      · exact b s' z hp
      · have e : s' = s := by omega
        subst e
        exact hn hp⟩
  · exact Or.inr ⟨by omega, b, e, fun s' hs' hp => by
      rcases Nat.lt_or_ge s' s with z | z
      · exact d s' z hp
      · have e : s' = s := by omega
        subst e
        exact absurd hp hn⟩
theorem cd_MSge {c : cd_T} {k s v M : Nat} (h : cd_MS c k s v M) (hv : 0 < v) (hc : v ≤ cd_cs c s + 1) : cd_MS c k (s + 1) v M := by
  rcases h with ⟨a, b⟩ | ⟨a, b, e, d⟩
  · omega
  · exact Or.inr ⟨by omega, b, e, fun s' hs' hp => by
      rcases Nat.lt_or_ge s' s with z | z
      · exact d s' z hp
      · have e : s' = s := by omega
        subst e
        exact ⟨by omega, fun _ => by omega⟩⟩
theorem cd_MSlt {c : cd_T} {k s v M : Nat} (h : cd_MS c k s v M) (hp : cd_Pk c k s) (hc : v = 0 ∨ cd_cs c s + 1 < v) : cd_MS c k (s + 1) (cd_cs c s + 1) s := by
  refine Or.inr ⟨by omega, hp, rfl, fun s' hs' hp' => ?_⟩
  rcases h with ⟨a, b⟩ | ⟨a, b, e, d⟩
  · rcases Nat.lt_or_ge s' s with z | z
    · exact absurd hp' (b s' z)
    · have e : s' = s := by omega
      subst e
      exact ⟨by omega, fun _ => by omega⟩
  · rcases Nat.lt_or_ge s' s with z | z
    · have := (d s' z hp').1
      exact ⟨by omega, fun _ => by omega⟩
    · have e : s' = s := by omega
      subst e
      exact ⟨by omega, fun _ => by omega⟩
theorem cd_MSe {c : cd_T} {k v M : Nat} (h : cd_MS c k 256 v M) : cd_MB c k M ∧ v = cd_cs c M + 1 := by
  rcases h with ⟨a, b⟩ | ⟨a, b, e, d⟩
  · exact absurd co_255 (b 255 (by omega))
  · exact ⟨⟨a, b, d⟩, e⟩
theorem cd_MSv {c : cd_T} {k s v M : Nat} (h : cd_MS c k s v M) (hv : 0 < v) : M < s ∧ v = cd_cs c M + 1 := by
  rcases h with ⟨a, b⟩ | ⟨a, b, e, d⟩
  · omega
  · exact ⟨a, e⟩
end
section
/-! X: the small methods -/
theorem cd_dft {o : Nat} (h : o < 6 ∨ o = 9) : cd_df o = true := decide_eq_true h
theorem cd_dff {o : Nat} (h : ¬ (o < 6 ∨ o = 9)) : cd_df o = false := decide_eq_false h
theorem cd_uat {o : Nat} (h : (0 < o ∧ o < 6) ∨ o = 7 ∨ o = 8) : cd_ua o = true := decide_eq_true h
theorem cd_uaf {o : Nat} (h : ¬ ((0 < o ∧ o < 6) ∨ o = 7 ∨ o = 8)) : cd_ua o = false := decide_eq_false h
theorem cd_ubt {o : Nat} (h : 0 < o ∧ o < 5) : cd_ub o = true := decide_eq_true h
theorem cd_ubf {o : Nat} (h : ¬ (0 < o ∧ o < 5)) : cd_ub o = false := decide_eq_false h
theorem cd_dfi {o : Nat} : cd_df o = true ↔ (o < 6 ∨ o = 9) := decide_eq_true_iff
theorem cd_uai {o : Nat} : cd_ua o = true ↔ ((0 < o ∧ o < 6) ∨ o = 7 ∨ o = 8) := decide_eq_true_iff
theorem cd_ubi {o : Nat} : cd_ub o = true ↔ (0 < o ∧ o < 5) := decide_eq_true_iff
theorem cd_suci {c : cd_T} {i j : Nat} : cd_suc c i j = true ↔ ((cd_o c i = 6 ∧ cd_a c i = j) ∨ (cd_o c i = 7 ∧ cd_b c i = j) ∨ (cd_o c i ≠ 6 ∧ cd_o c i ≠ 10 ∧ j = i + 1)) := decide_eq_true_iff
theorem cd_10 : ¬ (1 : Int32) = 0 := by decide
theorem xx_in {post : Int32 → Prop} {p : Int32} {N : Nat} (hN : N < 2 ^ 31) (h0 : (p < 0 ∨ nI N ≤ p) → post 0) (h1 : ∀ j, j < N → p = nI j → post 1) : wpX_in post p (nI N) := by
  rcases pk_ix p hN with z | z | ⟨j, hj, e⟩
  · exact br_t z (h0 (Or.inl z))
  · exact br_c (fun z' => h0 (Or.inl z')) (fun _ => br_t z (h0 (Or.inr z)))
  · subst e
    exact br_f (nI_pos (by omega)) (br_f (nI_ge hj hN) (h1 j hj rfl))
theorem xx_df {post : Int32 → Prop} {o : Nat} (ho : o < 11) (h1 : cd_df o = true → post 1) (h0 : cd_df o = false → post 0) : wpX_defines post (nI o) :=
  pk_lt o 6 (fun z => h1 (cd_dft (Or.inl z))) (fun z => pk_eq o 9 (fun y => h1 (cd_dft (Or.inr y))) (fun y => h0 (cd_dff (by omega))))
theorem xx_ua10 {post : Int32 → Prop} {o : Nat} (ho : o < 11) (h1 : (o = 7 ∨ o = 8) → post 1) (h0 : ¬ (o = 7 ∨ o = 8) → post 0) : wX_usesA_10 post (nI o) :=
  pk_eq o 7 (fun z => h1 (Or.inl z)) (fun z => pk_eq o 8 (fun y => h1 (Or.inr y)) (fun y => h0 (by omega)))
theorem xx_ua {post : Int32 → Prop} {o : Nat} (ho : o < 11) (h1 : cd_ua o = true → post 1) (h0 : cd_ua o = false → post 0) : wpX_usesA post (nI o) :=
  pk_le o 0 (fun z => xx_ua10 ho (fun y => h1 (cd_uat (Or.inr y))) (fun y => h0 (cd_uaf (by omega))))
    (fun z => pk_lt o 6 (fun y => h1 (cd_uat (Or.inl ⟨z, y⟩))) (fun x => xx_ua10 ho (fun y => h1 (cd_uat (Or.inr y))) (fun y => h0 (cd_uaf (by omega)))))
theorem xx_ub {post : Int32 → Prop} {o : Nat} (ho : o < 11) (h1 : cd_ub o = true → post 1) (h0 : cd_ub o = false → post 0) : wpX_usesB post (nI o) :=
  pk_le o 0 (fun z => h0 (cd_ubf (by omega))) (fun z => pk_le 5 o (fun y => h0 (cd_ubf (by omega))) (fun y => h1 (cd_ubt ⟨z, y⟩)))
def cd_en (c : cd_T) (p : Nat) : Nat := if cd_n c ≤ p then cd_n c else p
theorem cd_enj {c : cd_T} {p j : Nat} (h : j < cd_n c) : j = cd_en c p ↔ p = j := by
  unfold cd_en
  split <;> omega
theorem cd_enl {c : cd_T} (h : cd_n c ≤ 20) (p : Nat) : cd_en c p < 32 := by
  unfold cd_en
  split <;> omega
theorem cd_mask : ∀ n, n < 21 → ∀ t, t < 32 → bt (((1 : Int32) <<< (nI n &&& 31)) - 1) t = decide (t < n) := by decide +kernel
theorem cd_Rmask {n : Nat} (h : n ≤ 20) : cd_R (((1 : Int32) <<< (nI n &&& 31)) - 1) (fun t => t < n) := by
  intro t ht
  rw [cd_mask n (by omega) t ht, decide_eq_true_eq]
section
variable {f_count f_k f_inputCount f_known f_selfMoves f_allMoves f_allocated f_inMemory f_memoryCost f_saved f_outputCount f_done f_took f_taken : Int32} {a_op a_opD a_opA a_opB a_inputs a_before a_behind a_ways a_clash a_costs a_needs a_moves a_place a_tried a_gained a_possible a_register a_memory a_outputs : Nat → Int32} {c : cd_T} {post : Int32 → Prop} {i : Nat}
theorem xx_uses (hc : cd_Is c f_count a_op a_opD a_opA a_opB) (hi : i < cd_n c) (k : ∀ r, cd_R r (cd_use c i) → post r) : (wpX_uses post (f_count, f_k, f_inputCount, f_known, f_selfMoves, f_allMoves, f_allocated, f_inMemory, f_memoryCost, f_saved, f_outputCount, f_done, f_took, f_taken, a_op, a_opD, a_opA, a_opB, a_inputs, a_before, a_behind, a_ways, a_clash, a_costs, a_needs, a_moves, a_place, a_tried, a_gained, a_possible, a_register, a_memory, a_outputs) (nI i)) := by
  have hn := hc.2.1
  have h1 := hc.2.2 i hi
  have hv : vp_in (nI i) 20 := vp_in_nI (by omega) (by decide)
  have e : (nI i).toNatClampNeg = i := nI_clamp (by omega)
  have ea : a_op (nI i).toNatClampNeg = nI (cd_o c i) := by rw [e]; exact h1.1
  simp only [wpX_uses, wX_uses_24, ea]
  simp only [e]
  refine ⟨hv, xx_ua h1.2.1 (fun ua => br_f cd_10 ⟨hv, hv, xx_ub h1.2.1 (fun ub => br_f cd_10 ⟨hv, k _ ?_⟩) (fun ub => br_t rfl (k _ ?_))⟩) (fun ua => br_t rfl ⟨hv, xx_ub h1.2.1 (fun ub => br_f cd_10 ⟨hv, k _ ?_⟩) (fun ub => br_t rfl (k _ ?_))⟩)⟩
  · have ha := h1.2.2.2.1 ua
    have hb := h1.2.2.2.2.1 ub
    rw [ha.1, hb.1]
    refine cd_Rc (cd_Ror (cd_Rsh (by omega)) (cd_Rsh (by omega))) (fun t _ => ?_)
    simp only [cd_use, ua, ub, true_and]
    omega
  · have ha := h1.2.2.2.1 ua
    rw [ha.1]
    refine cd_Rc (cd_Rsh (by omega)) (fun t _ => ?_)
    simp only [cd_use, ua, ub, true_and, Bool.false_eq_true, false_and, or_false]
    omega
  · have hb := h1.2.2.2.2.1 ub
    rw [hb.1]
    refine cd_Rc (cd_Ror cd_R0 (cd_Rsh (by omega))) (fun t _ => ?_)
    simp only [cd_use, ua, ub, true_and, Bool.false_eq_true, false_and, false_or]
    omega
  · refine cd_Rc cd_R0 (fun t _ => ?_)
    simp only [cd_use, ua, ub, Bool.false_eq_true, false_and, false_or]
theorem xx_def (hc : cd_Is c f_count a_op a_opD a_opA a_opB) (hi : i < cd_n c) (k : ∀ r, cd_R r (cd_def c i) → post r) : (wpX_defined post (f_count, f_k, f_inputCount, f_known, f_selfMoves, f_allMoves, f_allocated, f_inMemory, f_memoryCost, f_saved, f_outputCount, f_done, f_took, f_taken, a_op, a_opD, a_opA, a_opB, a_inputs, a_before, a_behind, a_ways, a_clash, a_costs, a_needs, a_moves, a_place, a_tried, a_gained, a_possible, a_register, a_memory, a_outputs) (nI i)) := by
  have hn := hc.2.1
  have h1 := hc.2.2 i hi
  have hv : vp_in (nI i) 20 := vp_in_nI (by omega) (by decide)
  have e : (nI i).toNatClampNeg = i := nI_clamp (by omega)
  have ea : a_op (nI i).toNatClampNeg = nI (cd_o c i) := by rw [e]; exact h1.1
  simp only [wpX_defined, ea]
  simp only [e]
  refine ⟨hv, xx_df h1.2.1 (fun ua => br_f cd_10 ⟨hv, k _ ?_⟩) (fun ua => br_t rfl (k _ ?_))⟩
  · have ha := h1.2.2.1 ua
    rw [ha.1]
    refine cd_Rc (cd_Rsh (by omega)) (fun t _ => ?_)
    simp only [cd_def, ua, true_and]
    omega
  · refine cd_Rc cd_R0 (fun t _ => ?_)
    simp only [cd_def, ua, Bool.false_eq_true, false_and]
theorem xx_at (hc : cd_Is c f_count a_op a_opD a_opA a_opB) {p : Nat} (hp : p < 2 ^ 31) (k : post (nI (cd_en c p))) : (wpX_at post (f_count, f_k, f_inputCount, f_known, f_selfMoves, f_allMoves, f_allocated, f_inMemory, f_memoryCost, f_saved, f_outputCount, f_done, f_took, f_taken, a_op, a_opD, a_opA, a_opB, a_inputs, a_before, a_behind, a_ways, a_clash, a_costs, a_needs, a_moves, a_place, a_tried, a_gained, a_possible, a_register, a_memory, a_outputs) (nI p)) := by
  have hn := hc.2.1
  refine pk_le (cd_n c) p (fun z => ?_) (fun z => ?_) hc.1
  · rw [hc.1]
    unfold cd_en at k
    rw [if_pos z] at k
    exact k
  · unfold cd_en at k
    rw [if_neg (by omega)] at k
    exact k
theorem xx_l73 (hc : cd_Is c f_count a_op a_opD a_opA a_opB) {z : Int32} {P : Nat → Prop} (hz : cd_R z P) (k : ∀ r, cd_R r (fun j => P j ∧ j < cd_n c) → post r) : (wX_leads_73 post z f_count f_k f_inputCount f_known f_selfMoves f_allMoves f_allocated f_inMemory f_memoryCost f_saved f_outputCount f_done f_took f_taken a_op a_opD a_opA a_opB a_inputs a_before a_behind a_ways a_clash a_costs a_needs a_moves a_place a_tried a_gained a_possible a_register a_memory a_outputs) := by
  refine k _ ?_
  rw [hc.1]
  exact cd_Rand hz (cd_Rmask hc.2.1)
theorem xx_l52 (hc : cd_Is c f_count a_op a_opD a_opA a_opB) (hi : i < cd_n c) {z : Int32} {P : Nat → Prop} (hz : cd_R z P) (k : ∀ r, cd_R r (fun j => (P j ∨ (cd_o c i = 7 ∧ cd_b c i = j)) ∧ j < cd_n c) → post r) : (wX_leads_52 post (nI i) (nI (cd_o c i)) z f_count f_k f_inputCount f_known f_selfMoves f_allMoves f_allocated f_inMemory f_memoryCost f_saved f_outputCount f_done f_took f_taken a_op a_opD a_opA a_opB a_inputs a_before a_behind a_ways a_clash a_costs a_needs a_moves a_place a_tried a_gained a_possible a_register a_memory a_outputs) := by
  have hn := hc.2.1
  have h1 := hc.2.2 i hi
  have hv : vp_in (nI i) 20 := vp_in_nI (by omega) (by decide)
  have e : (nI i).toNatClampNeg = i := nI_clamp (by omega)
  have ho := h1.2.1
  refine pk_eq (cd_o c i) 7 (fun y => ⟨hv, ?_⟩) (fun y => ?_)
  · have hb := h1.2.2.2.2.2.2.1 y
    rw [e, hb.1]
    refine xx_at hc (by omega) (nm_e ?_)
    refine xx_l73 hc (cd_Ror hz (cd_Rsh (cd_enl hn _))) (fun r hr => k r (cd_Rc hr (fun j _ => ?_)))
    constructor
    · rintro ⟨a | a, b⟩
      · exact ⟨Or.inl a, b⟩
      · exact ⟨Or.inr ⟨y, (cd_enj b).mp a⟩, b⟩
    · rintro ⟨a | a, b⟩
      · exact ⟨Or.inl a, b⟩
      · exact ⟨Or.inr ((cd_enj b).mpr a.2), b⟩
  · refine xx_l73 hc hz (fun r hr => k r (cd_Rc hr (fun j _ => ?_)))
    constructor
    · exact fun a => ⟨Or.inl a.1, a.2⟩
    · rintro ⟨a | a, b⟩
      · exact ⟨a, b⟩
      · exact absurd a.1 y
theorem xx_l32 (hc : cd_Is c f_count a_op a_opD a_opA a_opB) (hi : i < cd_n c) {z : Int32} {P : Nat → Prop} (hz : cd_R z P) (k : ∀ r, cd_R r (fun j => (((cd_o c i = 6 ∧ cd_a c i = j) ∨ (cd_o c i ≠ 6 ∧ P j)) ∨ (cd_o c i = 7 ∧ cd_b c i = j)) ∧ j < cd_n c) → post r) : (wX_leads_32 post (nI i) (nI (cd_o c i)) z f_count f_k f_inputCount f_known f_selfMoves f_allMoves f_allocated f_inMemory f_memoryCost f_saved f_outputCount f_done f_took f_taken a_op a_opD a_opA a_opB a_inputs a_before a_behind a_ways a_clash a_costs a_needs a_moves a_place a_tried a_gained a_possible a_register a_memory a_outputs) := by
  have hn := hc.2.1
  have h1 := hc.2.2 i hi
  have hv : vp_in (nI i) 20 := vp_in_nI (by omega) (by decide)
  have e : (nI i).toNatClampNeg = i := nI_clamp (by omega)
  have ho := h1.2.1
  refine pk_eq (cd_o c i) 6 (fun y => ⟨hv, ?_⟩) (fun y => ?_)
  · have hb := h1.2.2.2.2.2.1 y
    rw [e, hb.1]
    refine xx_at hc (by omega) (nm_e ?_)
    refine xx_l52 hc hi (cd_Rsh (cd_enl hn _)) (fun r hr => k r (cd_Rc hr (fun j _ => ?_)))
    constructor
    · rintro ⟨a | a, b⟩
      · exact ⟨Or.inl (Or.inl ⟨y, (cd_enj b).mp a⟩), b⟩
      · exact ⟨Or.inr a, b⟩
    · rintro ⟨(a | a) | a, b⟩
      · exact ⟨Or.inl ((cd_enj b).mpr a.2), b⟩
      · exact absurd y a.1
      · exact ⟨Or.inr a, b⟩
  · refine xx_l52 hc hi hz (fun r hr => k r (cd_Rc hr (fun j _ => ?_)))
    constructor
    · rintro ⟨a | a, b⟩
      · exact ⟨Or.inl (Or.inr ⟨y, a⟩), b⟩
      · exact ⟨Or.inr a, b⟩
    · rintro ⟨(a | a) | a, b⟩
      · exact absurd a.1 y
      · exact ⟨Or.inl a.2, b⟩
      · exact ⟨Or.inr a, b⟩
theorem xx_leads (hc : cd_Is c f_count a_op a_opD a_opA a_opB) (hi : i < cd_n c) (k : ∀ r, cd_R r (fun j => j < cd_n c ∧ cd_suc c i j = true) → post r) : (wpX_leads post (f_count, f_k, f_inputCount, f_known, f_selfMoves, f_allMoves, f_allocated, f_inMemory, f_memoryCost, f_saved, f_outputCount, f_done, f_took, f_taken, a_op, a_opD, a_opA, a_opB, a_inputs, a_before, a_behind, a_ways, a_clash, a_costs, a_needs, a_moves, a_place, a_tried, a_gained, a_possible, a_register, a_memory, a_outputs) (nI i)) := by
  have hn := hc.2.1
  have h1 := hc.2.2 i hi
  have hv : vp_in (nI i) 20 := vp_in_nI (by omega) (by decide)
  have e : (nI i).toNatClampNeg = i := nI_clamp (by omega)
  have ho := h1.2.1
  have ea : a_op (nI i).toNatClampNeg = nI (cd_o c i) := by rw [e]; exact h1.1
  refine ⟨hv, nm_r ea (pk_eq (cd_o c i) 6 (fun y => ?_) (fun y => pk_eq (cd_o c i) 10 (fun x => ?_) (fun x => ?_)))⟩
  · refine xx_l32 hc hi cd_R0 (fun r hr => k r (cd_Rc hr (fun j _ => ?_)))
    rw [cd_suci]
    simp only [and_false, or_false]
    omega
  · refine xx_l32 hc hi cd_R0 (fun r hr => k r (cd_Rc hr (fun j _ => ?_)))
    rw [cd_suci]
    simp only [and_false, or_false]
    omega
  · rw [nI_1]
    refine xx_at hc (by omega) ?_
    refine xx_l32 hc hi (cd_Rsh (cd_enl hn _)) (fun r hr => k r (cd_Rc hr (fun j _ => ?_)))
    rw [cd_suci]
    constructor
    · rintro ⟨(a | a) | a, b⟩
      · exact ⟨b, Or.inl a⟩
      · exact ⟨b, Or.inr (Or.inr ⟨y, x, ((cd_enj b).mp a.2).symm⟩)⟩
      · exact ⟨b, Or.inr (Or.inl a)⟩
    · rintro ⟨b, a | a | a⟩
      · exact ⟨Or.inl (Or.inl a), b⟩
      · exact ⟨Or.inr a, b⟩
      · exact ⟨Or.inl (Or.inr ⟨y, (cd_enj b).mpr a.2.2.symm⟩), b⟩
end
end
section
/-! what is alive: the passes, pure -/
def li_F (bf : Nat → Int32) (j t : Nat) : Prop := bt (bf j) t = true
def li_I (c : cd_T) (bf : Nat → Int32) : Prop := (∀ i t, i < cd_n c → li_F bf i t → cd_LB c i t) ∧ (∀ i t, i < cd_n c → li_F bf i t → cd_st c (li_F bf) i t)
def li_mu (c : cd_T) (bf : Nat → Int32) : Nat := cd_sg (fun i => 256 - cd_v (bf i)) (cd_n c)
theorem li_32 {bf : Nat → Int32} {j t : Nat} (h : li_F bf j t) : t < 32 := by
  rcases Nat.lt_or_ge t 32 with z | z
  · exact z
  · unfold li_F at h
    rw [b_big z] at h
    exact absurd h (by decide)
theorem li_0 {c : cd_T} {bf : Nat → Int32} (h : ∀ j, j < cd_n c → bf j = 0) : li_I c bf := by
  refine ⟨fun i t hi hf => ?_, fun i t hi hf => ?_⟩ <;>
  · unfold li_F at hf
    rw [h i hi, b_0] at hf
    exact absurd hf (by decide)
theorem li_sub {c : cd_T} {bf : Nat → Int32} {i : Nat} {x : Int32} (hi : i < cd_n c) (h : li_I c bf) (hx : cd_R x (cd_st c (li_F bf) i)) (j t : Nat) (hf : li_F bf j t) : li_F (upd bf i x) j t := by
  unfold li_F
  by_cases e : j = i
  · subst e
    rw [cd_us]
    exact (hx t (li_32 hf)).mpr (h.2 j t hi hf)
  · rw [cd_un e]
    exact hf
theorem li_u {c : cd_T} {bf : Nat → Int32} {i : Nat} {x : Int32} (hi : i < cd_n c) (h : li_I c bf) (hx : cd_R x (cd_st c (li_F bf) i)) : li_I c (upd bf i x) := by
  have key : ∀ t, li_F (upd bf i x) i t → cd_st c (li_F bf) i t := fun t hf => by
    have h32 := li_32 hf
    unfold li_F at hf
    rw [cd_us] at hf
    exact (hx t h32).mp hf
  have hs := li_sub hi h hx
  refine ⟨fun j t hj hf => ?_, fun j t hj hf => ?_⟩
  · by_cases e : j = i
    · subst e
      exact cd_LBi hj (cd_stm h.1 (key t hf))
    · unfold li_F at hf
      rw [cd_un e] at hf
      exact h.1 j t hj hf
  · by_cases e : j = i
    · subst e
      exact cd_stm (fun j t _ hf => hs j t hf) (key t hf)
    · unfold li_F at hf
      rw [cd_un e] at hf
      exact cd_stm (fun j t _ hf => hs j t hf) (h.2 j t hj hf)
theorem li_le {c : cd_T} {bf : Nat → Int32} {i : Nat} {x : Int32} (hi : i < cd_n c) (h : li_I c bf) (hx : cd_R x (cd_st c (li_F bf) i)) : li_mu c (upd bf i x) ≤ li_mu c bf := by
  apply cd_sgle
  intro j hj
  have := cd_vle (x := bf j) (y := upd bf i x j) (fun t _ hb => li_sub hi h hx j t hb)
  omega
theorem li_lt {c : cd_T} {m : Int32} {op oD oA oB : Nat → Int32} (hc : cd_Is c m op oD oA oB) {bf : Nat → Int32} {i : Nat} {x : Int32} (hi : i < cd_n c) (h : li_I c bf) (hx : cd_R x (cd_st c (li_F bf) i)) (hn : ¬ x = bf i) : li_mu c (upd bf i x) < li_mu c bf := by
  refine cd_sglt (k := i) (fun j hj => ?_) hi ?_
  · have := cd_vle (x := bf j) (y := upd bf i x j) (fun t _ hb => li_sub hi h hx j t hb)
    omega
  · have h1 := cd_vlt (x := bf i) (y := upd bf i x i) (fun t _ hb => li_sub hi h hx i t hb) (by rw [cd_us]; exact hn)
    have h2 : cd_v (upd bf i x i) < 256 := by
      rw [cd_us]
      exact cd_v256 hx (fun t ht => (cd_LB8 hc (cd_LBi hi (cd_stm h.1 ht))).2)
    omega
theorem li_8 {c : cd_T} {m : Int32} {op oD oA oB : Nat → Int32} (hc : cd_Is c m op oD oA oB) {bf : Nat → Int32} {i : Nat} (hi : i < cd_n c) (h : li_I c bf) {t : Nat} (ht : cd_st c (li_F bf) i t) : t < 8 :=
  (cd_LB8 hc (cd_LBi hi (cd_stm h.1 ht))).2
theorem li_b8 {c : cd_T} {m : Int32} {op oD oA oB : Nat → Int32} (hc : cd_Is c m op oD oA oB) {bf : Nat → Int32} {i : Nat} (h : li_I c bf) {t : Nat} (ht : cd_bh c (li_F bf) i t) : t < 8 := by
  obtain ⟨j, hj, _, hf⟩ := ht
  exact (cd_LB8 hc (h.1 j t hj hf)).2
/-- at the end it is the least -/
theorem li_end {c : cd_T} {m : Int32} {op oD oA oB : Nat → Int32} (hc : cd_Is c m op oD oA oB) {bf : Nat → Int32} (h : li_I c bf) (he : ∀ i, i < cd_n c → cd_R (bf i) (cd_st c (li_F bf) i)) {i t : Nat} (hi : i < cd_n c) : li_F bf i t ↔ cd_LB c i t := by
  refine cd_LBe (fun i t hi hs => ?_) h.1 hi
  have := li_8 hc hi h hs
  exact (he i hi t (by omega)).mpr hs
theorem li_fin {c : cd_T} {m : Int32} {op oD oA oB : Nat → Int32} (hc : cd_Is c m op oD oA oB) {bf : Nat → Int32} (h : li_I c bf) (he : ∀ i, i < cd_n c → cd_R (bf i) (cd_st c (li_F bf) i)) {i : Nat} (hi : i < cd_n c) : cd_R (bf i) (cd_LB c i) := fun t _ => li_end hc h he hi
theorem li_finb {c : cd_T} {m : Int32} {op oD oA oB : Nat → Int32} (hc : cd_Is c m op oD oA oB) {bf : Nat → Int32} (h : li_I c bf) (he : ∀ i, i < cd_n c → cd_R (bf i) (cd_st c (li_F bf) i)) {i : Nat} {x : Int32} (hx : cd_R x (cd_bh c (li_F bf) i)) : cd_R x (cd_bh c (cd_LB c) i) :=
  cd_Rc hx (fun t _ => ⟨cd_bhm (fun j t hj hf => (li_end hc h he hj).mp hf), cd_bhm (fun j t hj hf => (li_end hc h he hj).mpr hf)⟩)
/-! X: live -/
section
variable {f_count f_k f_inputCount f_known f_selfMoves f_allMoves f_allocated f_inMemory f_memoryCost f_saved f_outputCount f_done f_took f_taken : Int32} {a_op a_opD a_opA a_opB a_inputs a_before a_behind a_ways a_clash a_costs a_needs a_moves a_place a_tried a_gained a_possible a_register a_memory a_outputs : Nat → Int32} {c : cd_T} {post : SX → Prop} {J23 : (Int32 → (Nat → Int32) → (Nat → Int32) → (Nat → Int32) → (Nat → Int32) → (Nat → Int32) → (Nat → Int32) → (Nat → Int32) → (Nat → Int32) → (Nat → Int32) → (Nat → Int32) → (Nat → Int32) → (Nat → Int32) → (Nat → Int32) → (Nat → Int32) → (Nat → Int32) → (Nat → Int32) → (Nat → Int32) → (Nat → Int32) → (Nat → Int32) → Prop)} {J36 : (Int32 → Int32 → (Nat → Int32) → (Nat → Int32) → (Nat → Int32) → (Nat → Int32) → (Nat → Int32) → (Nat → Int32) → (Nat → Int32) → (Nat → Int32) → (Nat → Int32) → (Nat → Int32) → (Nat → Int32) → (Nat → Int32) → (Nat → Int32) → (Nat → Int32) → (Nat → Int32) → (Nat → Int32) → (Nat → Int32) → (Nat → Int32) → (Nat → Int32) → Prop)}
theorem xl_124 {i : Nat} (hi : i < 20) {out now z : Int32} {P Q : Nat → Prop} (ho : cd_R out P) (ho8 : ∀ t, P t → t < 8) (hw : cd_R now Q) (hw8 : ∀ t, Q t → t < 8)
    (k : J36 z (nI i + (-1)) a_op a_opD a_opA a_opB a_inputs (upd a_before i now) (upd a_behind i out) a_ways a_clash a_costs a_needs a_moves a_place a_tried a_gained a_possible a_register a_memory a_outputs) : (wX_live_124 post J23 J36 (nI i) out now z f_count f_k f_inputCount f_known f_selfMoves f_allMoves f_allocated f_inMemory f_memoryCost f_saved f_outputCount f_done f_took f_taken a_op a_opD a_opA a_opB a_inputs a_before a_behind a_ways a_clash a_costs a_needs a_moves a_place a_tried a_gained a_possible a_register a_memory a_outputs) := by
  have e : (nI i).toNatClampNeg = i := nI_clamp (by omega)
  exact ⟨vp_in_nI (by omega) (by decide), nm_r (by rw [e, cd_Rs ho ho8]) ⟨vp_in_nI (by omega) (by decide), nm_r (by rw [e, cd_Rs hw hw8]) (nm_e k)⟩⟩
theorem xl_52 (hc : cd_Is c f_count a_op a_opD a_opA a_opB) {i : Nat} (hi : i < cd_n c) (hI : li_I c a_before) {x1 x4 : Int32} (h4 : cd_R x4 (fun j => j < cd_n c ∧ cd_suc c i j = true))
    (k : ∀ out now z, cd_R out (cd_bh c (li_F a_before) i) → cd_R now (cd_st c (li_F a_before) i) → ((z = 0 ∧ x1 = 0 ∧ now = a_before i) ∨ (z = 1 ∧ ¬ (x1 = 0 ∧ now = a_before i))) →
      J36 z (nI i + (-1)) a_op a_opD a_opA a_opB a_inputs (upd a_before i now) (upd a_behind i out) a_ways a_clash a_costs a_needs a_moves a_place a_tried a_gained a_possible a_register a_memory a_outputs) :
    ∀ d j x3, j + d = cd_n c → cd_R x3 (fun t => ∃ j', j' < j ∧ cd_suc c i j' = true ∧ li_F a_before j' t) → (wX_live_52 post J23 J36 x1 (nI i) x4 f_count f_k f_inputCount f_known f_selfMoves f_allMoves f_allocated f_inMemory f_memoryCost f_saved f_outputCount f_done f_took f_taken a_op a_opD a_opA a_opB a_inputs a_before a_behind a_ways a_clash a_costs a_needs a_moves a_place a_tried a_gained a_possible a_register a_memory a_outputs (d + 1) x3 (nI j)) := by
  have hn := hc.2.1
  have e : (nI i).toNatClampNeg = i := nI_clamp (by omega)
  intro d
  induction d with
  | zero =>
    intro j x3 hj h3
    have ej : j = cd_n c := by omega
    subst ej
    refine pk_le (cd_n c) (cd_n c) (fun _ => ?_) (fun z => absurd z (by omega)) hc.1
    have ho : cd_R x3 (cd_bh c (li_F a_before) i) := h3
    refine xx_uses hc hi (fun r hr => xx_def hc hi (fun s hs => nm_e ?_))
    have hw : cd_R (r ||| (x3 &&& (s ^^^ (-1)))) (cd_st c (li_F a_before) i) := cd_Ror hr (cd_Rand ho (cd_Rnot hs))
    have o8 : ∀ t, cd_bh c (li_F a_before) i t → t < 8 := fun t => li_b8 hc hI
    have w8 : ∀ t, cd_st c (li_F a_before) i t → t < 8 := fun t => li_8 hc hi hI
    have h20 : i < 20 := by omega
    have k1 : ¬ (x1 = 0 ∧ (r ||| (x3 &&& (s ^^^ (-1)))) = a_before i) → (wX_live_119 post J23 J36 (nI i) x3 (r ||| (x3 &&& (s ^^^ (-1)))) f_count f_k f_inputCount f_known f_selfMoves f_allMoves f_allocated f_inMemory f_memoryCost f_saved f_outputCount f_done f_took f_taken a_op a_opD a_opA a_opB a_inputs a_before a_behind a_ways a_clash a_costs a_needs a_moves a_place a_tried a_gained a_possible a_register a_memory a_outputs) := fun hne => by
      exact xl_124 h20 ho o8 hw w8 (k _ _ 1 ho hw (Or.inr ⟨rfl, hne⟩))
    refine br_c (fun e1 => ⟨vp_in_nI (by omega) (by decide), br_c (fun e2 => ?_) (fun e2 => ?_)⟩) (fun e1 => ?_)
    · rw [e] at e2
      exact xl_124 h20 ho o8 hw w8 (k _ _ 0 ho hw (Or.inl ⟨rfl, e1, e2⟩))
    · rw [e] at e2
      exact k1 (fun z => e2 z.2)
    · exact k1 (fun z => e1 z.1)
  | succ d ih =>
    intro j x3 hj h3
    refine pk_le (cd_n c) j (fun z => absurd z (by omega)) (fun z => ?_) hc.1
    refine cd_r0 h4 (by omega) (fun hn1 => nm_r (nI_1 j) (ih (j + 1) x3 (by omega) (cd_Rc h3 (fun t _ => ?_)))) (fun hp => ⟨vp_in_nI (by omega) (by decide), nm_e (nm_r (nI_1 j) (ih (j + 1) _ (by omega) ?_))⟩)
    · constructor
      · rintro ⟨j', a, b⟩
        exact ⟨j', by omega, b⟩
      · rintro ⟨j', a, b, d'⟩
        refine ⟨j', ?_, b, d'⟩
        rcases Nat.lt_or_ge j' j with y | y
        · exact y
        · have ej : j' = j := by omega
          subst ej
          exact absurd ⟨z, b⟩ hn1
    · rw [nI_clamp (by omega)]
      refine cd_Rc (cd_Ror h3 (fun t _ => Iff.rfl : cd_R (a_before j) (li_F a_before j))) (fun t _ => ?_)
      constructor
      · rintro (⟨j', a, b⟩ | a)
        · exact ⟨j', by omega, b⟩
        · exact ⟨j, by omega, hp.2, a⟩
      · rintro ⟨j', a, b, d'⟩
        rcases Nat.lt_or_ge j' j with y | y
        · exact Or.inl ⟨j', y, b, d'⟩
        · have ej : j' = j := by omega
          subst ej
          exact Or.inr d'
/-- a pass -/
def li_Q (c : cd_T) (bf0 : Nat → Int32) (k : Nat) (m : Int32) (bf bh : Nat → Int32) : Prop :=
  li_I c bf ∧ ((m = 1 ∧ li_mu c bf < li_mu c bf0) ∨ (m = 0 ∧ bf = bf0 ∧ ∀ i, k ≤ i → i < cd_n c → cd_R (bf i) (cd_st c (li_F bf) i) ∧ cd_R (bh i) (cd_bh c (li_F bf) i)))
theorem li_Qs (hc : cd_Is c f_count a_op a_opD a_opA a_opB) {bf0 bf bh : Nat → Int32} {k : Nat} {m z out now : Int32} (hk : k < cd_n c) (h : li_Q c bf0 (k + 1) m bf bh) (ho : cd_R out (cd_bh c (li_F bf) k)) (hw : cd_R now (cd_st c (li_F bf) k))
    (hz : (z = 0 ∧ m = 0 ∧ now = bf k) ∨ (z = 1 ∧ ¬ (m = 0 ∧ now = bf k))) : li_Q c bf0 k z (upd bf k now) (upd bh k out) := by
  refine ⟨li_u hk h.1 hw, ?_⟩
  rcases h.2 with ⟨hm, hl⟩ | ⟨hm, he, ha⟩
  · rcases hz with ⟨_, z2, _⟩ | ⟨z1, _⟩
    · rw [hm] at z2
      exact absurd z2 (by decide)
    · have := li_le hk h.1 hw
      exact Or.inl ⟨z1, by omega⟩
  · rcases hz with ⟨z1, _, z3⟩ | ⟨z1, z2⟩
    · have ee : upd bf k now = bf := cd_ue z3.symm
      rw [ee]
      refine Or.inr ⟨z1, he, fun i hi1 hi2 => ?_⟩
      rcases Nat.lt_or_ge k i with y | y
      · rw [cd_un (by omega)]
        exact ha i y hi2
      · have ei : i = k := by omega
        subst ei
        rw [cd_us, ← z3]
        exact ⟨hw, ho⟩
    · have := li_lt hc hk h.1 hw (fun z => z2 ⟨hm, z⟩)
      rw [he] at this ⊢
      exact Or.inl ⟨z1, this⟩
theorem xl_36 (hc : cd_Is c f_count a_op a_opD a_opA a_opB) {bf0 : Nat → Int32} (k : ∀ m bf bh, li_Q c bf0 0 m bf bh → J23 m a_op a_opD a_opA a_opB a_inputs bf bh a_ways a_clash a_costs a_needs a_moves a_place a_tried a_gained a_possible a_register a_memory a_outputs) :
    ∀ d m bf bh, d ≤ cd_n c → li_Q c bf0 d m bf bh → (wX_live_36 post J23 f_count f_k f_inputCount f_known f_selfMoves f_allMoves f_allocated f_inMemory f_memoryCost f_saved f_outputCount f_done f_took f_taken (d + 1) m (nI d + (-1)) a_op a_opD a_opA a_opB a_inputs bf bh a_ways a_clash a_costs a_needs a_moves a_place a_tried a_gained a_possible a_register a_memory a_outputs) := by
  have hn := hc.2.1
  intro d
  induction d with
  | zero =>
    intro m bf bh _ hQ
    exact br_t (by decide) (k m bf bh hQ)
  | succ d ih =>
    intro m bf bh hd hQ
    rw [pk_m1]
    refine br_f (nI_pos (by omega)) (xx_leads hc (by omega) (fun r hr => ⟨cd_n c + 1, ?_⟩))
    refine xl_52 hc (by omega) hQ.1 hr (fun out now z ho hw hz => ?_) (cd_n c) 0 0 (by omega) (cd_Rc cd_R0 (fun t _ => ?_))
    · exact ih z _ _ (by omega) (li_Qs hc (by omega) hQ ho hw hz)
    · constructor
      · exact fun z => z.elim
      · rintro ⟨j', a, _⟩
        omega
theorem xl_23 (hc : cd_Is c f_count a_op a_opD a_opA a_opB) (k : ∀ bf bh, (∀ i, i < cd_n c → cd_R (bf i) (cd_LB c i)) → (∀ i, i < cd_n c → cd_R (bh i) (cd_bh c (cd_LB c) i)) → post (f_count, f_k, f_inputCount, f_known, f_selfMoves, f_allMoves, f_allocated, f_inMemory, f_memoryCost, f_saved, f_outputCount, f_done, f_took, f_taken, a_op, a_opD, a_opA, a_opB, a_inputs, bf, bh, a_ways, a_clash, a_costs, a_needs, a_moves, a_place, a_tried, a_gained, a_possible, a_register, a_memory, a_outputs)) :
    ∀ n m bf0 bf bh, li_I c bf → ((m = 1 ∧ li_mu c bf + 1 < n) ∨ (0 < n ∧ m = 0 ∧ li_Q c bf0 0 m bf bh)) → (wX_live_23 post f_count f_k f_inputCount f_known f_selfMoves f_allMoves f_allocated f_inMemory f_memoryCost f_saved f_outputCount f_done f_took f_taken n m a_op a_opD a_opA a_opB a_inputs bf bh a_ways a_clash a_costs a_needs a_moves a_place a_tried a_gained a_possible a_register a_memory a_outputs) := by
  intro n
  induction n with
  | zero => intro m bf0 bf bh _ h; omega
  | succ n ih =>
    intro m bf0 bf bh hI h
    rcases h with ⟨hm, hl⟩ | ⟨_, hm, hQ⟩
    · subst hm
      refine br_f (by decide) (nm_r (e' := nI (cd_n c) + (-1)) (by rw [hc.1]; exact Int32.sub_eq_add_neg _ _) ⟨cd_n c + 1, ?_⟩)
      refine xl_36 hc (bf0 := bf) (fun m' bf' bh' hQ => ?_) (cd_n c) 0 bf bh (by omega) ⟨hI, Or.inr ⟨rfl, rfl, fun i h1 h2 => absurd h1 (by omega)⟩⟩
      rcases hQ.2 with ⟨a, b⟩ | ⟨a, b⟩
      · exact ih m' bf bf' bh' hQ.1 (Or.inl ⟨a, by omega⟩)
      · exact ih m' bf bf' bh' hQ.1 (Or.inr ⟨by omega, a, hQ⟩)
    · subst hm
      rcases hQ.2 with ⟨a, _⟩ | ⟨_, _, ha⟩
      · exact absurd a (by decide)
      · have he : ∀ i, i < cd_n c → cd_R (bf i) (cd_st c (li_F bf) i) := fun i hi => (ha i (by omega) hi).1
        exact br_t rfl (k bf bh (fun i hi => li_fin hc hI he hi) (fun i hi => li_finb hc hI he (ha i (by omega) hi).2))
theorem xl_2 (k : ∀ bf, (∀ j, j < 21 → bf j = 0) → ∃ n23, (wX_live_23 post f_count f_k f_inputCount f_known f_selfMoves f_allMoves f_allocated f_inMemory f_memoryCost f_saved f_outputCount f_done f_took f_taken n23 1 a_op a_opD a_opA a_opB a_inputs bf a_behind a_ways a_clash a_costs a_needs a_moves a_place a_tried a_gained a_possible a_register a_memory a_outputs)) : ∀ d j bf, j + d = 21 → (∀ i, i < j → bf i = 0) → (wX_live_2 post f_count f_k f_inputCount f_known f_selfMoves f_allMoves f_allocated f_inMemory f_memoryCost f_saved f_outputCount f_done f_took f_taken (d + 1) (nI j) a_op a_opD a_opA a_opB a_inputs bf a_behind a_ways a_clash a_costs a_needs a_moves a_place a_tried a_gained a_possible a_register a_memory a_outputs) := by
  intro d
  induction d with
  | zero =>
    intro j bf hj hb
    have ej : j = 21 := by omega
    subst ej
    exact br_t (by decide) (k bf hb)
  | succ d ih =>
    intro j bf hj hb
    refine br_f (nI_ge (b := 21) (by omega) (by decide)) ⟨vp_in_nI (by omega) (by decide), nm_r (by rw [nI_clamp (by omega), cd_vs0]) (nm_r (nI_1 j) (ih (j + 1) (upd bf j 0) (by omega) (fun i hi => ?_)))⟩
    by_cases ei : i = j
    · rw [ei, cd_us]
    · rw [cd_un ei]
      exact hb i (by omega)
theorem xl_live (hc : cd_Is c f_count a_op a_opD a_opA a_opB) (k : ∀ bf bh, (∀ i, i < cd_n c → cd_R (bf i) (cd_LB c i)) → (∀ i, i < cd_n c → cd_R (bh i) (cd_bh c (cd_LB c) i)) → post (f_count, f_k, f_inputCount, f_known, f_selfMoves, f_allMoves, f_allocated, f_inMemory, f_memoryCost, f_saved, f_outputCount, f_done, f_took, f_taken, a_op, a_opD, a_opA, a_opB, a_inputs, bf, bh, a_ways, a_clash, a_costs, a_needs, a_moves, a_place, a_tried, a_gained, a_possible, a_register, a_memory, a_outputs)) : (wpX_live post (f_count, f_k, f_inputCount, f_known, f_selfMoves, f_allMoves, f_allocated, f_inMemory, f_memoryCost, f_saved, f_outputCount, f_done, f_took, f_taken, a_op, a_opD, a_opA, a_opB, a_inputs, a_before, a_behind, a_ways, a_clash, a_costs, a_needs, a_moves, a_place, a_tried, a_gained, a_possible, a_register, a_memory, a_outputs)) := by
  have hn := hc.2.1
  refine ⟨22, xl_2 (fun bf hb => ⟨li_mu c bf + 2, ?_⟩) 21 0 a_before (by omega) (fun i hi => absurd hi (by omega))⟩
  exact xl_23 hc k _ 1 bf bf a_behind (li_0 (fun j hj => hb j (by omega))) (Or.inl ⟨rfl, by omega⟩)
end
end
section
/-! X: ways and costs -/
theorem cd_rws {c : cd_T} {m i t : Nat} : cd_rw c (m + 1) i t = (cd_rw c m i t || (cd_rw c m i m && cd_rw c m m t)) := rfl
theorem cd_add {co : Nat → Int32} {g : Nat → Nat} {a w : Nat} (h : ∀ t, t < 8 → co t = nI (g t)) (ha : a < 8) : ∀ t, t < 8 → upd co a (co a + nI w) t = nI (g t + cd_01 (decide (a = t)) * w) := by
  intro t ht
  by_cases e : t = a
  · subst e
    rw [cd_us, h t ht, nI_add]
    simp [cd_01]
  · have e' : decide (a = t) = false := decide_eq_false (fun z => e z.symm)
    rw [cd_un e, h t ht, e']
    simp [cd_01]
section
variable {f_count f_k f_inputCount f_known f_selfMoves f_allMoves f_allocated f_inMemory f_memoryCost f_saved f_outputCount f_done f_took f_taken : Int32} {a_op a_opD a_opA a_opB a_inputs a_before a_behind a_ways a_clash a_costs a_needs a_moves a_place a_tried a_gained a_possible a_register a_memory a_outputs : Nat → Int32} {c : cd_T} {post : SX → Prop} {J29 J110 : (Int32 → (Nat → Int32) → (Nat → Int32) → (Nat → Int32) → (Nat → Int32) → (Nat → Int32) → (Nat → Int32) → (Nat → Int32) → (Nat → Int32) → (Nat → Int32) → (Nat → Int32) → (Nat → Int32) → (Nat → Int32) → (Nat → Int32) → (Nat → Int32) → (Nat → Int32) → (Nat → Int32) → (Nat → Int32) → (Nat → Int32) → (Nat → Int32) → Prop)}
theorem xo_192 (hc : cd_Is c f_count a_op a_opD a_opA a_opB) {i w : Nat} {g : Nat → Nat} (hi : i < cd_n c) (hg : ∀ t, t < 8 → a_costs t = nI (g t))
    (k : ∀ co, (∀ t, t < 8 → co t = nI (g t + cd_01 (cd_ub (cd_o c i) && decide (cd_b c i = t)) * w)) → J110 (nI (i + 1)) a_op a_opD a_opA a_opB a_inputs a_before a_behind a_ways a_clash co a_needs a_moves a_place a_tried a_gained a_possible a_register a_memory a_outputs) : (wX_loops_192 post J110 (nI i) (nI w) f_count f_k f_inputCount f_known f_selfMoves f_allMoves f_allocated f_inMemory f_memoryCost f_saved f_outputCount f_done f_took f_taken a_op a_opD a_opA a_opB a_inputs a_before a_behind a_ways a_clash a_costs a_needs a_moves a_place a_tried a_gained a_possible a_register a_memory a_outputs) := by
  have hn := hc.2.1
  have h1 := hc.2.2 i hi
  have hv : vp_in (nI i) 20 := vp_in_nI (by omega) (by decide)
  have e : (nI i).toNatClampNeg = i := nI_clamp (by omega)
  refine ⟨hv, ?_⟩
  rw [e, h1.1]
  refine xx_ub h1.2.1 (fun ub => br_f cd_10 ?_) (fun ub => br_t rfl (nm_r (nI_1 i) (k _ (fun t ht => ?_))))
  · have hb := h1.2.2.2.2.1 ub
    rw [hb.1, nI_clamp (by omega)]
    have hw : vp_in (nI (cd_b c i)) 8 := vp_in_nI hb.2 (by decide)
    refine ⟨hv, hw, hw, nm_e (nm_r (nI_1 i) (k _ (fun t ht => ?_)))⟩
    rw [cd_add hg hb.2 t ht, ub, Bool.true_and]
  · rw [hg t ht, ub, Bool.false_and]
    simp [cd_01]
theorem xo_165 (hc : cd_Is c f_count a_op a_opD a_opA a_opB) {i w : Nat} {g : Nat → Nat} (hi : i < cd_n c) (hg : ∀ t, t < 8 → a_costs t = nI (g t))
    (k : ∀ co, (∀ t, t < 8 → co t = nI (g t + cd_01 (cd_ua (cd_o c i) && decide (cd_a c i = t)) * w + cd_01 (cd_ub (cd_o c i) && decide (cd_b c i = t)) * w)) → J110 (nI (i + 1)) a_op a_opD a_opA a_opB a_inputs a_before a_behind a_ways a_clash co a_needs a_moves a_place a_tried a_gained a_possible a_register a_memory a_outputs) : (wX_loops_165 post J110 (nI i) (nI w) f_count f_k f_inputCount f_known f_selfMoves f_allMoves f_allocated f_inMemory f_memoryCost f_saved f_outputCount f_done f_took f_taken a_op a_opD a_opA a_opB a_inputs a_before a_behind a_ways a_clash a_costs a_needs a_moves a_place a_tried a_gained a_possible a_register a_memory a_outputs) := by
  have hn := hc.2.1
  have h1 := hc.2.2 i hi
  have hv : vp_in (nI i) 20 := vp_in_nI (by omega) (by decide)
  have e : (nI i).toNatClampNeg = i := nI_clamp (by omega)
  refine ⟨hv, ?_⟩
  rw [e, h1.1]
  refine xx_ua h1.2.1 (fun ub => br_f cd_10 ?_) (fun ub => br_t rfl (xo_192 hc hi hg (fun co hco => k co (fun t ht => ?_))))
  · have hb := h1.2.2.2.1 ub
    rw [hb.1, nI_clamp (by omega)]
    have hw : vp_in (nI (cd_a c i)) 8 := vp_in_nI hb.2 (by decide)
    refine ⟨hv, hw, hw, nm_e (xo_192 hc hi (cd_add hg hb.2) (fun co hco => k co (fun t ht => ?_)))⟩
    rw [hco t ht, ub, Bool.true_and]
  · rw [hco t ht, ub, Bool.false_and]
    simp [cd_01]
theorem xo_137 (hc : cd_Is c f_count a_op a_opD a_opA a_opB) {i w : Nat} {g : Nat → Nat} (hi : i < cd_n c) (hg : ∀ t, t < 8 → a_costs t = nI (g t))
    (k : ∀ co, (∀ t, t < 8 → co t = nI (g t + cd_tm c i t * w)) → J110 (nI (i + 1)) a_op a_opD a_opA a_opB a_inputs a_before a_behind a_ways a_clash co a_needs a_moves a_place a_tried a_gained a_possible a_register a_memory a_outputs) : (wX_loops_137 post J110 (nI i) (nI w) f_count f_k f_inputCount f_known f_selfMoves f_allMoves f_allocated f_inMemory f_memoryCost f_saved f_outputCount f_done f_took f_taken a_op a_opD a_opA a_opB a_inputs a_before a_behind a_ways a_clash a_costs a_needs a_moves a_place a_tried a_gained a_possible a_register a_memory a_outputs) := by
  have hn := hc.2.1
  have h1 := hc.2.2 i hi
  have hv : vp_in (nI i) 20 := vp_in_nI (by omega) (by decide)
  have e : (nI i).toNatClampNeg = i := nI_clamp (by omega)
  refine ⟨hv, ?_⟩
  rw [e, h1.1]
  refine xx_df h1.2.1 (fun ub => br_f cd_10 ?_) (fun ub => br_t rfl (xo_165 hc hi hg (fun co hco => k co (fun t ht => ?_))))
  · have hb := h1.2.2.1 ub
    rw [hb.1, nI_clamp (by omega)]
    have hw : vp_in (nI (cd_d c i)) 8 := vp_in_nI hb.2 (by decide)
    refine ⟨hv, hw, hw, nm_e (xo_165 hc hi (cd_add hg hb.2) (fun co hco => k co (fun t ht => ?_)))⟩
    rw [hco t ht]
    unfold cd_tm
    rw [ub, Bool.true_and, Nat.add_mul, Nat.add_mul, ← Nat.add_assoc, ← Nat.add_assoc]
  · rw [hco t ht]
    unfold cd_tm
    rw [ub, Bool.false_and, Nat.add_mul, Nat.add_mul, ← Nat.add_assoc, ← Nat.add_assoc]
    simp [cd_01]
theorem xo_110 (hc : cd_Is c f_count a_op a_opD a_opA a_opB) (hw : ∀ i, i < cd_n c → cd_R (a_ways i) (fun t => cd_rw c (cd_n c) i t = true))
    (k : ∀ co, (∀ t, t < 8 → co t = nI (cd_cost c t)) → post (f_count, f_k, f_inputCount, f_known, f_selfMoves, f_allMoves, f_allocated, f_inMemory, f_memoryCost, f_saved, f_outputCount, f_done, f_took, f_taken, a_op, a_opD, a_opA, a_opB, a_inputs, a_before, a_behind, a_ways, a_clash, co, a_needs, a_moves, a_place, a_tried, a_gained, a_possible, a_register, a_memory, a_outputs)) : ∀ d j co, j + d = cd_n c → (∀ t, t < 8 → co t = nI (cd_ct c t j)) → (wX_loops_110 post f_count f_k f_inputCount f_known f_selfMoves f_allMoves f_allocated f_inMemory f_memoryCost f_saved f_outputCount f_done f_took f_taken (d + 1) (nI j) a_op a_opD a_opA a_opB a_inputs a_before a_behind a_ways a_clash co a_needs a_moves a_place a_tried a_gained a_possible a_register a_memory a_outputs) := by
  have hn := hc.2.1
  intro d
  induction d with
  | zero =>
    intro j co hj hco
    have ej : j = cd_n c := by omega
    subst ej
    exact pk_le (cd_n c) (cd_n c) (fun _ => k co hco) (fun z => absurd z (by omega)) hc.1
  | succ d ih =>
    intro j co hj hco
    have hjn : j < cd_n c := by omega
    refine pk_le (cd_n c) j (fun z => absurd z (by omega)) (fun z => ⟨vp_in_nI (by omega) (by decide), ?_⟩) hc.1
    rw [nI_clamp (by omega)]
    have key : ∀ w, cd_wt c j = w → ∀ co', (∀ t, t < 8 → co' t = nI (cd_ct c t j + cd_tm c j t * w)) → (wX_loops_110 post f_count f_k f_inputCount f_known f_selfMoves f_allMoves f_allocated f_inMemory f_memoryCost f_saved f_outputCount f_done f_took f_taken (d + 1) (nI (j + 1)) a_op a_opD a_opA a_opB a_inputs a_before a_behind a_ways a_clash co' a_needs a_moves a_place a_tried a_gained a_possible a_register a_memory a_outputs) := fun w hw' co' h' => ih (j + 1) co' (by omega) (fun t ht => by rw [h' t ht, ← hw']; rfl)
    refine cd_r0 (hw j hjn) (by omega) (fun hb => ?_) (fun hb => ?_)
    · exact xo_137 (w := 1) hc hjn hco (key 1 (by unfold cd_wt; rw [if_neg hb]))
    · exact xo_137 (w := 10) hc hjn hco (key 10 (by unfold cd_wt; rw [if_pos hb]))
theorem xo_89 (k : ∀ co, (∀ j, j < 8 → co j = 0) → ∃ n110, (wX_loops_110 post f_count f_k f_inputCount f_known f_selfMoves f_allMoves f_allocated f_inMemory f_memoryCost f_saved f_outputCount f_done f_took f_taken n110 0 a_op a_opD a_opA a_opB a_inputs a_before a_behind a_ways a_clash co a_needs a_moves a_place a_tried a_gained a_possible a_register a_memory a_outputs)) : ∀ d j co, j + d = 8 → (∀ i, i < j → co i = 0) → (wX_loops_89 post f_count f_k f_inputCount f_known f_selfMoves f_allMoves f_allocated f_inMemory f_memoryCost f_saved f_outputCount f_done f_took f_taken (d + 1) (nI j) a_op a_opD a_opA a_opB a_inputs a_before a_behind a_ways a_clash co a_needs a_moves a_place a_tried a_gained a_possible a_register a_memory a_outputs) := by
  intro d
  induction d with
  | zero =>
    intro j co hj hb
    have ej : j = 8 := by omega
    subst ej
    exact br_t (by decide) (k co hb)
  | succ d ih =>
    intro j co hj hb
    refine br_f (nI_ge (b := 8) (by omega) (by decide)) ⟨vp_in_nI (by omega) (by decide), nm_r (by rw [nI_clamp (by omega)]) (nm_r (nI_1 j) (ih (j + 1) (upd co j 0) (by omega) (fun i hi => ?_)))⟩
    by_cases ei : i = j
    · rw [ei, cd_us]
    · rw [cd_un ei]
      exact hb i (by omega)
def cd_W1 (c : cd_T) (m i : Nat) (wy : Nat → Int32) : Prop := ∀ i', i' < cd_n c → cd_R (wy i') (fun t => cd_rw c (if i' < i then m + 1 else m) i' t = true)
theorem cd_W1m {c : cd_T} {m i : Nat} {wy : Nat → Int32} (h : cd_W1 c m i wy) (hm : m < cd_n c) : cd_R (wy m) (fun t => cd_rw c m m t = true) := by
  have h1 := h m hm
  by_cases e : m < i
  · rw [if_pos e] at h1
    exact cd_Rc h1 (fun t _ => by rw [cd_rwm])
  · rw [if_neg e] at h1
    exact h1
theorem cd_W1n {c : cd_T} {m i : Nat} {wy : Nat → Int32} (h : cd_W1 c m i wy) (hb : ¬ cd_rw c m i m = true) : cd_W1 c m (i + 1) wy := by
  intro i' hi'
  have h1 := h i' hi'
  by_cases e : i' = i
  · subst e
    rw [if_neg (by omega)] at h1
    rw [if_pos (by omega)]
    refine cd_Rc h1 (fun t _ => ?_)
    rw [cd_rws, Bool.not_eq_true _ |>.mp hb, Bool.false_and, Bool.or_false]
  · by_cases e2 : i' < i
    · rw [if_pos e2] at h1
      rw [if_pos (by omega)]
      exact h1
    · rw [if_neg e2] at h1
      rw [if_neg (by omega)]
      exact h1
theorem cd_W1y {c : cd_T} {m i : Nat} {wy : Nat → Int32} (h : cd_W1 c m i wy) (hi : i < cd_n c) (hm : m < cd_n c) (hb : cd_rw c m i m = true) : cd_W1 c m (i + 1) (upd wy i (wy i ||| wy m)) := by
  intro i' hi'
  have h1 := h i' hi'
  by_cases e : i' = i
  · subst e
    rw [if_neg (by omega)] at h1
    rw [if_pos (by omega), cd_us]
    refine cd_Rc (cd_Ror h1 (cd_W1m h hm)) (fun t _ => ?_)
    rw [cd_rws, hb, Bool.true_and, Bool.or_eq_true]
  · rw [cd_un e]
    by_cases e2 : i' < i
    · rw [if_pos e2] at h1
      rw [if_pos (by omega)]
      exact h1
    · rw [if_neg e2] at h1
      rw [if_neg (by omega)]
      exact h1
theorem cd_W1i {c : cd_T} {m i : Nat} {wy : Nat → Int32} (h : cd_W1 c m i wy) (hi : i < cd_n c) : cd_R (wy i) (fun t => cd_rw c m i t = true) := by
  have h1 := h i hi
  rw [if_neg (by omega)] at h1
  exact h1
theorem cd_W1e {c : cd_T} {m : Nat} {wy : Nat → Int32} (h : cd_W1 c m (cd_n c) wy) : ∀ i', i' < cd_n c → cd_R (wy i') (fun t => cd_rw c (m + 1) i' t = true) := by
  intro i' hi'
  have h1 := h i' hi'
  rw [if_pos hi'] at h1
  exact h1
theorem cd_W10 {c : cd_T} {m : Nat} {wy : Nat → Int32} (h : ∀ i', i' < cd_n c → cd_R (wy i') (fun t => cd_rw c m i' t = true)) : cd_W1 c m 0 wy := by
  intro i' hi'
  rw [if_neg (by omega)]
  exact h i' hi'
theorem xo_39 (hc : cd_Is c f_count a_op a_opD a_opA a_opB) {m : Nat} (hm : m < cd_n c) (k : ∀ wy, (∀ i, i < cd_n c → cd_R (wy i) (fun t => cd_rw c (m + 1) i t = true)) → J29 (nI (m + 1)) a_op a_opD a_opA a_opB a_inputs a_before a_behind wy a_clash a_costs a_needs a_moves a_place a_tried a_gained a_possible a_register a_memory a_outputs) :
    ∀ d j wy, j + d = cd_n c → cd_W1 c m j wy → (wX_loops_39 post J29 (nI m) f_count f_k f_inputCount f_known f_selfMoves f_allMoves f_allocated f_inMemory f_memoryCost f_saved f_outputCount f_done f_took f_taken (d + 1) (nI j) a_op a_opD a_opA a_opB a_inputs a_before a_behind wy a_clash a_costs a_needs a_moves a_place a_tried a_gained a_possible a_register a_memory a_outputs) := by
  have hn := hc.2.1
  intro d
  induction d with
  | zero =>
    intro j wy hj hW
    have ej : j = cd_n c := by omega
    subst ej
    exact pk_le (cd_n c) (cd_n c) (fun _ => nm_r (nI_1 m) (k wy (cd_W1e hW))) (fun z => absurd z (by omega)) hc.1
  | succ d ih =>
    intro j wy hj hW
    have hjn : j < cd_n c := by omega
    have hv : vp_in (nI j) 20 := vp_in_nI (by omega) (by decide)
    refine pk_le (cd_n c) j (fun z => absurd z (by omega)) (fun z => ⟨hv, ?_⟩) hc.1
    rw [nI_clamp (by omega : j < 2 ^ 31), nI_clamp (by omega : m < 2 ^ 31)]
    refine cd_r0 (cd_W1i hW hjn) (by omega) (fun hb => nm_r (nI_1 j) (ih (j + 1) wy (by omega) (cd_W1n hW hb))) (fun hb => ⟨hv, vp_in_nI (by omega) (by decide), hv, nm_e (nm_r (nI_1 j) (ih (j + 1) _ (by omega) (cd_W1y hW hjn hm hb)))⟩)
theorem xo_29 (hc : cd_Is c f_count a_op a_opD a_opA a_opB) (k : ∀ wy, (∀ i, i < cd_n c → cd_R (wy i) (fun t => cd_rw c (cd_n c) i t = true)) → ∃ n89, (wX_loops_89 post f_count f_k f_inputCount f_known f_selfMoves f_allMoves f_allocated f_inMemory f_memoryCost f_saved f_outputCount f_done f_took f_taken n89 0 a_op a_opD a_opA a_opB a_inputs a_before a_behind wy a_clash a_costs a_needs a_moves a_place a_tried a_gained a_possible a_register a_memory a_outputs)) :
    ∀ d j wy, j + d = cd_n c → (∀ i, i < cd_n c → cd_R (wy i) (fun t => cd_rw c j i t = true)) → (wX_loops_29 post f_count f_k f_inputCount f_known f_selfMoves f_allMoves f_allocated f_inMemory f_memoryCost f_saved f_outputCount f_done f_took f_taken (d + 1) (nI j) a_op a_opD a_opA a_opB a_inputs a_before a_behind wy a_clash a_costs a_needs a_moves a_place a_tried a_gained a_possible a_register a_memory a_outputs) := by
  have hn := hc.2.1
  intro d
  induction d with
  | zero =>
    intro j wy hj hW
    have ej : j = cd_n c := by omega
    subst ej
    exact pk_le (cd_n c) (cd_n c) (fun _ => k wy hW) (fun z => absurd z (by omega)) hc.1
  | succ d ih =>
    intro j wy hj hW
    refine pk_le (cd_n c) j (fun z => absurd z (by omega)) (fun z => ⟨cd_n c + 1, ?_⟩) hc.1
    exact xo_39 hc (by omega) (fun wy' hW' => ih (j + 1) wy' (by omega) hW') (cd_n c) 0 wy (by omega) (cd_W10 hW)
theorem xo_2 (hc : cd_Is c f_count a_op a_opD a_opA a_opB) (k : ∀ wy, (∀ i, i < cd_n c → cd_R (wy i) (fun t => cd_rw c 0 i t = true)) → ∃ n29, (wX_loops_29 post f_count f_k f_inputCount f_known f_selfMoves f_allMoves f_allocated f_inMemory f_memoryCost f_saved f_outputCount f_done f_took f_taken n29 0 a_op a_opD a_opA a_opB a_inputs a_before a_behind wy a_clash a_costs a_needs a_moves a_place a_tried a_gained a_possible a_register a_memory a_outputs)) :
    ∀ d j wy, j + d = cd_n c → (∀ i, i < j → cd_R (wy i) (fun t => cd_rw c 0 i t = true)) → (wX_loops_2 post f_count f_k f_inputCount f_known f_selfMoves f_allMoves f_allocated f_inMemory f_memoryCost f_saved f_outputCount f_done f_took f_taken (d + 1) (nI j) a_op a_opD a_opA a_opB a_inputs a_before a_behind wy a_clash a_costs a_needs a_moves a_place a_tried a_gained a_possible a_register a_memory a_outputs) := by
  have hn := hc.2.1
  intro d
  induction d with
  | zero =>
    intro j wy hj hW
    have ej : j = cd_n c := by omega
    subst ej
    exact pk_le (cd_n c) (cd_n c) (fun _ => k wy hW) (fun z => absurd z (by omega)) hc.1
  | succ d ih =>
    intro j wy hj hW
    refine pk_le (cd_n c) j (fun z => absurd z (by omega)) (fun z => ?_) hc.1
    refine xx_leads hc (by omega) (fun r hr => ⟨vp_in_nI (by omega) (by decide), nm_r (by rw [nI_clamp (by omega)]) (nm_r (nI_1 j) (ih (j + 1) (upd wy j r) (by omega) (fun i hi => ?_)))⟩)
    by_cases ei : i = j
    · rw [ei, cd_us]
      refine cd_Rc hr (fun t _ => ?_)
      show _ ↔ (cd_suc c j t && decide (t < cd_n c)) = true
      rw [Bool.and_eq_true, decide_eq_true_eq]
      exact And.comm
    · rw [cd_un ei]
      exact hW i (by omega)
theorem xo_loops (hc : cd_Is c f_count a_op a_opD a_opA a_opB) (k : ∀ wy co, (∀ t, t < 8 → co t = nI (cd_cost c t)) → post (f_count, f_k, f_inputCount, f_known, f_selfMoves, f_allMoves, f_allocated, f_inMemory, f_memoryCost, f_saved, f_outputCount, f_done, f_took, f_taken, a_op, a_opD, a_opA, a_opB, a_inputs, a_before, a_behind, wy, a_clash, co, a_needs, a_moves, a_place, a_tried, a_gained, a_possible, a_register, a_memory, a_outputs)) : (wpX_loops post (f_count, f_k, f_inputCount, f_known, f_selfMoves, f_allMoves, f_allocated, f_inMemory, f_memoryCost, f_saved, f_outputCount, f_done, f_took, f_taken, a_op, a_opD, a_opA, a_opB, a_inputs, a_before, a_behind, a_ways, a_clash, a_costs, a_needs, a_moves, a_place, a_tried, a_gained, a_possible, a_register, a_memory, a_outputs)) := by
  have hn := hc.2.1
  refine ⟨cd_n c + 1, xo_2 hc (fun wy hW => ⟨cd_n c + 1, xo_29 hc (fun wy hW => ⟨9, xo_89 (fun co hco => ⟨cd_n c + 1, ?_⟩) 8 0 a_costs (by omega) (fun i hi => absurd hi (by omega))⟩) (cd_n c) 0 wy (by omega) hW⟩) (cd_n c) 0 a_ways (by omega) (fun i hi => absurd hi (by omega))⟩
  exact xo_110 hc hW (fun co' h' => k wy co' h') (cd_n c) 0 co (by omega) (fun t ht => by rw [hco t ht]; rfl)
end
end
section
/-! X: who clashes with whom, MOVEs -/
def me_E (cl : Nat → Int32) (E : Nat → Nat → Prop) : Prop := (∀ u, u < 8 → cd_R (cl u) (E u)) ∧ ∀ u v, u < 8 → E u v → v < 8
theorem me_c {cl : Nat → Int32} {E G : Nat → Nat → Prop} (h : me_E cl E) (e : ∀ u v, u < 8 → v < 32 → (E u v ↔ G u v)) (h8 : ∀ u v, u < 8 → G u v → v < 8) : me_E cl G :=
  ⟨fun u hu => cd_Rc (h.1 u hu) (fun v hv => e u v hu hv), h8⟩
/-- one more in one row -/
theorem me_u {cl : Nat → Int32} {E : Nat → Nat → Prop} (h : me_E cl E) {t : Nat} (ht : t < 8) {x : Int32} {O : Nat → Prop} (hx : cd_R x O) (ho : ∀ v, O v → v < 8) : me_E (upd cl t (vp_nar .short ((cl t ||| x).toInt16.toInt32))) (fun u v => E u v ∨ (u = t ∧ O v)) := by
  have hr := cd_Ror (h.1 t ht) hx
  have h8 : ∀ v, E t v ∨ O v → v < 8 := fun v hv => hv.elim (h.2 t v ht) (ho v)
  rw [cd_Rs hr h8]
  refine ⟨fun u hu => ?_, fun u v hu hv => ?_⟩
  · by_cases e : u = t
    · subst e
      rw [cd_us]
      exact cd_Rc hr (fun v _ => by simp)
    · rw [cd_un e]
      exact cd_Rc (h.1 u hu) (fun v _ => by simp [e])
  · rcases hv with z | ⟨_, z⟩
    · exact h.2 u v hu z
    · exact ho v z
section
variable {f_count f_k f_inputCount f_known f_selfMoves f_allMoves f_allocated f_inMemory f_memoryCost f_saved f_outputCount f_done f_took f_taken : Int32} {a_op a_opD a_opA a_opB a_inputs a_before a_behind a_ways a_clash a_costs a_needs a_moves a_place a_tried a_gained a_possible a_register a_memory a_outputs : Nat → Int32} {c : cd_T} {post : SX → Prop} {J100 : (Int32 → Int32 → Int32 → Int32 → Int32 → Int32 → Int32 → Int32 → Int32 → Int32 → Int32 → Int32 → Int32 → Int32 → Int32 → (Nat → Int32) → (Nat → Int32) → (Nat → Int32) → (Nat → Int32) → (Nat → Int32) → (Nat → Int32) → (Nat → Int32) → (Nat → Int32) → (Nat → Int32) → (Nat → Int32) → (Nat → Int32) → (Nat → Int32) → (Nat → Int32) → (Nat → Int32) → (Nat → Int32) → (Nat → Int32) → (Nat → Int32) → (Nat → Int32) → (Nat → Int32) → Prop)}
theorem xm_22 {t : Nat} (ht : t < 8) {x3 : Int32} {O : Nat → Prop} (hx : cd_R x3 O) (hO : ∀ v, O v → v < 8) {E : Nat → Nat → Prop} (k : ∀ cl, me_E cl (fun u v => E u v ∨ (v = t ∧ O u)) → post (f_count, f_k, f_inputCount, f_known, f_selfMoves, f_allMoves, f_allocated, f_inMemory, f_memoryCost, f_saved, f_outputCount, f_done, f_took, f_taken, a_op, a_opD, a_opA, a_opB, a_inputs, a_before, a_behind, a_ways, cl, a_costs, a_needs, a_moves, a_place, a_tried, a_gained, a_possible, a_register, a_memory, a_outputs)) :
    ∀ d j cl, j + d = 8 → me_E cl (fun u v => E u v ∨ (u < j ∧ v = t ∧ O u)) → (wX_join_22 post (nI t) x3 f_count f_k f_inputCount f_known f_selfMoves f_allMoves f_allocated f_inMemory f_memoryCost f_saved f_outputCount f_done f_took f_taken (d + 1) (nI j) a_op a_opD a_opA a_opB a_inputs a_before a_behind a_ways cl a_costs a_needs a_moves a_place a_tried a_gained a_possible a_register a_memory a_outputs) := by
  intro d
  induction d with
  | zero =>
    intro j cl hj hE
    have ej : j = 8 := by omega
    subst ej
    refine br_t (by decide) (k cl (me_c hE (fun u v hu _ => ?_) (fun u v hu hv => ?_)))
    · simp [hu]
    · rcases hv with z | z
      · exact hE.2 u v hu (Or.inl z)
      · omega
  | succ d ih =>
    intro j cl hj hE
    have hv : vp_in (nI j) 8 := vp_in_nI (by omega) (by decide)
    refine br_f (nI_ge (b := 8) (by omega) (by decide)) (cd_r0 hx (by omega) (fun hb => nm_r (nI_1 j) (ih (j + 1) cl (by omega) (me_c hE (fun u v hu _ => ?_) (fun u v hu hv => ?_)))) (fun hb => ⟨hv, hv, nm_e (nm_r (nI_1 j) (ih (j + 1) _ (by omega) ?_))⟩))
    · constructor
      · rintro (z | ⟨z1, z2⟩)
        · exact Or.inl z
        · exact Or.inr ⟨by omega, z2⟩
      · rintro (z | ⟨z1, z2, z3⟩)
        · exact Or.inl z
        · rcases Nat.lt_or_ge u j with y | y
          · exact Or.inr ⟨y, z2, z3⟩
          · have eu : u = j := by omega
            subst eu
            exact absurd z3 hb
    · rcases hv with z | z
      · exact hE.2 u v hu (Or.inl z)
      · omega
    · rw [nI_clamp (by omega : j < 2 ^ 31)]
      refine me_c (me_u hE (by omega : j < 8) (cd_Rsh (show t < 32 by omega)) (fun v hv => by omega)) (fun u v hu _ => ?_) (fun u v hu hv => ?_)
      · constructor
        · rintro ((z | ⟨z1, z2⟩) | ⟨z1, z2⟩)
          · exact Or.inl z
          · exact Or.inr ⟨by omega, z2⟩
          · subst z1
            exact Or.inr ⟨by omega, z2, hb⟩
        · rintro (z | ⟨z1, z2, z3⟩)
          · exact Or.inl (Or.inl z)
          · rcases Nat.lt_or_ge u j with y | y
            · exact Or.inl (Or.inr ⟨y, z2, z3⟩)
            · exact Or.inr ⟨by omega, z2⟩
      · rcases hv with z | z
        · exact hE.2 u v hu (Or.inl z)
        · omega
theorem xm_join {t : Nat} (ht : t < 8) {set : Int32} {Q : Nat → Prop} (hq : cd_R set Q) (hQ : ∀ v, Q v → v < 8) {E : Nat → Nat → Prop} (hE : me_E a_clash E)
    (k : ∀ cl, me_E cl (fun u v => E u v ∨ (u = t ∧ Q v ∧ v ≠ t) ∨ (v = t ∧ Q u ∧ u ≠ t)) → post (f_count, f_k, f_inputCount, f_known, f_selfMoves, f_allMoves, f_allocated, f_inMemory, f_memoryCost, f_saved, f_outputCount, f_done, f_took, f_taken, a_op, a_opD, a_opA, a_opB, a_inputs, a_before, a_behind, a_ways, cl, a_costs, a_needs, a_moves, a_place, a_tried, a_gained, a_possible, a_register, a_memory, a_outputs)) : (wpX_join post (f_count, f_k, f_inputCount, f_known, f_selfMoves, f_allMoves, f_allocated, f_inMemory, f_memoryCost, f_saved, f_outputCount, f_done, f_took, f_taken, a_op, a_opD, a_opA, a_opB, a_inputs, a_before, a_behind, a_ways, a_clash, a_costs, a_needs, a_moves, a_place, a_tried, a_gained, a_possible, a_register, a_memory, a_outputs) (nI t) set) := by
  have hx : cd_R (set &&& (((1 : Int32) <<< (nI t &&& 31)) ^^^ (-1))) (fun v => Q v ∧ v ≠ t) := cd_Rand hq (cd_Rnot (cd_Rsh (by omega)))
  have hv : vp_in (nI t) 8 := vp_in_nI ht (by decide)
  have h8 : ∀ v, Q v ∧ v ≠ t → v < 8 := fun v h => hQ v h.1
  refine nm_e ⟨hv, hv, nm_e ⟨9, ?_⟩⟩
  rw [nI_clamp (by omega : t < 2 ^ 31)]
  refine xm_22 (E := fun u v => E u v ∨ (u = t ∧ Q v ∧ v ≠ t)) ht hx h8 (fun cl hcl => k cl (me_c hcl (fun u v _ _ => ?_) (fun u v hu hw => ?_))) 8 0 _ (by omega) (me_c (me_u hE ht hx h8) (fun u v _ _ => ?_) (fun u v hu hw => ?_))
  · rw [or_assoc]
  · rcases hw with z | z | z
    · exact hE.2 u v hu z
    · exact hQ v z.2.1
    · omega
  · simp
  · rcases hw with (z | z) | z
    · exact hE.2 u v hu z
    · exact hQ v z.2.1
    · omega
/-- the counts of MOVEs so far -/
def me_M (mv : Nat → Int32) (g : Nat → Nat → Nat) : Prop := ∀ v u, v < 8 → u < 8 → mv (8 * v + u) = nI (g v u)
theorem me_Mc {mv : Nat → Int32} {g h : Nat → Nat → Nat} (hm : me_M mv g) (e : ∀ v u, v < 8 → u < 8 → g v u = h v u) : me_M mv h := fun v u hv hu => by
  rw [hm v u hv hu, e v u hv hu]
theorem me_ix {d a : Nat} : 8 * nI d + nI a = nI (8 * d + a) := by
  rw [show (8 : Int32) = nI 8 from rfl, pk_mul, nI_add]
theorem me_up {mv : Nat → Int32} {g : Nat → Nat → Nat} (h : me_M mv g) {d a : Nat} (hd : d < 8) (ha : a < 8) (hg : g d a < 100) : me_M (upd mv (8 * d + a) (vp_nar .byte ((mv (8 * d + a) + 1).toInt8.toInt32))) (fun v u => g v u + cd_01 (decide (v = d ∧ u = a))) := by
  intro v u hv hu
  rw [h d a hd ha, nI_1, cd_vb (by omega)]
  by_cases e : v = d ∧ u = a
  · rw [e.1, e.2, cd_us]
    simp [cd_01]
  · rw [cd_un (by omega), h v u hv hu]
    simp [cd_01, e]
theorem xm_180 (hc : cd_Is c f_count a_op a_opD a_opA a_opB) {i s a : Nat} (hi : i < cd_n c) {x3 : Int32} (hx : (x3 = 0 ∧ cd_o c i ≠ 5) ∨ (x3 = 1 ∧ cd_o c i = 5)) {g : Nat → Nat → Nat} (hM : me_M a_moves g) (hg : ∀ v u, g v u < 50) (hs : f_selfMoves = nI s) (ha : f_allMoves = nI a)
    (k : ∀ mv, me_M mv (fun v u => g v u + cd_mv1 c v u i) → J100 (nI (i + 1)) f_count f_k f_inputCount f_known (nI (s + cd_01 (decide (cd_o c i = 5 ∧ cd_d c i = cd_a c i)))) (nI (a + cd_01 (decide (cd_o c i = 5)))) f_allocated f_inMemory f_memoryCost f_saved f_outputCount f_done f_took f_taken a_op a_opD a_opA a_opB a_inputs a_before a_behind a_ways a_clash a_costs a_needs mv a_place a_tried a_gained a_possible a_register a_memory a_outputs) : (wX_meet_180 post J100 (nI i) x3 f_count f_k f_inputCount f_known f_selfMoves f_allMoves f_allocated f_inMemory f_memoryCost f_saved f_outputCount f_done f_took f_taken a_op a_opD a_opA a_opB a_inputs a_before a_behind a_ways a_clash a_costs a_needs a_moves a_place a_tried a_gained a_possible a_register a_memory a_outputs) := by
  have hn := hc.2.1
  have h1 := hc.2.2 i hi
  have hv : vp_in (nI i) 20 := vp_in_nI (by omega) (by decide)
  have e : (nI i).toNatClampNeg = i := nI_clamp (by omega)
  subst hs ha
  rcases hx with ⟨x0, o5⟩ | ⟨x1, o5⟩
  · subst x0
    refine br_t rfl (nm_r (nI_1 i) ?_)
    have k1 := k a_moves (fun v u hv hu => by
      rw [hM v u hv hu]
      simp [cd_mv1, cd_01, o5])
    simp only [o5, false_and, decide_false] at k1
    exact k1
  · subst x1
    have hd := h1.2.2.1 (cd_dft (by omega))
    have hA := h1.2.2.2.1 (cd_uat (by omega))
    refine br_f cd_10 (nm_r (nI_1 a) ⟨hv, hv, ?_⟩)
    rw [e, hd.1, hA.1]
    refine pk_eq (cd_d c i) (cd_a c i) (fun y => nm_r (nI_1 s) (nm_r (nI_1 i) ?_)) (fun y => ⟨hv, hv, ?_⟩)
    · have k1 := k a_moves (fun v u hv hu => by
        rw [hM v u hv hu]
        simp [cd_mv1, cd_01, y])
      simp only [o5, y, true_and, decide_true] at k1
      exact k1
    · rw [me_ix, me_ix, nI_clamp (by omega), nI_clamp (by omega)]
      have hi1 : vp_in (nI (8 * cd_d c i + cd_a c i)) 64 := vp_in_nI (by omega) (by decide)
      have hi2 : vp_in (nI (8 * cd_a c i + cd_d c i)) 64 := vp_in_nI (by omega) (by decide)
      refine ⟨hi1, hi1, nm_e ⟨hv, hv, hi2, hi2, nm_e (nm_r (nI_1 i) ?_)⟩⟩
      have m1 := me_up hM hd.2 hA.2 (by have := hg (cd_d c i) (cd_a c i); omega)
      have m2 := me_up m1 hA.2 hd.2 (by
        have h3 := hg (cd_a c i) (cd_d c i)
        have h4 := cd_01l (decide (cd_a c i = cd_d c i ∧ cd_d c i = cd_a c i))
        show g (cd_a c i) (cd_d c i) + _ < 100
        omega)
      have k1 := k _ (me_Mc m2 (fun v u hv hu => by
        show g v u + cd_01 (decide (v = cd_d c i ∧ u = cd_a c i)) + cd_01 (decide (v = cd_a c i ∧ u = cd_d c i)) = g v u + cd_mv1 c v u i
        unfold cd_mv1
        rw [Nat.add_assoc]
        congr 1
        by_cases p1 : v = cd_d c i ∧ u = cd_a c i
        · have p2 : ¬ (v = cd_a c i ∧ u = cd_d c i) := by omega
          have p3 : cd_o c i = 5 ∧ cd_d c i ≠ cd_a c i ∧ ((cd_d c i = v ∧ cd_a c i = u) ∨ (cd_d c i = u ∧ cd_a c i = v)) := by omega
          rw [decide_eq_true p1, decide_eq_false p2, decide_eq_true p3]
          rfl
        · by_cases p2 : v = cd_a c i ∧ u = cd_d c i
          · have p3 : cd_o c i = 5 ∧ cd_d c i ≠ cd_a c i ∧ ((cd_d c i = v ∧ cd_a c i = u) ∨ (cd_d c i = u ∧ cd_a c i = v)) := by omega
            rw [decide_eq_false p1, decide_eq_true p2, decide_eq_true p3]
            rfl
          · have p3 : ¬ (cd_o c i = 5 ∧ cd_d c i ≠ cd_a c i ∧ ((cd_d c i = v ∧ cd_a c i = u) ∨ (cd_d c i = u ∧ cd_a c i = v))) := by omega
            rw [decide_eq_false p1, decide_eq_false p2, decide_eq_false p3]
            rfl))
      simp only [o5, y, true_and, decide_true, decide_false] at k1
      exact k1
/-- the clashes of the first i -/
def me_C (c : cd_T) (i u v : Nat) : Prop := u ≠ v ∧ ((0 < cd_n c ∧ cd_LB c 0 u ∧ cd_LB c 0 v) ∨ ∃ i', i' < i ∧ ((cd_def c i' u ∧ ¬ (cd_o c i' = 5 ∧ cd_a c i' = v) ∧ cd_bh c (cd_LB c) i' v) ∨ (cd_def c i' v ∧ ¬ (cd_o c i' = 5 ∧ cd_a c i' = u) ∧ cd_bh c (cd_LB c) i' u)))
theorem me_Cn {c : cd_T} {u v : Nat} : me_C c (cd_n c) u v ↔ cd_CL c u v := by
  constructor
  · rintro ⟨h, ⟨a, b, d⟩ | ⟨i, hi, z | z⟩⟩
    · exact ⟨h, Or.inl (Or.inl ⟨a, b, d⟩)⟩
    · exact ⟨h, Or.inl (Or.inr ⟨i, hi, z⟩)⟩
    · exact ⟨h, Or.inr (Or.inr ⟨i, hi, z⟩)⟩
  · rintro ⟨h, (⟨a, b, d⟩ | ⟨i, hi, z⟩) | (⟨a, b, d⟩ | ⟨i, hi, z⟩)⟩
    · exact ⟨h, Or.inl ⟨a, b, d⟩⟩
    · exact ⟨h, Or.inr ⟨i, hi, Or.inl z⟩⟩
    · exact ⟨h, Or.inl ⟨a, d, b⟩⟩
    · exact ⟨h, Or.inr ⟨i, hi, Or.inr z⟩⟩
theorem me_bh8 (hc : cd_Is c f_count a_op a_opD a_opA a_opB) {i v : Nat} (h : cd_bh c (cd_LB c) i v) : v < 8 := by
  obtain ⟨j, _, _, hl⟩ := h
  exact (cd_LB8 hc hl).2
theorem me_C8 (hc : cd_Is c f_count a_op a_opD a_opA a_opB) {i u v : Nat} (hi : i ≤ cd_n c) (h : me_C c i u v) : v < 8 := by
  rcases h with ⟨_, ⟨_, _, d⟩ | ⟨i', hi', z | z⟩⟩
  · exact (cd_LB8 hc d).2
  · exact me_bh8 hc z.2.2
  · have := (hc.2.2 i' (by omega)).2.2.1 z.1.1
    have e : cd_d c i' = v := z.1.2
    omega
/-- the rows of a step: a definition of d with the others alive -/
theorem me_Cs {c : cd_T} {i u v : Nat} (hdf : cd_df (cd_o c i) = true) : me_C c (i + 1) u v ↔ (me_C c i u v ∨ (u = cd_d c i ∧ (cd_bh c (cd_LB c) i v ∧ ¬ (cd_o c i = 5 ∧ cd_a c i = v)) ∧ v ≠ cd_d c i) ∨ (v = cd_d c i ∧ (cd_bh c (cd_LB c) i u ∧ ¬ (cd_o c i = 5 ∧ cd_a c i = u)) ∧ u ≠ cd_d c i)) := by
  constructor
  · rintro ⟨h, z | ⟨i', hi', z⟩⟩
    · exact Or.inl ⟨h, Or.inl z⟩
    · rcases Nat.lt_or_ge i' i with y | y
      · exact Or.inl ⟨h, Or.inr ⟨i', y, z⟩⟩
      · have e : i' = i := by omega
        subst e
        rcases z with z | z
        · have e : cd_d c i' = u := z.1.2
          exact Or.inr (Or.inl ⟨e.symm, ⟨z.2.2, z.2.1⟩, by rw [e]; exact h.symm⟩)
        · have e : cd_d c i' = v := z.1.2
          exact Or.inr (Or.inr ⟨e.symm, ⟨z.2.2, z.2.1⟩, by rw [e]; exact h⟩)
  · rintro (⟨h, z | ⟨i', hi', z⟩⟩ | ⟨a, b, d⟩ | ⟨a, b, d⟩)
    · exact ⟨h, Or.inl z⟩
    · exact ⟨h, Or.inr ⟨i', by omega, z⟩⟩
    · exact ⟨by rw [a]; exact d.symm, Or.inr ⟨i, by omega, Or.inl ⟨⟨hdf, a.symm⟩, b.2, b.1⟩⟩⟩
    · exact ⟨by rw [a]; exact d, Or.inr ⟨i, by omega, Or.inr ⟨⟨hdf, a.symm⟩, b.2, b.1⟩⟩⟩
theorem me_Cs0 {c : cd_T} {i u v : Nat} (hdf : cd_df (cd_o c i) = false) : me_C c (i + 1) u v ↔ me_C c i u v := by
  constructor
  · rintro ⟨h, z | ⟨i', hi', z⟩⟩
    · exact ⟨h, Or.inl z⟩
    · rcases Nat.lt_or_ge i' i with y | y
      · exact ⟨h, Or.inr ⟨i', y, z⟩⟩
      · have e : i' = i := by omega
        subst e
        rcases z with z | z
        · have := z.1.1
          rw [hdf] at this
          exact absurd this (by decide)
        · have := z.1.1
          rw [hdf] at this
          exact absurd this (by decide)
  · rintro ⟨h, z | ⟨i', hi', z⟩⟩
    · exact ⟨h, Or.inl z⟩
    · exact ⟨h, Or.inr ⟨i', by omega, z⟩⟩
def me_g (c : cd_T) (i v u : Nat) : Nat := cd_sg (cd_mv1 c v u) i
theorem me_gl (c : cd_T) (i v u : Nat) : me_g c i v u ≤ i := by
  have := cd_sgk (cd_mv1 c v u) 1 i (fun j _ => cd_01l _)
  unfold me_g
  omega
theorem xm_154 (hc : cd_Is c f_count a_op a_opD a_opA a_opB) {i : Nat} (hi : i < cd_n c) {x3 z0 : Int32} (hx : (x3 = 0 ∧ cd_o c i ≠ 5) ∨ (x3 = 1 ∧ cd_o c i = 5)) (hz : cd_R z0 (fun v => cd_bh c (cd_LB c) i v ∧ ¬ (cd_o c i = 5 ∧ cd_a c i = v)))
    (hE : me_E a_clash (me_C c i)) (hM : me_M a_moves (me_g c i)) (hs : f_selfMoves = nI (cd_sf c i)) (ha : f_allMoves = nI (cd_al c i))
    (k : ∀ cl mv, me_E cl (me_C c (i + 1)) → me_M mv (me_g c (i + 1)) → J100 (nI (i + 1)) f_count f_k f_inputCount f_known (nI (cd_sf c (i + 1))) (nI (cd_al c (i + 1))) f_allocated f_inMemory f_memoryCost f_saved f_outputCount f_done f_took f_taken a_op a_opD a_opA a_opB a_inputs a_before a_behind a_ways cl a_costs a_needs mv a_place a_tried a_gained a_possible a_register a_memory a_outputs) : (wX_meet_154 post J100 (nI i) x3 z0 f_count f_k f_inputCount f_known f_selfMoves f_allMoves f_allocated f_inMemory f_memoryCost f_saved f_outputCount f_done f_took f_taken a_op a_opD a_opA a_opB a_inputs a_before a_behind a_ways a_clash a_costs a_needs a_moves a_place a_tried a_gained a_possible a_register a_memory a_outputs) := by
  have hn := hc.2.1
  have h1 := hc.2.2 i hi
  have hv : vp_in (nI i) 20 := vp_in_nI (by omega) (by decide)
  have e : (nI i).toNatClampNeg = i := nI_clamp (by omega)
  refine ⟨hv, ?_⟩
  rw [e, h1.1]
  refine xx_df h1.2.1 (fun df => br_f cd_10 ⟨hv, ?_⟩) (fun df => br_t rfl ?_)
  · have hd := h1.2.2.1 df
    rw [hd.1]
    refine xm_join hd.2 hz (fun v h => me_bh8 hc h.1) hE (fun cl hcl => ?_)
    exact xm_180 hc hi hx hM (fun v u => by have := me_gl c i v u; omega) hs ha (fun mv hmv => k cl mv (me_c hcl (fun u v _ _ => (me_Cs df).symm) (fun u v _ => me_C8 hc (by omega))) hmv)
  · exact xm_180 hc hi hx hM (fun v u => by have := me_gl c i v u; omega) hs ha (fun mv hmv => k a_clash mv (me_c hE (fun u v _ _ => (me_Cs0 df).symm) (fun u v _ => me_C8 hc (by omega))) hmv)
theorem xm_100 (hc : cd_Is c f_count a_op a_opD a_opA a_opB) (hb : ∀ i, i < cd_n c → cd_R (a_behind i) (cd_bh c (cd_LB c) i))
    (k : ∀ cl mv, me_E cl (cd_CL c) → me_M mv (cd_mv c) → post (f_count, f_k, f_inputCount, f_known, nI (cd_sf c (cd_n c)), nI (cd_al c (cd_n c)), f_allocated, f_inMemory, f_memoryCost, f_saved, f_outputCount, f_done, f_took, f_taken, a_op, a_opD, a_opA, a_opB, a_inputs, a_before, a_behind, a_ways, cl, a_costs, a_needs, mv, a_place, a_tried, a_gained, a_possible, a_register, a_memory, a_outputs)) :
    ∀ d j cl mv sm am, j + d = cd_n c → me_E cl (me_C c j) → me_M mv (me_g c j) → sm = nI (cd_sf c j) → am = nI (cd_al c j) → (wX_meet_100 post (d + 1) (nI j) f_count f_k f_inputCount f_known sm am f_allocated f_inMemory f_memoryCost f_saved f_outputCount f_done f_took f_taken a_op a_opD a_opA a_opB a_inputs a_before a_behind a_ways cl a_costs a_needs mv a_place a_tried a_gained a_possible a_register a_memory a_outputs) := by
  have hn := hc.2.1
  intro d
  induction d with
  | zero =>
    intro j cl mv sm am hj hE hM hs ha
    have ej : j = cd_n c := by omega
    subst ej hs ha
    exact pk_le (cd_n c) (cd_n c) (fun _ => k cl mv (me_c hE (fun u v _ _ => me_Cn) (fun u v _ h => me_C8 hc (Nat.le_refl _) (me_Cn.mpr h))) hM) (fun z => absurd z (by omega)) hc.1
  | succ d ih =>
    intro j cl mv sm am hj hE hM hs ha
    have hjn : j < cd_n c := by omega
    have h1 := hc.2.2 j hjn
    have hv : vp_in (nI j) 20 := vp_in_nI (by omega) (by decide)
    have e : (nI j).toNatClampNeg = j := nI_clamp (by omega)
    have ho := h1.2.1
    refine pk_le (cd_n c) j (fun z => absurd z (by omega)) (fun z => ⟨hv, ?_⟩) hc.1
    rw [e, h1.1]
    refine pk_eq (cd_o c j) 5 (fun o5 => ?_) (fun o5 => ?_)
    · refine br_f cd_10 ⟨hv, hv, ?_⟩
      have hA := h1.2.2.2.1 (cd_uat (by omega))
      rw [e, hA.1]
      refine xm_154 hc hjn (Or.inr ⟨rfl, o5⟩) (cd_Rc (cd_Rand (hb j hjn) (cd_Rnot (cd_Rsh (by omega)))) (fun v _ => ?_)) hE hM hs ha (fun cl' mv' h1 h2 => ih (j + 1) cl' mv' _ _ (by omega) h1 h2 rfl rfl)
      constructor
      · exact fun h => ⟨h.1, fun z => h.2 z.2.symm⟩
      · exact fun h => ⟨h.1, fun z => h.2 ⟨o5, z.symm⟩⟩
    · refine br_t rfl ⟨hv, ?_⟩
      rw [e]
      refine xm_154 hc hjn (Or.inl ⟨rfl, o5⟩) (cd_Rc (hb j hjn) (fun v _ => ?_)) hE hM hs ha (fun cl' mv' h1 h2 => ih (j + 1) cl' mv' _ _ (by omega) h1 h2 rfl rfl)
      exact ⟨fun h => ⟨h, fun z => o5 z.1⟩, fun h => h.1⟩
theorem xm_72 {x1 : Int32} {Q : Nat → Prop} (hq : cd_R x1 Q) (hQ : ∀ v, Q v → v < 8) (k : ∀ cl, me_E cl (fun u v => u ≠ v ∧ Q u ∧ Q v) → ∃ n100, (wX_meet_100 post n100 0 f_count f_k f_inputCount f_known f_selfMoves f_allMoves f_allocated f_inMemory f_memoryCost f_saved f_outputCount f_done f_took f_taken a_op a_opD a_opA a_opB a_inputs a_before a_behind a_ways cl a_costs a_needs a_moves a_place a_tried a_gained a_possible a_register a_memory a_outputs)) :
    ∀ d j cl, j + d = 8 → me_E cl (fun u v => u ≠ v ∧ Q u ∧ Q v ∧ (u < j ∨ v < j)) → (wX_meet_72 post x1 (d + 1) (nI j) f_count f_k f_inputCount f_known f_selfMoves f_allMoves f_allocated f_inMemory f_memoryCost f_saved f_outputCount f_done f_took f_taken a_op a_opD a_opA a_opB a_inputs a_before a_behind a_ways cl a_costs a_needs a_moves a_place a_tried a_gained a_possible a_register a_memory a_outputs) := by
  intro d
  induction d with
  | zero =>
    intro j cl hj hE
    have ej : j = 8 := by omega
    subst ej
    refine br_t (by decide) (k cl (me_c hE (fun u v hu _ => ?_) (fun u v hu h => hQ v h.2.2)))
    simp [hu]
  | succ d ih =>
    intro j cl hj hE
    refine br_f (nI_ge (b := 8) (by omega) (by decide)) (cd_r0 hq (by omega) (fun hb => nm_r (nI_1 j) (ih (j + 1) cl (by omega) (me_c hE (fun u v hu _ => ?_) (fun u v hu h => hQ v h.2.2.1)))) (fun hb => ?_))
    · constructor
      · exact fun h => ⟨h.1, h.2.1, h.2.2.1, by omega⟩
      · rintro ⟨h1, h2, h3, h4⟩
        refine ⟨h1, h2, h3, ?_⟩
        have : u ≠ j := fun e => hb (e ▸ h2)
        have : v ≠ j := fun e => hb (e ▸ h3)
        omega
    · refine xm_join (by omega) hq hQ hE (fun cl' hcl => nm_r (nI_1 j) (ih (j + 1) cl' (by omega) (me_c hcl (fun u v hu _ => ?_) (fun u v hu h => hQ v h.2.2.1))))
      constructor
      · rintro (h | ⟨h1, h2, h3⟩ | ⟨h1, h2, h3⟩)
        · exact ⟨h.1, h.2.1, h.2.2.1, by omega⟩
        · exact ⟨by omega, by rw [h1]; exact hb, h2, by omega⟩
        · exact ⟨by omega, h2, by rw [h1]; exact hb, by omega⟩
      · rintro ⟨h1, h2, h3, h4⟩
        by_cases z1 : u < j ∨ v < j
        · exact Or.inl ⟨h1, h2, h3, z1⟩
        · by_cases z2 : u = j
          · exact Or.inr (Or.inl ⟨z2, h3, by omega⟩)
          · exact Or.inr (Or.inr ⟨by omega, h2, by omega⟩)
theorem xm_23 (hn : cd_n c ≤ 20) (hc : f_count = nI (cd_n c)) (hb : 0 < cd_n c → cd_R (a_before 0) (cd_LB c 0)) (h8 : ∀ v, cd_LB c 0 v → v < 8)
    (k : ∀ x1 mv, cd_R x1 (fun v => 0 < cd_n c ∧ cd_LB c 0 v) → (∀ j, j < 64 → mv j = 0) → ∃ n72, (wX_meet_72 post x1 n72 0 f_count f_k f_inputCount f_known 0 0 f_allocated f_inMemory f_memoryCost f_saved f_outputCount f_done f_took f_taken a_op a_opD a_opA a_opB a_inputs a_before a_behind a_ways a_clash a_costs a_needs mv a_place a_tried a_gained a_possible a_register a_memory a_outputs)) : ∀ d j mv, j + d = 64 → (∀ i, i < j → mv i = 0) → (wX_meet_23 post f_count f_k f_inputCount f_known f_selfMoves f_allMoves f_allocated f_inMemory f_memoryCost f_saved f_outputCount f_done f_took f_taken (d + 1) (nI j) a_op a_opD a_opA a_opB a_inputs a_before a_behind a_ways a_clash a_costs a_needs mv a_place a_tried a_gained a_possible a_register a_memory a_outputs) := by
  intro d
  induction d with
  | zero =>
    intro j mv hj hm
    have ej : j = 64 := by omega
    subst ej
    refine br_t (by decide) (pk_le (cd_n c) 0 (fun z => ?_) (fun z => ?_) hc)
    · exact k 0 mv (cd_Rc cd_R0 (fun t _ => ⟨fun z => z.elim, fun h => by omega⟩)) hm
    · exact nm_e (k (a_before 0) mv (cd_Rc (hb z) (fun t _ => ⟨fun h => ⟨z, h⟩, fun h => h.2⟩)) hm)
  | succ d ih =>
    intro j mv hj hm
    refine br_f (nI_ge (b := 64) (by omega) (by decide)) ⟨vp_in_nI (by omega) (by decide), nm_r (by rw [nI_clamp (by omega), cd_vb0]) (nm_r (nI_1 j) (ih (j + 1) (upd mv j 0) (by omega) (fun i hi => ?_)))⟩
    by_cases ei : i = j
    · rw [ei, cd_us]
    · rw [cd_un ei]
      exact hm i (by omega)
theorem xm_2 (k : ∀ cl, (∀ j, j < 8 → cl j = 0) → ∃ n23, (wX_meet_23 post f_count f_k f_inputCount f_known f_selfMoves f_allMoves f_allocated f_inMemory f_memoryCost f_saved f_outputCount f_done f_took f_taken n23 0 a_op a_opD a_opA a_opB a_inputs a_before a_behind a_ways cl a_costs a_needs a_moves a_place a_tried a_gained a_possible a_register a_memory a_outputs)) : ∀ d j cl, j + d = 8 → (∀ i, i < j → cl i = 0) → (wX_meet_2 post f_count f_k f_inputCount f_known f_selfMoves f_allMoves f_allocated f_inMemory f_memoryCost f_saved f_outputCount f_done f_took f_taken (d + 1) (nI j) a_op a_opD a_opA a_opB a_inputs a_before a_behind a_ways cl a_costs a_needs a_moves a_place a_tried a_gained a_possible a_register a_memory a_outputs) := by
  intro d
  induction d with
  | zero =>
    intro j cl hj hb
    have ej : j = 8 := by omega
    subst ej
    exact br_t (by decide) (k cl hb)
  | succ d ih =>
    intro j cl hj hb
    refine br_f (nI_ge (b := 8) (by omega) (by decide)) ⟨vp_in_nI (by omega) (by decide), nm_r (by rw [nI_clamp (by omega), cd_vs0]) (nm_r (nI_1 j) (ih (j + 1) (upd cl j 0) (by omega) (fun i hi => ?_)))⟩
    by_cases ei : i = j
    · rw [ei, cd_us]
    · rw [cd_un ei]
      exact hb i (by omega)
theorem xm_meet (hc : cd_Is c f_count a_op a_opD a_opA a_opB) (hbf : ∀ i, i < cd_n c → cd_R (a_before i) (cd_LB c i)) (hb : ∀ i, i < cd_n c → cd_R (a_behind i) (cd_bh c (cd_LB c) i))
    (k : ∀ cl mv, me_E cl (cd_CL c) → me_M mv (cd_mv c) → post (f_count, f_k, f_inputCount, f_known, nI (cd_sf c (cd_n c)), nI (cd_al c (cd_n c)), f_allocated, f_inMemory, f_memoryCost, f_saved, f_outputCount, f_done, f_took, f_taken, a_op, a_opD, a_opA, a_opB, a_inputs, a_before, a_behind, a_ways, cl, a_costs, a_needs, mv, a_place, a_tried, a_gained, a_possible, a_register, a_memory, a_outputs)) : (wpX_meet post (f_count, f_k, f_inputCount, f_known, f_selfMoves, f_allMoves, f_allocated, f_inMemory, f_memoryCost, f_saved, f_outputCount, f_done, f_took, f_taken, a_op, a_opD, a_opA, a_opB, a_inputs, a_before, a_behind, a_ways, a_clash, a_costs, a_needs, a_moves, a_place, a_tried, a_gained, a_possible, a_register, a_memory, a_outputs)) := by
  have hn := hc.2.1
  refine ⟨9, xm_2 (fun cl hcl => ⟨65, xm_23 hn hc.1 (hbf 0) (fun v h => (cd_LB8 hc h).2) (fun x1 mv hx hmv => ⟨9, xm_72 hx (fun v h => (cd_LB8 hc h.2).2) (fun cl' hcl' => ⟨cd_n c + 1, ?_⟩) 8 0 cl (by omega) ?_⟩) 64 0 a_moves (by omega) (fun i hi => absurd hi (by omega))⟩) 8 0 a_clash (by omega) (fun i hi => absurd hi (by omega))⟩
  · refine xm_100 hc hb (fun cl mv h1 h2 => k cl mv h1 h2) (cd_n c) 0 cl' mv 0 0 (by omega) (me_c hcl' (fun u v _ _ => ?_) (fun u v _ h => me_C8 hc (Nat.zero_le _) h)) (fun v u hv hu => hmv _ (by omega)) rfl rfl
    constructor
    · exact fun h => ⟨h.1, Or.inl ⟨h.2.1.1, h.2.1.2, h.2.2.2⟩⟩
    · rintro ⟨h, ⟨a, b, d⟩ | ⟨i', hi', _⟩⟩
      · exact ⟨h, ⟨a, b⟩, a, d⟩
      · omega
  · refine ⟨fun u hu => ?_, fun u v _ h => (cd_LB8 hc h.2.2.1.2).2⟩
    rw [hcl u hu]
    exact cd_Rc cd_R0 (fun v _ => ⟨fun z => z.elim, fun h => by omega⟩)
end
end
section
/-! X: how many registers each set needs -/
theorem xc_and0 {x : Int32} {E : Nat → Prop} (h : cd_R x E) {p : Nat} (hp : p < 256) : (x &&& nI p) = 0 ↔ ∀ u, u < 8 → p.testBit u = true → ¬ E u := by
  have hr := cd_Rand h (cd_Rn (s := p))
  constructor
  · intro e u hu hpu hE
    have := (hr u (by omega)).mpr ⟨hE, hpu⟩
    rw [e, b_0] at this
    exact absurd this (by decide)
  · intro hn
    refine cd_Ru hr (cd_Rc cd_R0 (fun t ht => ⟨fun z => z.elim, fun z => ?_⟩))
    rcases Nat.lt_or_ge t 8 with y | y
    · exact hn t y z.2 z.1
    · have h2 : p.testBit t = false := Nat.testBit_lt_two_pow (Nat.lt_of_lt_of_le hp (by
        have : 2 ^ 8 ≤ 2 ^ t := Nat.pow_le_pow_right (by decide) y
        exact this))
      rw [h2] at z
      exact absurd z.2 (by decide)
section
variable {f_count f_k f_inputCount f_known f_selfMoves f_allMoves f_allocated f_inMemory f_memoryCost f_saved f_outputCount f_done f_took f_taken : Int32} {a_op a_opD a_opA a_opB a_inputs a_before a_behind a_ways a_clash a_costs a_needs a_moves a_place a_tried a_gained a_possible a_register a_memory a_outputs : Nat → Int32} {c : cd_T} {post : SX → Prop} {K : Nat → Nat → Bool}
theorem xc_apart {q : Int32 → Prop} (hcl : ∀ t, t < 8 → cd_R (a_clash t) (fun u => K t u = true)) {p : Nat} (hp : p < 256) (k1 : co_ap K p → q 1) (k0 : ¬ co_ap K p → q 0) :
    ∀ d j, j + d = 8 → (∀ t u, t < j → u < 8 → p.testBit t = true → p.testBit u = true → K t u = false) → (wX_apart_2 q (nI p) f_count f_k f_inputCount f_known f_selfMoves f_allMoves f_allocated f_inMemory f_memoryCost f_saved f_outputCount f_done f_took f_taken a_op a_opD a_opA a_opB a_inputs a_before a_behind a_ways a_clash a_costs a_needs a_moves a_place a_tried a_gained a_possible a_register a_memory a_outputs (d + 1) (nI j)) := by
  intro d
  induction d with
  | zero =>
    intro j hj h
    have ej : j = 8 := by omega
    subst ej
    exact br_t (by decide) (k1 (fun t u ht hu => h t u ht hu))
  | succ d ih =>
    intro j hj h
    have hv : vp_in (nI j) 8 := vp_in_nI (by omega) (by decide)
    refine br_f (nI_ge (b := 8) (by omega) (by decide)) (cd_r0 (cd_Rn (s := p)) (by omega) (fun hb => nm_r (nI_1 j) (ih (j + 1) (by omega) (fun t u ht hu a b => ?_))) (fun hb => ⟨hv, ?_⟩))
    · rcases Nat.lt_or_ge t j with y | y
      · exact h t u y hu a b
      · have e : t = j := by omega
        subst e
        exact absurd a hb
    · rw [nI_clamp (by omega)]
      refine cd_bi (xc_and0 (hcl j (by omega)) hp) (fun hz => nm_r (nI_1 j) (ih (j + 1) (by omega) (fun t u ht hu a b => ?_))) (fun hz => k0 (fun ha => hz (fun u hu hpu hK => ?_)))
      · rcases Nat.lt_or_ge t j with y | y
        · exact h t u y hu a b
        · have e : t = j := by omega
          subst e
          exact Bool.not_eq_true _ |>.mp (hz u hu b)
      · rw [ha j u (by omega) hu hb hpu] at hK
        exact absurd hK (by decide)
/-- what the loop over the parts knows -/
def xc_I (K : Nat → Nat → Bool) (s j p m : Nat) : Prop := m ≤ 9 ∧ (m < 9 → co_Cb K s m) ∧ ∀ q, co_in q s → p < q → q.testBit j = true → co_ap K q → ∀ r, co_Cb K (s ^^^ q) r → m ≤ r + 1
theorem xc_Is {s j p m m' : Nat} (hp : co_in p s) (hI : xc_I K s j p m) (hm : m' ≤ m) (hC : m' < 9 → co_Cb K s m') (hq : p.testBit j = true → co_ap K p → ∀ r, co_Cb K (s ^^^ p) r → m' ≤ r + 1) : xc_I K s j ((p - 1) &&& s) m' := by
  refine ⟨by have := hI.1; omega, hC, fun q h1 h2 h3 h4 r h5 => ?_⟩
  rcases Nat.lt_trichotomy q p with z | z | z
  · have := co_next p s q hp h1 z
    omega
  · subst z
    exact hq h3 h4 r h5
  · have := hI.2.2 q h1 z h3 h4 r h5
    omega
theorem xc_fin {s j m : Nat} (hK : co_sy K) (hs : s < 256) (hj : j < 8) (hsj : s.testBit j = true) (hI : xc_I K s j 0 m) : m ≤ 8 ∧ co_Nd K s m := by
  have key : ∀ r, co_Cb K s r → m ≤ r := fun r hr => by
    obtain ⟨p, r', h1, h2, h3, h4, h5⟩ := co_cut hs hj hsj hr
    have h0 : 0 < p := by
      rcases Nat.eq_zero_or_pos p with z | z
      · rw [z, Nat.zero_testBit] at h2
        exact absurd h2 (by decide)
      · exact z
    have := hI.2.2 p h1 h0 h2 h3 r' h5
    omega
  have h8 := key 8 (co_nl hK s)
  exact ⟨h8, fun r => ⟨key r, fun h => co_m (hI.2.1 (by omega)) h⟩⟩
theorem xc_27 {J9 : (Int32 → (Nat → Int32) → (Nat → Int32) → (Nat → Int32) → (Nat → Int32) → (Nat → Int32) → (Nat → Int32) → (Nat → Int32) → (Nat → Int32) → (Nat → Int32) → (Nat → Int32) → (Nat → Int32) → (Nat → Int32) → (Nat → Int32) → (Nat → Int32) → (Nat → Int32) → (Nat → Int32) → (Nat → Int32) → (Nat → Int32) → (Nat → Int32) → Prop)} (hK : co_sy K) (hcl : ∀ t, t < 8 → cd_R (a_clash t) (fun u => K t u = true)) {s j : Nat} (hs : s < 256) (hj : j < 8) (hsj : s.testBit j = true) (hnd : ∀ s', s' < s → ∃ m, m ≤ 8 ∧ a_needs s' = nI m ∧ co_Nd K s' m)
    (k : ∀ m, m ≤ 8 → co_Nd K s m → J9 (nI (s + 1)) a_op a_opD a_opA a_opB a_inputs a_before a_behind a_ways a_clash a_costs (upd a_needs s (nI m)) a_moves a_place a_tried a_gained a_possible a_register a_memory a_outputs) :
    ∀ n p m, p < n → co_in p s → xc_I K s j p m → (wX_colour_27 post J9 (nI s) (nI (2 ^ j)) f_count f_k f_inputCount f_known f_selfMoves f_allMoves f_allocated f_inMemory f_memoryCost f_saved f_outputCount f_done f_took f_taken a_op a_opD a_opA a_opB a_inputs a_before a_behind a_ways a_clash a_costs a_needs a_moves a_place a_tried a_gained a_possible a_register a_memory a_outputs n (nI m) (nI p)) := by
  intro n
  induction n with
  | zero => intro p m h; omega
  | succ n ih =>
    intro p m hpn hp hI
    have hps := co_le hp
    have hm9 := hI.1
    refine pk_le p 0 (fun z => ⟨vp_in_nI hs (by decide), ?_⟩) (fun z => ?_)
    · have ep : p = 0 := by omega
      subst ep
      have hf := xc_fin hK hs hj hsj hI
      exact nm_r (by rw [nI_clamp (by omega), cd_vb (by omega)]) (nm_r (nI_1 s) (k m hf.1 hf.2))
    · have enx : (nI p - 1) &&& nI s = nI ((p - 1) &&& s) := by rw [cd_d1 z, nx_and]
      have hnx := co_nxl (s := s) z
      have go : ∀ m', xc_I K s j ((p - 1) &&& s) m' → (wX_colour_27 post J9 (nI s) (nI (2 ^ j)) f_count f_k f_inputCount f_known f_selfMoves f_allMoves f_allocated f_inMemory f_memoryCost f_saved f_outputCount f_done f_took f_taken a_op a_opD a_opA a_opB a_inputs a_before a_behind a_ways a_clash a_costs a_needs a_moves a_place a_tried a_gained a_possible a_register a_memory a_outputs n (nI m') (nI ((p - 1) &&& s))) := fun m' h => ih _ m' (by omega) (co_nxi p s) h
      refine cd_bi (co_lowt hj (by omega)) (fun hb => nm_r enx (go m (xc_Is hp hI (Nat.le_refl _) hI.2.1 (fun hb' => by rw [hb] at hb'; exact absurd hb' (by decide))))) (fun hb => ?_)
      have hbt : p.testBit j = true := Bool.not_eq_false _ |>.mp hb
      rw [co_idf hp]
      have hxl := co_xl hp hs
      have hin : vp_in (nI (s ^^^ p)) 256 := vp_in_nI hxl (by decide)
      rw [nI_clamp (by omega)]
      obtain ⟨m', hm8, hm', hN⟩ := hnd (s ^^^ p) (co_xlt hp z)
      rw [hm', nI_1]
      refine ⟨hin, pk_lt (m' + 1) m (fun hl => ?_) (fun hl => nm_r enx (go m (xc_Is hp hI (Nat.le_refl _) hI.2.1 (fun _ _ r hr => by have := (hN r).mp hr; omega))))⟩
      refine ⟨9, xc_apart hcl (by omega) (fun ha => br_f cd_10 ⟨hin, nm_e (nm_r enx (go (m' + 1) (xc_Is hp hI (by omega) (fun _ => co_add hp ha ((hN m').mpr (Nat.le_refl _))) (fun _ _ r hr => by have := (hN r).mp hr; omega))))⟩) (fun ha => br_t rfl (nm_r enx (go m (xc_Is hp hI (Nat.le_refl _) hI.2.1 (fun _ h => absurd h ha))))) 8 0 (by omega) (fun t u ht => absurd ht (by omega))⟩
theorem xc_9 (hK : co_sy K) (hcl : ∀ t, t < 8 → cd_R (a_clash t) (fun u => K t u = true)) (k : ∀ nd, (∀ s, s < 256 → ∃ m, m ≤ 8 ∧ nd s = nI m ∧ co_Nd K s m) → post (f_count, f_k, f_inputCount, f_known, f_selfMoves, f_allMoves, f_allocated, f_inMemory, f_memoryCost, f_saved, f_outputCount, f_done, f_took, f_taken, a_op, a_opD, a_opA, a_opB, a_inputs, a_before, a_behind, a_ways, a_clash, a_costs, nd, a_moves, a_place, a_tried, a_gained, a_possible, a_register, a_memory, a_outputs)) :
    ∀ d s nd, s + d = 256 → 0 < s → (∀ s', s' < s → ∃ m, m ≤ 8 ∧ nd s' = nI m ∧ co_Nd K s' m) → (wX_colour_9 post f_count f_k f_inputCount f_known f_selfMoves f_allMoves f_allocated f_inMemory f_memoryCost f_saved f_outputCount f_done f_took f_taken (d + 1) (nI s) a_op a_opD a_opA a_opB a_inputs a_before a_behind a_ways a_clash a_costs nd a_moves a_place a_tried a_gained a_possible a_register a_memory a_outputs) := by
  intro d
  induction d with
  | zero =>
    intro s nd hs h0 h
    have es : s = 256 := by omega
    subst es
    exact br_t (by decide) (k nd h)
  | succ d ih =>
    intro s nd hs h0 h
    have hs256 : s < 256 := by omega
    obtain ⟨j, hj, hsj, hlow⟩ := co_low s hs256 h0
    refine br_f (nI_ge (b := 256) hs256 (by decide)) (nm_r hlow ⟨s + 1, ?_⟩)
    refine xc_27 hK hcl hs256 hj hsj h (fun m hm hN => ih (s + 1) _ (by omega) (by omega) (fun s' hs' => ?_)) (s + 1) s 9 (by omega) (Nat.and_self s) ⟨by omega, fun h => absurd h (by omega), fun q h1 h2 => ?_⟩
    · by_cases e : s' = s
      · exact ⟨m, hm, by rw [e, cd_us], by rw [e]; exact hN⟩
      · rw [cd_un e]
        exact h s' (by omega)
    · have := co_le h1
      omega
theorem xc_colour (hK : co_sy K) (hcl : ∀ t, t < 8 → cd_R (a_clash t) (fun u => K t u = true)) (k : ∀ nd, (∀ s, s < 256 → ∃ m, m ≤ 8 ∧ nd s = nI m ∧ co_Nd K s m) → post (f_count, f_k, f_inputCount, f_known, f_selfMoves, f_allMoves, f_allocated, f_inMemory, f_memoryCost, f_saved, f_outputCount, f_done, f_took, f_taken, a_op, a_opD, a_opA, a_opB, a_inputs, a_before, a_behind, a_ways, a_clash, a_costs, nd, a_moves, a_place, a_tried, a_gained, a_possible, a_register, a_memory, a_outputs)) : (wpX_colour post (f_count, f_k, f_inputCount, f_known, f_selfMoves, f_allMoves, f_allocated, f_inMemory, f_memoryCost, f_saved, f_outputCount, f_done, f_took, f_taken, a_op, a_opD, a_opA, a_opB, a_inputs, a_before, a_behind, a_ways, a_clash, a_costs, a_needs, a_moves, a_place, a_tried, a_gained, a_possible, a_register, a_memory, a_outputs)) := by
  refine nm_r (e' := upd a_needs 0 0) (by rw [cd_vb0]) ⟨256, xc_9 hK hcl k 255 1 _ (by omega) (by omega) (fun s' hs' => ⟨0, by omega, ?_, ?_⟩)⟩
  · have e : s' = 0 := by omega
    rw [e, cd_us]
    rfl
  · have e : s' = 0 := by omega
    rw [e]
    exact fun r => ⟨fun _ => Nat.zero_le _, fun _ => co_z⟩
end
/-! X: know -/
/-- what X knows of the code c -/
def cd_XK (c : cd_T) (sm am : Int32) (bf bh cl co nd mv : Nat → Int32) : Prop :=
  (∀ i, i < cd_n c → cd_R (bf i) (cd_LB c i)) ∧ (∀ i, i < cd_n c → cd_R (bh i) (cd_bh c (cd_LB c) i)) ∧ (∀ t, t < 8 → cd_R (cl t) (fun u => cd_K c t u = true)) ∧ (∀ t, t < 8 → co t = nI (cd_cost c t))
    ∧ (∀ s, s < 256 → ∃ m, m ≤ 8 ∧ nd s = nI m ∧ co_Nd (cd_K c) s m) ∧ me_M mv (cd_mv c) ∧ sm = nI (cd_sf c (cd_n c)) ∧ am = nI (cd_al c (cd_n c))
section
variable {f_count f_k f_inputCount f_known f_selfMoves f_allMoves f_allocated f_inMemory f_memoryCost f_saved f_outputCount f_done f_took f_taken : Int32} {a_op a_opD a_opA a_opB a_inputs a_before a_behind a_ways a_clash a_costs a_needs a_moves a_place a_tried a_gained a_possible a_register a_memory a_outputs : Nat → Int32} {c : cd_T} {post : SX → Prop}
theorem xk_know (hc : cd_Is c f_count a_op a_opD a_opA a_opB) (hk : f_known = 0 ∨ (f_known = 1 ∧ cd_XK c f_selfMoves f_allMoves a_before a_behind a_clash a_costs a_needs a_moves))
    (k : ∀ sm am bf bh wy cl co nd mv, cd_XK c sm am bf bh cl co nd mv → post (f_count, f_k, f_inputCount, 1, sm, am, f_allocated, f_inMemory, f_memoryCost, f_saved, f_outputCount, f_done, f_took, f_taken, a_op, a_opD, a_opA, a_opB, a_inputs, bf, bh, wy, cl, co, nd, mv, a_place, a_tried, a_gained, a_possible, a_register, a_memory, a_outputs)) : (wpX_know post (f_count, f_k, f_inputCount, f_known, f_selfMoves, f_allMoves, f_allocated, f_inMemory, f_memoryCost, f_saved, f_outputCount, f_done, f_took, f_taken, a_op, a_opD, a_opA, a_opB, a_inputs, a_before, a_behind, a_ways, a_clash, a_costs, a_needs, a_moves, a_place, a_tried, a_gained, a_possible, a_register, a_memory, a_outputs)) := by
  rcases hk with hk | ⟨hk, hK⟩
  · refine br_t hk (xl_live hc (fun bf bh h1 h2 => ?_))
    refine xo_loops hc (fun wy co h3 => ?_)
    refine xm_meet hc h1 h2 (fun cl mv h4 h5 => ?_)
    have h6 : ∀ t, t < 8 → cd_R (cl t) (fun u => cd_K c t u = true) := fun t ht => cd_Rc (h4.1 t ht) (fun u _ => cd_Kt.symm)
    refine xc_colour (cd_Ks c) h6 (fun nd h7 => ?_)
    exact k _ _ bf bh wy cl co nd mv ⟨h1, h2, h6, h3, h7, h5, rfl, rfl⟩
  · subst hk
    exact br_f cd_10 (k _ _ _ _ _ _ _ _ _ hK)
end
end
section
/-! X: the search, its arrays -/
theorem xs_b20 {K : Nat → Nat → Bool} {W : Nat → Nat → Nat} (hW : cd_sg (fun v => cd_sg (W v) v) 8 ≤ 20) (M : Nat) {t : Nat} (ht : t ≤ 8) : cd_sg (sr_bd K W M) t ≤ 20 := by
  have h1 : cd_sg (sr_bd K W M) 8 ≤ cd_sg (fun v => cd_sg (W v) v) 8 := cd_sgle (fun v _ => cd_sgle (fun u _ => by unfold sr_b1; split <;> omega))
  have h2 := cd_sg_mono (f := sr_bd K W M) ht
  omega
theorem xs_s20 {W : Nat → Nat → Nat} (hW : cd_sg (fun v => cd_sg (W v) v) 8 ≤ 20) (M : Nat) (f : Nat → Nat) {t : Nat} (ht : t ≤ 8) : sr_sc W M f t ≤ 20 := by
  have h1 : cd_sg (sr_gn W M f) 8 ≤ cd_sg (fun v => cd_sg (W v) v) 8 := cd_sgle (fun v _ => cd_sgle (fun u _ => by unfold sr_g1; split <;> omega))
  have h2 := cd_sg_mono (f := sr_gn W M f) ht
  unfold sr_sc
  omega
theorem xs_scs {W : Nat → Nat → Nat} {M : Nat} {f : Nat → Nat} {t : Nat} : sr_sc W M f (t + 1) = sr_sc W M f t + sr_gn W M f t := rfl
theorem xs_ps {K : Nat → Nat → Bool} {W : Nat → Nat → Nat} {M : Nat} {t : Nat} (ht : t < 8) : sr_ps K W M t = sr_ps K W M (t + 1) + sr_bd K W M t := by
  have h1 := sr_sgbd (K := K) (W := W) (M := M) (show t + 1 ≤ 8 by omega)
  have h2 : cd_sg (sr_bd K W M) (t + 1) = cd_sg (sr_bd K W M) t + sr_bd K W M t := rfl
  unfold sr_ps
  omega
theorem xs_ps8 {K : Nat → Nat → Bool} {W : Nat → Nat → Nat} {M : Nat} : sr_ps K W M 8 = 0 := Nat.sub_self _
theorem xs_ps20 {K : Nat → Nat → Bool} {W : Nat → Nat → Nat} (hW : cd_sg (fun v => cd_sg (W v) v) 8 ≤ 20) (M t : Nat) : sr_ps K W M t ≤ 20 := by
  have := xs_b20 (K := K) hW M (Nat.le_refl 8)
  unfold sr_ps
  omega
theorem xs_lt {v X : Nat} (hv : v < 2 ^ 31) (hX : X < 2 ^ 31) : nI v - 1 < nI X ↔ v ≤ X := by
  rcases Nat.eq_zero_or_pos v with z | z
  · subst z
    have e : nI 0 - 1 = -1 := by decide
    rw [e, Int32.lt_iff_toInt_lt, nI_toInt hX, show (-1 : Int32).toInt = -1 by decide]
    omega
  · rw [cd_d1 z, nI_ltI (by omega) hX]
    omega
/-- the places of an assignment -/
def xs_P (M : Nat) (P : Nat → Nat) (pl : Nat → Int32) : Prop := ∀ t, t < 8 → pl t = if M.testBit t = true then -2 else nI (P t)
section
variable {f_count f_k f_inputCount f_known f_selfMoves f_allMoves f_allocated f_inMemory f_memoryCost f_saved f_outputCount f_done f_took f_taken : Int32} {a_op a_opD a_opA a_opB a_inputs a_before a_behind a_ways a_clash a_costs a_needs a_moves a_place a_tried a_gained a_possible a_register a_memory a_outputs : Nat → Int32} {post : SX → Prop} {K : Nat → Nat → Bool} {W : Nat → Nat → Nat} {k M : Nat}
theorem xs_26 {J11 : (Int32 → (Nat → Int32) → (Nat → Int32) → (Nat → Int32) → (Nat → Int32) → (Nat → Int32) → (Nat → Int32) → (Nat → Int32) → (Nat → Int32) → (Nat → Int32) → (Nat → Int32) → (Nat → Int32) → (Nat → Int32) → (Nat → Int32) → (Nat → Int32) → (Nat → Int32) → (Nat → Int32) → (Nat → Int32) → (Nat → Int32) → (Nat → Int32) → Prop)} (hM : f_inMemory = nI M) (hcl : ∀ t, t < 8 → cd_R (a_clash t) (fun u => K t u = true)) (hmv : me_M a_moves W) (hW : cd_sg (fun v => cd_sg (W v) v) 8 ≤ 20) {t : Nat} (ht : t < 8)
    (kk : J11 (nI t + (-1)) a_op a_opD a_opA a_opB a_inputs a_before a_behind a_ways a_clash a_costs a_needs a_moves a_place a_tried a_gained (upd a_possible t (nI (sr_ps K W M t))) a_register a_memory a_outputs) :
    ∀ d j x2, j + d = t → x2 = nI (sr_ps K W M (t + 1) + cd_sg (sr_b1 K W M t) j) → (wX_bounds_26 post J11 (nI t) f_count f_k f_inputCount f_known f_selfMoves f_allMoves f_allocated f_inMemory f_memoryCost f_saved f_outputCount f_done f_took f_taken a_op a_opD a_opA a_opB a_inputs a_before a_behind a_ways a_clash a_costs a_needs a_moves a_place a_tried a_gained a_possible a_register a_memory a_outputs (d + 1) x2 (nI j)) := by
  have h20 := xs_ps20 (K := K) hW M t
  have hps := xs_ps (K := K) (W := W) (M := M) ht
  subst hM
  intro d
  induction d with
  | zero =>
    intro j x2 hj hx2
    have ej : j = t := by omega
    subst ej
    subst hx2
    refine pk_le j j (fun _ => ⟨vp_in_nI (by omega) (by decide), ?_⟩) (fun z => absurd z (by omega))
    have e : sr_ps K W M (j + 1) + cd_sg (sr_b1 K W M j) j = sr_ps K W M j := hps.symm
    rw [e]
    exact nm_r (by rw [nI_clamp (by omega), cd_vb (by omega)]) (nm_e kk)
  | succ d ih =>
    intro j x2 hj hx2
    have hjt : j < t := by omega
    have go : sr_b1 K W M t j = 0 → (wX_bounds_26 post J11 (nI t) f_count f_k f_inputCount f_known f_selfMoves f_allMoves f_allocated (nI M) f_memoryCost f_saved f_outputCount f_done f_took f_taken a_op a_opD a_opA a_opB a_inputs a_before a_behind a_ways a_clash a_costs a_needs a_moves a_place a_tried a_gained a_possible a_register a_memory a_outputs (d + 1) x2 (nI (j + 1))) := fun h0 => ih (j + 1) x2 (by omega) (by rw [hx2, cd_sgs, h0]; rfl)
    refine pk_le t j (fun z => absurd z (by omega)) (fun _ => ?_)
    refine cd_r0 (cd_Rn (s := M)) (by omega) (fun m1 => cd_r0 (cd_Rn (s := M)) (by omega) (fun m2 => ⟨vp_in_nI ht (by decide), ?_⟩) (fun m2 => nm_r (nI_1 j) (go ?_))) (fun m1 => nm_r (nI_1 j) (go ?_))
    · rw [nI_clamp (by omega : t < 2 ^ 31)]
      refine cd_r0 (hcl t ht) (by omega) (fun hk => ?_) (fun hk => nm_r (nI_1 j) (go ?_))
      · rw [me_ix]
        refine ⟨vp_in_nI (by omega) (by decide), ?_⟩
        rw [nI_clamp (by omega), hmv t j ht (by omega)]
        have e1 : sr_b1 K W M t j = W t j := by
          unfold sr_b1
          exact if_pos ⟨Bool.not_eq_true _ |>.mp m1, Bool.not_eq_true _ |>.mp m2, Bool.not_eq_true _ |>.mp hk⟩
        exact nm_e (nm_r (nI_1 j) (ih (j + 1) _ (by omega) (by rw [hx2, nI_add, cd_sgs, e1, ← Nat.add_assoc])))
      · unfold sr_b1
        exact if_neg (fun z => by rw [z.2.2] at hk; exact absurd hk (by decide))
    · unfold sr_b1
      exact if_neg (fun z => by rw [z.2.1] at m2; exact absurd m2 (by decide))
    · unfold sr_b1
      exact if_neg (fun z => by rw [z.1] at m1; exact absurd m1 (by decide))
theorem xs_11 (hM : f_inMemory = nI M) (hcl : ∀ t, t < 8 → cd_R (a_clash t) (fun u => K t u = true)) (hmv : me_M a_moves W) (hW : cd_sg (fun v => cd_sg (W v) v) 8 ≤ 20)
    (kk : ∀ ps, (∀ t, t ≤ 8 → ps t = nI (sr_ps K W M t)) → post (f_count, f_k, f_inputCount, f_known, f_selfMoves, f_allMoves, f_allocated, f_inMemory, f_memoryCost, f_saved, f_outputCount, f_done, f_took, f_taken, a_op, a_opD, a_opA, a_opB, a_inputs, a_before, a_behind, a_ways, a_clash, a_costs, a_needs, a_moves, a_place, a_tried, a_gained, ps, a_register, a_memory, a_outputs)) :
    ∀ d ps, d ≤ 8 → (∀ t, d ≤ t → t ≤ 8 → ps t = nI (sr_ps K W M t)) → (wX_bounds_11 post f_count f_k f_inputCount f_known f_selfMoves f_allMoves f_allocated f_inMemory f_memoryCost f_saved f_outputCount f_done f_took f_taken (d + 1) (nI d + (-1)) a_op a_opD a_opA a_opB a_inputs a_before a_behind a_ways a_clash a_costs a_needs a_moves a_place a_tried a_gained ps a_register a_memory a_outputs) := by
  intro d
  induction d with
  | zero =>
    intro ps _ hps
    exact br_t (by decide) (kk ps (fun t ht => hps t (by omega) ht))
  | succ d ih =>
    intro ps hd hps
    rw [pk_m1]
    refine br_f (nI_pos (by omega)) ?_
    rw [nI_1]
    refine ⟨vp_in_nI (by omega) (by decide), ?_⟩
    rw [nI_clamp (by omega), hps (d + 1) (by omega) (by omega)]
    refine nm_e ⟨d + 1, ?_⟩
    exact xs_26 hM hcl hmv hW (show d < 8 by omega) (ih _ (by omega) (fun t h1 h2 => by
      by_cases e : t = d
      · rw [e, cd_us]
      · rw [cd_un e]
        exact hps t (by omega) h2)) d 0 _ (by omega) (by simp [cd_sg])
theorem xs_bounds (hM : f_inMemory = nI M) (hcl : ∀ t, t < 8 → cd_R (a_clash t) (fun u => K t u = true)) (hmv : me_M a_moves W) (hW : cd_sg (fun v => cd_sg (W v) v) 8 ≤ 20)
    (kk : ∀ ps, (∀ t, t ≤ 8 → ps t = nI (sr_ps K W M t)) → post (f_count, f_k, f_inputCount, f_known, f_selfMoves, f_allMoves, f_allocated, f_inMemory, f_memoryCost, f_saved, f_outputCount, f_done, f_took, f_taken, a_op, a_opD, a_opA, a_opB, a_inputs, a_before, a_behind, a_ways, a_clash, a_costs, a_needs, a_moves, a_place, a_tried, a_gained, ps, a_register, a_memory, a_outputs)) : (wpX_bounds post (f_count, f_k, f_inputCount, f_known, f_selfMoves, f_allMoves, f_allocated, f_inMemory, f_memoryCost, f_saved, f_outputCount, f_done, f_took, f_taken, a_op, a_opD, a_opA, a_opB, a_inputs, a_before, a_behind, a_ways, a_clash, a_costs, a_needs, a_moves, a_place, a_tried, a_gained, a_possible, a_register, a_memory, a_outputs)) := by
  refine nm_r (e' := upd a_possible 8 0) (by rw [cd_vb0]) ⟨9, ?_⟩
  have h := xs_11 hM hcl hmv hW kk 8 (upd a_possible 8 0) (by omega) (fun t h1 h2 => by
    have e : t = 8 := by omega
    rw [e, cd_us, xs_ps8]
    rfl)
  exact h
theorem xs_keep13 (hM : f_inMemory = nI M) {P : Nat → Nat} (hP : ∀ t, t < 8 → M.testBit t = false → a_tried t = nI (P t) ∧ P t < 100) (kk : ∀ pl, xs_P M P pl → post (f_count, f_k, f_inputCount, f_known, f_selfMoves, f_allMoves, f_allocated, f_inMemory, f_memoryCost, f_saved, f_outputCount, f_done, f_took, f_taken, a_op, a_opD, a_opA, a_opB, a_inputs, a_before, a_behind, a_ways, a_clash, a_costs, a_needs, a_moves, pl, a_tried, a_gained, a_possible, a_register, a_memory, a_outputs)) :
    ∀ d j pl, j + d = 8 → (∀ t, t < j → pl t = if M.testBit t = true then -2 else nI (P t)) → (wX_keep_13 post f_count f_k f_inputCount f_known f_selfMoves f_allMoves f_allocated f_inMemory f_memoryCost f_saved f_outputCount f_done f_took f_taken (d + 1) (nI j) a_op a_opD a_opA a_opB a_inputs a_before a_behind a_ways a_clash a_costs a_needs a_moves pl a_tried a_gained a_possible a_register a_memory a_outputs) := by
  subst hM
  intro d
  induction d with
  | zero =>
    intro j pl hj h
    have ej : j = 8 := by omega
    subst ej
    exact br_t (by decide) (kk pl h)
  | succ d ih =>
    intro j pl hj h
    have hv : vp_in (nI j) 8 := vp_in_nI (by omega) (by decide)
    have go : ∀ x, x = (if M.testBit j = true then -2 else nI (P j)) → (wX_keep_13 post f_count f_k f_inputCount f_known f_selfMoves f_allMoves f_allocated (nI M) f_memoryCost f_saved f_outputCount f_done f_took f_taken (d + 1) (nI (j + 1)) a_op a_opD a_opA a_opB a_inputs a_before a_behind a_ways a_clash a_costs a_needs a_moves (upd pl j x) a_tried a_gained a_possible a_register a_memory a_outputs) := fun x hx => ih (j + 1) _ (by omega) (fun t ht => by
      by_cases e : t = j
      · rw [e, cd_us, hx]
      · rw [cd_un e]
        exact h t (by omega))
    refine br_f (nI_ge (b := 8) (by omega) (by decide)) (cd_r0 (cd_Rn (s := M)) (by omega) (fun m1 => ⟨hv, hv, ?_⟩) (fun m1 => ⟨hv, ?_⟩))
    · have m2 := Bool.not_eq_true _ |>.mp m1
      have hp := hP j (by omega) m2
      rw [nI_clamp (by omega), hp.1]
      refine nm_r (by rw [cd_vb' (by omega)]) (nm_r (nI_1 j) (go (nI (P j)) ?_))
      rw [if_neg m1]
    · rw [nI_clamp (by omega)]
      refine nm_r (by rw [cd_vbm2]) (nm_r (nI_1 j) (go (-2) ?_))
      rw [if_pos m1]
theorem xs_keep (hM : f_inMemory = nI M) {P : Nat → Nat} (hP : ∀ t, t < 8 → M.testBit t = false → a_tried t = nI (P t) ∧ P t < 100) {g : Int32} (hg : a_gained 8 = g) (kk : ∀ pl, xs_P M P pl → post (f_count, f_k, f_inputCount, f_known, f_selfMoves, f_allMoves, f_allocated, f_inMemory, f_memoryCost, g, f_outputCount, f_done, f_took, f_taken, a_op, a_opD, a_opA, a_opB, a_inputs, a_before, a_behind, a_ways, a_clash, a_costs, a_needs, a_moves, pl, a_tried, a_gained, a_possible, a_register, a_memory, a_outputs)) : (wpX_keep post (f_count, f_k, f_inputCount, f_known, f_selfMoves, f_allMoves, f_allocated, f_inMemory, f_memoryCost, f_saved, f_outputCount, f_done, f_took, f_taken, a_op, a_opD, a_opA, a_opB, a_inputs, a_before, a_behind, a_ways, a_clash, a_costs, a_needs, a_moves, a_place, a_tried, a_gained, a_possible, a_register, a_memory, a_outputs)) := by
  refine nm_r hg ⟨9, ?_⟩
  exact xs_keep13 hM hP kk 8 0 a_place (by omega) (fun t ht => absurd ht (by omega))
theorem xs_gain {q : Int32 → Prop} (hM : f_inMemory = nI M) (hcl : ∀ t, t < 8 → cd_R (a_clash t) (fun u => K t u = true)) (hmv : me_M a_moves W) {t : Nat} (ht : t < 8) (hm : M.testBit t = false) {g : Nat → Nat} (hg : ∀ u, u ≤ t → g u < 100) (htr : ∀ u, u < t → a_tried u = nI (g u)) {cc : Nat} (hgt : g t = cc)
    (k1 : sr_ok K M g t → q (nI (sr_gn W M g t))) (k0 : ¬ sr_ok K M g t → q (-1)) : (wpX_gain q (f_count, f_k, f_inputCount, f_known, f_selfMoves, f_allMoves, f_allocated, f_inMemory, f_memoryCost, f_saved, f_outputCount, f_done, f_took, f_taken, a_op, a_opD, a_opA, a_opB, a_inputs, a_before, a_behind, a_ways, a_clash, a_costs, a_needs, a_moves, a_place, a_tried, a_gained, a_possible, a_register, a_memory, a_outputs) (nI t) (nI cc)) := by
  subst hM
  subst hgt
  have main : ∀ d j, j + d = t → (∀ u, u < j → g u = g t → ¬ sr_cf K M t u) → (wX_gain_5 q (nI t) (nI (g t)) f_count f_k f_inputCount f_known f_selfMoves f_allMoves f_allocated (nI M) f_memoryCost f_saved f_outputCount f_done f_took f_taken a_op a_opD a_opA a_opB a_inputs a_before a_behind a_ways a_clash a_costs a_needs a_moves a_place a_tried a_gained a_possible a_register a_memory a_outputs (d + 1) (nI (cd_sg (sr_g1 W M g t) j)) (nI j)) := by
    intro d
    induction d with
    | zero =>
      intro j hj h
      have ej : j = t := by omega
      subst ej
      exact pk_le j j (fun _ => k1 h) (fun z => absurd z (by omega))
    | succ d ih =>
      intro j hj h
      have hjt : j < t := by omega
      have go : sr_g1 W M g t j = 0 → (g j = g t → ¬ sr_cf K M t j) → (wX_gain_5 q (nI t) (nI (g t)) f_count f_k f_inputCount f_known f_selfMoves f_allMoves f_allocated (nI M) f_memoryCost f_saved f_outputCount f_done f_took f_taken a_op a_opD a_opA a_opB a_inputs a_before a_behind a_ways a_clash a_costs a_needs a_moves a_place a_tried a_gained a_possible a_register a_memory a_outputs (d + 1) (nI (cd_sg (sr_g1 W M g t) j)) (nI (j + 1))) := fun h0 h1 => by
        have z := ih (j + 1) (by omega) (fun u hu => by
          rcases Nat.lt_or_ge u j with y | y
          · exact h u y
          · have e : u = j := by omega
            subst e
            exact h1)
        rw [cd_sgs, h0, Nat.add_zero] at z
        exact z
      refine pk_le t j (fun z => absurd z (by omega)) (fun _ => ?_)
      refine cd_r0 (cd_Rn (s := M)) (by omega) (fun m1 => ⟨vp_in_nI (by omega) (by decide), ?_⟩) (fun m1 => nm_r (nI_1 j) (go ?_ (fun _ z => ?_)))
      · have m2 := Bool.not_eq_true _ |>.mp m1
        rw [nI_clamp (by omega : j < 2 ^ 31), htr j hjt]
        have b1 := hg j (by omega)
        have b2 := hg t (by omega)
        refine pk_eq (g j) (g t) (fun eg => ⟨vp_in_nI ht (by decide), ?_⟩) (fun eg => nm_r (nI_1 j) (go ?_ (fun z => absurd z eg)))
        · rw [nI_clamp (by omega : t < 2 ^ 31)]
          refine cd_r0 (hcl t ht) (by omega) (fun hk => ?_) (fun hk => k0 (fun ho => ho j hjt eg ⟨hm, m2, hk⟩))
          rw [me_ix]
          refine ⟨vp_in_nI (by omega) (by decide), ?_⟩
          rw [nI_clamp (by omega), hmv t j ht (by omega), nI_add]
          have z := ih (j + 1) (by omega) (fun u hu => by
            rcases Nat.lt_or_ge u j with y | y
            · exact h u y
            · have e : u = j := by omega
              subst e
              exact fun _ z => hk z.2.2)
          have e1 : sr_g1 W M g t j = W t j := by
            unfold sr_g1
            exact if_pos ⟨hm, m2, eg⟩
          rw [cd_sgs, e1] at z
          exact nm_e (nm_r (nI_1 j) z)
        · unfold sr_g1
          exact if_neg (fun z => eg z.2.2)
      · unfold sr_g1
        exact if_neg (fun z => by rw [z.2.1] at m1; exact absurd m1 (by decide))
      · rw [z.2.1] at m1
        exact absurd m1 (by decide)
  exact ⟨t + 1, main t 0 (by omega) (fun u hu => absurd hu (by omega))⟩
/-! X: the search itself -/
def xs_I (K : Nat → Nat → Bool) (W : Nat → Nat → Nat) (k M : Nat) (f : Nat → Nat) (t : Nat) (tr gn : Nat → Int32) : Prop :=
  (∀ s, s < t → tr s = nI (f s)) ∧ (∀ s, s < t → f s < sr_mo k M s ∧ sr_ok K M f s) ∧ (∀ s, s ≤ t → gn s = nI (sr_sc W M f s))
theorem xs_mo {k M t : Nat} (hk : k ≤ 4) : sr_mo k M t ≤ 4 := by
  unfold sr_mo
  split <;> omega
def xs_g (f : Nat → Nat) (t c : Nat) : Nat → Nat := fun u => if u = t then c else f u
theorem xs_gt {f : Nat → Nat} {t c : Nat} : xs_g f t c t = c := if_pos rfl
theorem xs_gu {f : Nat → Nat} {t c u : Nat} (h : u < t) : xs_g f t c u = f u := if_neg (by omega)
theorem xs_61 {q : Int32 → SX → Prop} {J40 : Int32 → Prop} {x2 x3 : Int32} (hW : cd_sg (fun v => cd_sg (W v) v) 8 ≤ 20) (hps : ∀ t, t ≤ 8 → a_possible t = nI (sr_ps K W M t)) {f : Nat → Nat} {t : Nat} (ht : t < 8) (hI : xs_I K W k M f t a_tried a_gained) {c v : Nat} (hc4 : c < 4) {P : Nat → Nat}
    (hsv : f_saved = nI v - 1) (hv : v ≤ 21) {gg : Nat} (hgg : sr_gn W M (xs_g f t c) t = gg) (hB : sr_BS K W k M (sr_Dn f t c) v P)
    (kj : sr_BS K W k M (sr_Dn f t (c + 1)) v P → J40 (nI (c + 1)))
    (k1 : v ≤ sr_sc W M (xs_g f t c) (t + 1) + sr_ps K W M (t + 1) → q 1 (f_count, f_k, f_inputCount, f_known, f_selfMoves, f_allMoves, f_allocated, f_inMemory, f_memoryCost, f_saved, f_outputCount, f_done, f_took, f_taken, a_op, a_opD, a_opA, a_opB, a_inputs, a_before, a_behind, a_ways, a_clash, a_costs, a_needs, a_moves, a_place, upd a_tried t (nI c), upd a_gained (t + 1) (nI (sr_sc W M (xs_g f t c) (t + 1))), a_possible, a_register, a_memory, a_outputs)) :
    (wX_forward_61 q J40 (nI t) x2 x3 (nI c) (nI gg) f_count f_k f_inputCount f_known f_selfMoves f_allMoves f_allocated f_inMemory f_memoryCost f_saved f_outputCount f_done f_took f_taken a_op a_opD a_opA a_opB a_inputs a_before a_behind a_ways a_clash a_costs a_needs a_moves a_place a_tried a_gained a_possible a_register a_memory a_outputs) := by
  subst hgg
  have e1 : sr_sc W M (xs_g f t c) (t + 1) = sr_sc W M f t + sr_gn W M (xs_g f t c) t := by
    rw [xs_scs, sr_scc (W := W) (M := M) (f := xs_g f t c) (g := f) (fun u hu => xs_gu hu)]
  have b1 := xs_s20 hW M (xs_g f t c) (show t + 1 ≤ 8 by omega)
  have b2 := xs_ps20 (K := K) hW M (t + 1)
  subst hsv
  refine br_f (nI_pos (by omega)) ⟨vp_in_nI (by omega) (by decide), ?_⟩
  rw [nI_1, nI_clamp (by omega), nI_clamp (by omega), hI.2.2 t (Nat.le_refl _), hps (t + 1) (by omega), nI_add, ← e1, nI_add]
  have hv9 : vp_in (nI (t + 1)) 9 := vp_in_nI (by omega) (by decide)
  refine ⟨hv9, cd_bi (xs_lt (by omega) (by omega)) (fun hl => ⟨vp_in_nI ht (by decide), nm_r (by rw [cd_vb (by omega)]) ⟨vp_in_nI (by omega) (by decide), hv9, nm_r (by rw [cd_vb (by omega)]) (k1 hl)⟩⟩) (fun hl => nm_r (nI_1 c) (kj (sr_BSp hB (fun Q hQ ha hb => ?_))))⟩
  have h8 := sr_bound8 (W := W) hQ (show t + 1 ≤ 8 by omega)
  have e2 : sr_sc W M Q (t + 1) = sr_sc W M (xs_g f t c) (t + 1) := sr_scc (fun u hu => by
    rcases Nat.lt_or_ge u t with y | y
    · rw [xs_gu y]
      exact ha u y
    · have e : u = t := by omega
      subst e
      rw [xs_gt]
      exact hb)
  omega
/-- an assignment that goes on with c at t is none if c doesn't fit -/
theorem xs_no {f : Nat → Nat} {t c : Nat} (ht : t < 8) (hn : ¬ sr_ok K M (xs_g f t c) t) {v : Nat} {P : Nat → Nat} (hB : sr_BS K W k M (sr_Dn f t c) v P) : sr_BS K W k M (sr_Dn f t (c + 1)) v P := by
  refine sr_BSi hB (fun Q hQ => sr_skip (fun ha hb => hn (sr_okc (fun u hu => ?_) (hQ t ht).2)))
  rcases Nat.lt_or_ge u t with y | y
  · rw [xs_gu y]
    exact ha u y
  · have e : u = t := by omega
    subst e
    rw [xs_gt]
    exact hb
theorem xs_okm {f : Nat → Nat} {t : Nat} (hm : M.testBit t = true) : sr_ok K M f t := by
  intro u hu _ z
  rw [z.1] at hm
  exact absurd hm (by decide)
theorem xs_gnm {f : Nat → Nat} {t : Nat} (hm : M.testBit t = true) : sr_gn W M f t = 0 := by
  refine cd_sgz (fun u hu => ?_)
  unfold sr_g1
  exact if_neg (fun z => by rw [z.1] at hm; exact absurd hm (by decide))
theorem xs_40 {q : Int32 → SX → Prop} (hk4 : k ≤ 4) (hM : f_inMemory = nI M) (hcl : ∀ t, t < 8 → cd_R (a_clash t) (fun u => K t u = true)) (hmv : me_M a_moves W) (hW : cd_sg (fun v => cd_sg (W v) v) 8 ≤ 20) (hps : ∀ t, t ≤ 8 → a_possible t = nI (sr_ps K W M t))
    {f : Nat → Nat} {t : Nat} (ht : t < 8) (hI : xs_I K W k M f t a_tried a_gained) {v : Nat} {P : Nat → Nat} (hsv : f_saved = nI v - 1) (hv : v ≤ 21) {x2 : Int32} (hx2 : (x2 = 0 ∧ M.testBit t = false) ∨ (x2 = 1 ∧ M.testBit t = true))
    (k0 : sr_BS K W k M (sr_Dn f t (sr_mo k M t)) v P → q 0 (f_count, f_k, f_inputCount, f_known, f_selfMoves, f_allMoves, f_allocated, f_inMemory, f_memoryCost, f_saved, f_outputCount, f_done, f_took, f_taken, a_op, a_opD, a_opA, a_opB, a_inputs, a_before, a_behind, a_ways, a_clash, a_costs, a_needs, a_moves, a_place, a_tried, a_gained, a_possible, a_register, a_memory, a_outputs))
    {c0 : Nat} (k1 : ∀ c, c0 ≤ c → c < sr_mo k M t → sr_ok K M (xs_g f t c) t → sr_BS K W k M (sr_Dn f t c) v P → v ≤ sr_sc W M (xs_g f t c) (t + 1) + sr_ps K W M (t + 1) → q 1 (f_count, f_k, f_inputCount, f_known, f_selfMoves, f_allMoves, f_allocated, f_inMemory, f_memoryCost, f_saved, f_outputCount, f_done, f_took, f_taken, a_op, a_opD, a_opA, a_opB, a_inputs, a_before, a_behind, a_ways, a_clash, a_costs, a_needs, a_moves, a_place, upd a_tried t (nI c), upd a_gained (t + 1) (nI (sr_sc W M (xs_g f t c) (t + 1))), a_possible, a_register, a_memory, a_outputs)) :
    ∀ d c, c0 ≤ c → c + d = sr_mo k M t → sr_BS K W k M (sr_Dn f t c) v P → (wX_forward_40 q (nI t) x2 (nI (sr_mo k M t)) f_count f_k f_inputCount f_known f_selfMoves f_allMoves f_allocated f_inMemory f_memoryCost f_saved f_outputCount f_done f_took f_taken a_op a_opD a_opA a_opB a_inputs a_before a_behind a_ways a_clash a_costs a_needs a_moves a_place a_tried a_gained a_possible a_register a_memory a_outputs (d + 1) (nI c)) := by
  have hm4 := xs_mo (M := M) (t := t) hk4
  intro d
  induction d with
  | zero =>
    intro c hc0 hc hB
    have ec : c = sr_mo k M t := by omega
    subst ec
    exact pk_le (sr_mo k M t) (sr_mo k M t) (fun _ => k0 hB) (fun z => absurd z (by omega))
  | succ d ih =>
    intro c hc0 hc hB
    have hcm : c < sr_mo k M t := by omega
    refine pk_le (sr_mo k M t) c (fun z => absurd z (by omega)) (fun _ => ?_)
    rcases hx2 with ⟨hx, hm⟩ | ⟨hx, hm⟩
    · subst hx
      refine br_t rfl (xs_gain (g := xs_g f t c) hM hcl hmv ht hm (fun u hu => ?_) (fun u hu => by rw [xs_gu hu]; exact hI.1 u hu) xs_gt
        (fun ok => xs_61 hW hps ht hI (by omega) hsv hv rfl hB (fun hB' => ih (c + 1) (by omega) (by omega) hB') (fun hl => k1 c hc0 hcm ok hB hl))
        (fun nok => br_t (by decide) (nm_r (nI_1 c) (ih (c + 1) (by omega) (by omega) (xs_no ht nok hB)))))
      rcases Nat.lt_or_ge u t with y | y
      · rw [xs_gu y]
        have := (hI.2.1 u y).1
        have := xs_mo (M := M) (t := u) hk4
        omega
      · have e : u = t := by omega
        subst e
        rw [xs_gt]
        omega
    · subst hx
      exact br_f cd_10 (xs_61 (gg := 0) hW hps ht hI (by omega) hsv hv (xs_gnm hm) hB (fun hB' => ih (c + 1) (by omega) (by omega) hB') (fun hl => k1 c hc0 hcm (xs_okm hm) hB hl))
theorem xs_forward {q : Int32 → SX → Prop} (hk4 : k ≤ 4) (hk : f_k = nI k) (hM : f_inMemory = nI M) (hcl : ∀ t, t < 8 → cd_R (a_clash t) (fun u => K t u = true)) (hmv : me_M a_moves W) (hW : cd_sg (fun v => cd_sg (W v) v) 8 ≤ 20) (hps : ∀ t, t ≤ 8 → a_possible t = nI (sr_ps K W M t))
    {f : Nat → Nat} {t c : Nat} (ht : t < 8) (hI : xs_I K W k M f t a_tried a_gained) (htr : a_tried t + 1 = nI c) (hcm : c ≤ sr_mo k M t) {v : Nat} {P : Nat → Nat} (hsv : f_saved = nI v - 1) (hv : v ≤ 21) (hB : sr_BS K W k M (sr_Dn f t c) v P)
    (k0 : sr_BS K W k M (sr_Dn f t (sr_mo k M t)) v P → q 0 (f_count, f_k, f_inputCount, f_known, f_selfMoves, f_allMoves, f_allocated, f_inMemory, f_memoryCost, f_saved, f_outputCount, f_done, f_took, f_taken, a_op, a_opD, a_opA, a_opB, a_inputs, a_before, a_behind, a_ways, a_clash, a_costs, a_needs, a_moves, a_place, a_tried, a_gained, a_possible, a_register, a_memory, a_outputs))
    (k1 : ∀ c', c ≤ c' → c' < sr_mo k M t → sr_ok K M (xs_g f t c') t → sr_BS K W k M (sr_Dn f t c') v P → v ≤ sr_sc W M (xs_g f t c') (t + 1) + sr_ps K W M (t + 1) → q 1 (f_count, f_k, f_inputCount, f_known, f_selfMoves, f_allMoves, f_allocated, f_inMemory, f_memoryCost, f_saved, f_outputCount, f_done, f_took, f_taken, a_op, a_opD, a_opA, a_opB, a_inputs, a_before, a_behind, a_ways, a_clash, a_costs, a_needs, a_moves, a_place, upd a_tried t (nI c'), upd a_gained (t + 1) (nI (sr_sc W M (xs_g f t c') (t + 1))), a_possible, a_register, a_memory, a_outputs)) : (wpX_forward q (f_count, f_k, f_inputCount, f_known, f_selfMoves, f_allMoves, f_allocated, f_inMemory, f_memoryCost, f_saved, f_outputCount, f_done, f_took, f_taken, a_op, a_opD, a_opA, a_opB, a_inputs, a_before, a_behind, a_ways, a_clash, a_costs, a_needs, a_moves, a_place, a_tried, a_gained, a_possible, a_register, a_memory, a_outputs) (nI t)) := by
  have hvt : vp_in (nI t) 8 := vp_in_nI ht (by decide)
  have fin : ∀ x2, ((x2 = 0 ∧ M.testBit t = false) ∨ (x2 = 1 ∧ M.testBit t = true)) → (wX_forward_29 q (nI t) x2 (nI (sr_mo k M t)) f_count f_k f_inputCount f_known f_selfMoves f_allMoves f_allocated f_inMemory f_memoryCost f_saved f_outputCount f_done f_took f_taken a_op a_opD a_opA a_opB a_inputs a_before a_behind a_ways a_clash a_costs a_needs a_moves a_place a_tried a_gained a_possible a_register a_memory a_outputs) := fun x2 hx2 => by
    refine ⟨hvt, ?_⟩
    rw [nI_clamp (by omega), htr]
    refine nm_e ⟨sr_mo k M t - c + 1, ?_⟩
    exact xs_40 hk4 hM hcl hmv hW hps ht hI hsv hv hx2 k0 k1 (sr_mo k M t - c) c (Nat.le_refl _) (by omega) hB
  subst hM
  refine cd_r0 (cd_Rn (s := M)) (by omega) (fun m1 => ?_) (fun m1 => ?_)
  · have m2 := Bool.not_eq_true _ |>.mp m1
    have z := fin 0 (Or.inl ⟨rfl, m2⟩)
    have e : sr_mo k M t = k := if_neg m1
    rw [e, ← hk] at z
    exact br_t rfl z
  · have z := fin 1 (Or.inr ⟨rfl, m1⟩)
    have e : sr_mo k M t = 1 := if_pos m1
    rw [e] at z
    exact br_f cd_10 z
theorem xs_I1 {f : Nat → Nat} {t c : Nat} {tr gn : Nat → Int32} (hI : xs_I K W k M f t tr gn) (hc : c < sr_mo k M t) (hok : sr_ok K M (xs_g f t c) t) : xs_I K W k M (xs_g f t c) (t + 1) (upd tr t (nI c)) (upd gn (t + 1) (nI (sr_sc W M (xs_g f t c) (t + 1)))) := by
  refine ⟨fun s hs => ?_, fun s hs => ?_, fun s hs => ?_⟩
  · by_cases e : s = t
    · rw [e, cd_us, xs_gt]
    · rw [cd_un e, xs_gu (by omega)]
      exact hI.1 s (by omega)
  · by_cases e : s = t
    · rw [e, xs_gt]
      exact ⟨hc, hok⟩
    · rw [xs_gu (by omega)]
      have h := hI.2.1 s (by omega)
      exact ⟨h.1, sr_okc (fun u hu => (xs_gu (by omega)).symm) h.2⟩
  · by_cases e : s = t + 1
    · rw [e, cd_us]
    · rw [cd_un e, hI.2.2 s (by omega)]
      congr 1
      exact sr_scc (fun u hu => (xs_gu (by omega)).symm)
theorem xs_Iu {f : Nat → Nat} {t : Nat} {tr gn : Nat → Int32} {x : Int32} (hI : xs_I K W k M f t tr gn) : xs_I K W k M f t (upd tr t x) gn := by
  refine ⟨fun s hs => ?_, hI.2.1, hI.2.2⟩
  rw [cd_un (by omega)]
  exact hI.1 s hs
theorem xs_Id {f : Nat → Nat} {t : Nat} {tr gn : Nat → Int32} (hI : xs_I K W k M f (t + 1) tr gn) : xs_I K W k M f t tr gn :=
  ⟨fun s hs => hI.1 s (by omega), fun s hs => hI.2.1 s (by omega), fun s hs => hI.2.2 s (by omega)⟩
theorem xs_v21 (hW : cd_sg (fun v => cd_sg (W v) v) 8 ≤ 20) {D : (Nat → Nat) → Prop} {v : Nat} {P : Nat → Nat} (hB : sr_BS K W k M D v P) : v ≤ 21 := by
  rcases hB.2 with z | ⟨_, _, z, _⟩
  · omega
  · have := xs_s20 hW M P (Nat.le_refl 8)
    omega
theorem xs_mpos (f : Nat → Nat) (t c : Nat) : 0 < sr_mu f t c + 1 := Nat.succ_pos _
theorem xs_25 (hk4 : k ≤ 4) (hk : f_k = nI k) (hM : f_inMemory = nI M) (hcl : ∀ t, t < 8 → cd_R (a_clash t) (fun u => K t u = true)) (hmv : me_M a_moves W) (hW : cd_sg (fun v => cd_sg (W v) v) 8 ≤ 20) (hps : ∀ t, t ≤ 8 → a_possible t = nI (sr_ps K W M t)) (hx : ∃ Q, sr_VA K k M Q)
    (kk : ∀ pl tr gn P, sr_BA K W k M P → xs_P M P pl → post (f_count, f_k, f_inputCount, f_known, f_selfMoves, f_allMoves, f_allocated, f_inMemory, f_memoryCost, nI (sr_sc W M P 8), f_outputCount, f_done, f_took, f_taken, a_op, a_opD, a_opA, a_opB, a_inputs, a_before, a_behind, a_ways, a_clash, a_costs, a_needs, a_moves, pl, tr, gn, a_possible, a_register, a_memory, a_outputs)) :
    ∀ N f t c v P sv pl tr gn, sr_mu f t c + 1 < N → xs_I K W k M f t tr gn → sr_BS K W k M (sr_Dn f t c) v P → sv = nI v - 1 → (0 < v → xs_P M P pl) → ((t < 8 ∧ tr t + 1 = nI c ∧ c ≤ sr_mo k M t) ∨ (t = 8 ∧ c = 0 ∧ v ≤ sr_sc W M f 8)) →
      (wX_search_25 post N (nI t) f_count f_k f_inputCount f_known f_selfMoves f_allMoves f_allocated f_inMemory f_memoryCost sv f_outputCount f_done f_took f_taken a_op a_opD a_opA a_opB a_inputs a_before a_behind a_ways a_clash a_costs a_needs a_moves pl tr gn a_possible a_register a_memory a_outputs) := by
  intro N
  induction N with
  | zero => intro f t c v P sv pl tr gn h; omega
  | succ N ih =>
    intro f t c v P sv pl tr gn hN hI hB hsv hpl hcase
    rcases hcase with ⟨ht, htr, hcm⟩ | ⟨ht, hc0, hvs⟩
    · have hv := xs_v21 hW hB
      refine br_f (nI_pos (by omega)) (br_f (fun z => ?_) ?_)
      · have := (nI_eq (a := t) (b := 8) (by omega) (by omega)).mp z
        omega
      refine xs_forward hk4 hk hM hcl hmv hW hps ht hI htr hcm hsv hv hB (fun hB' => br_t rfl ?_) (fun c' h1 h2 h3 h4 h5 => br_f cd_10 (nm_r (nI_1 t) ?_))
      · cases t with
        | zero =>
          obtain ⟨n', rfl⟩ : ∃ n', N = n' + 1 := ⟨N - 1, by omega⟩
          have hf := sr_fin hB' (fun Q hQ => Or.inr ⟨fun u hu => absurd hu (by omega), (hQ 0 (by omega)).1⟩) hx
          refine nm_e (br_t (by decide) ?_)
          have e : sv = nI (sr_sc W M P 8) := by rw [hsv, ← hf.2, nI_pred]
          rw [e]
          exact kk pl tr gn P hf.1 (hpl (by omega))
        | succ t =>
          refine nm_r (pk_m1 t) (ih f t (f t + 1) v P sv pl tr gn ?_ (xs_Id hI) (sr_BSi hB' (fun Q hQ => sr_out (hQ (t + 1) ht).1)) hsv hpl (Or.inl ⟨by omega, ?_, ?_⟩))
          · have h1 := (hI.2.1 t (by omega)).1
            have h2 := xs_mo (M := M) (t := t) hk4
            have := sr_mu_out (f := f) (t := t) (c := c) (by omega) (by omega)
            omega
          · rw [hI.1 t (by omega), nI_1]
          · exact (hI.2.1 t (by omega)).1
      · have h4' := xs_mo (M := M) (t := t) hk4
        have hmu := sr_mu_in (f := f) (g := xs_g f t c') (t := t) (c := c) (c' := c') (fun u hu => xs_gu hu) xs_gt h1 (by omega) ht
        have hI' := xs_I1 hI h2 h3
        have hB' : sr_BS K W k M (sr_Dn (xs_g f t c') (t + 1) 0) v P := sr_BSi h4 (fun Q _ => sr_in (fun u hu => (xs_gu hu).symm) xs_gt Q)
        refine pk_le 8 (t + 1) (fun z => ?_) (fun z => ⟨vp_in_nI (by omega) (by decide), ?_⟩)
        · have et : t = 7 := by omega
          subst et
          have hmu' : sr_mu (xs_g f 7 c') 8 0 < sr_mu f 7 c := hmu
          exact ih _ 8 0 v P sv pl _ _ (by omega) hI' hB' hsv hpl (Or.inr ⟨rfl, rfl, by rw [xs_ps8, Nat.add_zero] at h5; exact h5⟩)
        · rw [nI_clamp (by omega)]
          refine nm_r (by rw [cd_vbm1]) (ih _ (t + 1) 0 v P sv pl _ _ (by omega) (xs_Iu hI') hB' hsv hpl (Or.inl ⟨by omega, ?_, Nat.zero_le _⟩))
          rw [cd_us]
          rfl
    · subst ht
      subst hc0
      have hfa : sr_VA K k M f := fun t ht => hI.2.1 t ht
      refine br_f (by decide) (br_t rfl (xs_keep (P := f) hM (fun t ht _ => ⟨hI.1 t ht, ?_⟩) (hI.2.2 8 (Nat.le_refl _)) (fun pl' hpl' => nm_r (e' := nI 7) (by decide) ?_)))
      · have h1 := (hI.2.1 t ht).1
        have h2 := xs_mo (M := M) (t := t) hk4
        omega
      · refine ih f 7 (f 7 + 1) (sr_sc W M f 8 + 1) f _ pl' tr gn ?_ (xs_Id hI) (sr_BSk hB hfa hvs) (by rw [nI_pred]) (fun _ => hpl') (Or.inl ⟨by omega, ?_, (hI.2.1 7 (by omega)).1⟩)
        · have h1 := (hI.2.1 7 (by omega)).1
          have h2 := xs_mo (M := M) (t := 7) hk4
          have : sr_mu f 7 (f 7 + 1) < sr_mu f 8 0 := sr_mu_out (f := f) (t := 7) (c := 0) (by omega) (by omega)
          omega
        · rw [hI.1 7 (by omega), nI_1]
theorem xs_search (hk4 : k ≤ 4) (hk : f_k = nI k) (hM : f_inMemory = nI M) (hcl : ∀ t, t < 8 → cd_R (a_clash t) (fun u => K t u = true)) (hmv : me_M a_moves W) (hW : cd_sg (fun v => cd_sg (W v) v) 8 ≤ 20) (hx : ∃ Q, sr_VA K k M Q)
    (kk : ∀ pl tr gn ps P, sr_BA K W k M P → xs_P M P pl → post (f_count, f_k, f_inputCount, f_known, f_selfMoves, f_allMoves, f_allocated, f_inMemory, f_memoryCost, nI (sr_sc W M P 8), f_outputCount, f_done, f_took, f_taken, a_op, a_opD, a_opA, a_opB, a_inputs, a_before, a_behind, a_ways, a_clash, a_costs, a_needs, a_moves, pl, tr, gn, ps, a_register, a_memory, a_outputs)) : (wpX_search post (f_count, f_k, f_inputCount, f_known, f_selfMoves, f_allMoves, f_allocated, f_inMemory, f_memoryCost, f_saved, f_outputCount, f_done, f_took, f_taken, a_op, a_opD, a_opA, a_opB, a_inputs, a_before, a_behind, a_ways, a_clash, a_costs, a_needs, a_moves, a_place, a_tried, a_gained, a_possible, a_register, a_memory, a_outputs)) := by
  refine xs_bounds hM hcl hmv hW (fun ps hps => nm_r (e' := upd a_tried 0 (-1)) (by rw [cd_vbm1]) (nm_r (e' := upd a_gained 0 0) (by rw [cd_vb0]) ⟨sr_mu (fun _ => 0) 0 0 + 2, ?_⟩))
  refine xs_25 hk4 hk hM hcl hmv hW hps hx (fun pl tr gn P h1 h2 => kk pl tr gn ps P h1 h2) _ (fun _ => 0) 0 0 0 (fun _ => 0) (-1) a_place _ _ (by omega) ⟨fun s hs => absurd hs (by omega), fun s hs => absurd hs (by omega), fun s hs => ?_⟩ ⟨fun Q hQ hD => ?_, Or.inl rfl⟩ (by decide) (fun h => absurd h (by omega)) (Or.inl ⟨by omega, ?_, Nat.zero_le _⟩)
  · have e : s = 0 := by omega
    rw [e, cd_us]
    rfl
  · rcases hD with ⟨s, hs, _⟩ | ⟨_, hs⟩
    · omega
    · omega
  · rw [cd_us]
    rfl
end
end
section
/-! MOVEs counted by pairs and by instructions -/
theorem ms_01 {b : Bool} (h : b = false) : cd_01 b = 0 := by rw [h]; rfl
theorem ms_i {c : cd_T} {i : Nat} (h : cd_o c i = 5 → cd_d c i < 8 ∧ cd_a c i < 8) (C : Nat → Nat → Bool) (hs : ∀ v u, C v u = C u v) : cd_sg (fun v => cd_sg (fun u => if C v u = true then cd_mv1 c v u i else 0) v) 8 = cd_01 (decide (cd_o c i = 5 ∧ cd_d c i ≠ cd_a c i) && C (cd_d c i) (cd_a c i)) := by
  have key : ∀ a b, b < a → a < 8 → cd_o c i = 5 → ((cd_d c i = a ∧ cd_a c i = b) ∨ (cd_d c i = b ∧ cd_a c i = a)) → cd_sg (fun v => cd_sg (fun u => if C v u = true then cd_mv1 c v u i else 0) v) 8 = cd_01 (C a b) := by
    intro a b hb ha h5 hab
    rw [cd_sg1 (k := a) ha (fun v _ hv => cd_sgz (fun u hu => by
      have z : cd_mv1 c v u i = 0 := ms_01 (decide_eq_false (by omega))
      rw [z]
      split <;> rfl))]
    show cd_sg (fun u => if C a u = true then cd_mv1 c a u i else 0) a = _
    rw [cd_sg1 (k := b) hb (fun u _ hu => by
      have z : cd_mv1 c a u i = 0 := ms_01 (decide_eq_false (by omega))
      show (if C a u = true then cd_mv1 c a u i else 0) = 0
      rw [z]
      split <;> rfl)]
    show (if C a b = true then cd_mv1 c a b i else 0) = _
    have z : cd_mv1 c a b i = 1 := by
      unfold cd_mv1
      rw [decide_eq_true (by omega)]
      rfl
    rw [z]
    cases C a b <;> rfl
  by_cases h5 : cd_o c i = 5
  · have h8 := h h5
    rcases Nat.lt_trichotomy (cd_d c i) (cd_a c i) with z | z | z
    · rw [key (cd_a c i) (cd_d c i) z h8.2 h5 (Or.inr ⟨rfl, rfl⟩), hs, decide_eq_true (show cd_o c i = 5 ∧ cd_d c i ≠ cd_a c i from ⟨h5, by omega⟩), Bool.true_and]
    · rw [decide_eq_false (show ¬ (cd_o c i = 5 ∧ cd_d c i ≠ cd_a c i) by omega), Bool.false_and]
      refine cd_sgz (fun v _ => cd_sgz (fun u _ => ?_))
      have z : cd_mv1 c v u i = 0 := ms_01 (decide_eq_false (by omega))
      rw [z]
      split <;> rfl
    · rw [key (cd_d c i) (cd_a c i) z h8.1 h5 (Or.inl ⟨rfl, rfl⟩), decide_eq_true (show cd_o c i = 5 ∧ cd_d c i ≠ cd_a c i from ⟨h5, by omega⟩), Bool.true_and]
  · rw [decide_eq_false (show ¬ (cd_o c i = 5 ∧ cd_d c i ≠ cd_a c i) by omega), Bool.false_and]
    refine cd_sgz (fun v _ => cd_sgz (fun u _ => ?_))
    have z : cd_mv1 c v u i = 0 := ms_01 (decide_eq_false (by omega))
    rw [z]
    split <;> rfl
theorem ms_sum {c : cd_T} (h : ∀ i, i < cd_n c → cd_o c i = 5 → cd_d c i < 8 ∧ cd_a c i < 8) (C : Nat → Nat → Bool) (hs : ∀ v u, C v u = C u v) : cd_sg (fun v => cd_sg (fun u => if C v u = true then cd_mv c v u else 0) v) 8 = cd_sg (fun i => cd_01 (decide (cd_o c i = 5 ∧ cd_d c i ≠ cd_a c i) && C (cd_d c i) (cd_a c i))) (cd_n c) := by
  have e1 : cd_sg (fun v => cd_sg (fun u => if C v u = true then cd_mv c v u else 0) v) 8 = cd_sg (fun v => cd_sg (fun i => cd_sg (fun u => if C v u = true then cd_mv1 c v u i else 0) v) (cd_n c)) 8 := by
    refine cd_sgc (fun v _ => ?_)
    rw [cd_sgx (fun i u => if C v u = true then cd_mv1 c v u i else 0)]
    refine cd_sgc (fun u _ => ?_)
    cases hC : C v u
    · rw [if_neg (by decide)]
      exact (cd_sgz (fun i _ => if_neg (by decide))).symm
    · rw [if_pos rfl]
      exact cd_sgc (fun i _ => (if_pos rfl).symm)
  rw [e1, cd_sgx (fun v i => cd_sg (fun u => if C v u = true then cd_mv1 c v u i else 0) v)]
  exact cd_sgc (fun i hi => ms_i (h i hi) C hs)
theorem ms_ok {c : cd_T} {m : Int32} {op oD oA oB : Nat → Int32} (hc : cd_Is c m op oD oA oB) : ∀ i, i < cd_n c → cd_o c i = 5 → cd_d c i < 8 ∧ cd_a c i < 8 := by
  intro i hi h5
  have h1 := hc.2.2 i hi
  exact ⟨(h1.2.2.1 (cd_dft (by omega))).2, (h1.2.2.2.1 (cd_uat (by omega))).2⟩
theorem ms_W {c : cd_T} {m : Int32} {op oD oA oB : Nat → Int32} (hc : cd_Is c m op oD oA oB) : cd_sg (fun v => cd_sg (cd_mv c v) v) 8 ≤ 20 := by
  have h := ms_sum (ms_ok hc) (fun _ _ => true) (fun _ _ => rfl)
  have e : cd_sg (fun v => cd_sg (fun u => if true = true then cd_mv c v u else 0) v) 8 = cd_sg (fun v => cd_sg (cd_mv c v) v) 8 := cd_sgc (fun v _ => cd_sgc (fun u _ => if_pos rfl))
  have e2 : cd_sg (fun v => cd_sg (cd_mv c v) v) 8 = cd_sg (fun i => cd_01 (decide (cd_o c i = 5 ∧ cd_d c i ≠ cd_a c i) && true)) (cd_n c) := e.symm.trans h
  have h2 := cd_sgk (fun i => cd_01 (decide (cd_o c i = 5 ∧ cd_d c i ≠ cd_a c i) && true)) 1 (cd_n c) (fun i _ => cd_01l _)
  have h3 := hc.2.1
  omega
/-- a MOVE that is saved -/
def ms_sv (c : cd_T) (M : Nat) (f : Nat → Nat) (i : Nat) : Bool := decide (cd_o c i = 5 ∧ (cd_d c i = cd_a c i ∨ (M.testBit (cd_d c i) = false ∧ M.testBit (cd_a c i) = false ∧ f (cd_d c i) = f (cd_a c i))))
theorem ms_score {c : cd_T} (h : ∀ i, i < cd_n c → cd_o c i = 5 → cd_d c i < 8 ∧ cd_a c i < 8) (M : Nat) (f : Nat → Nat) : cd_sg (fun i => cd_01 (ms_sv c M f i)) (cd_n c) = cd_sf c (cd_n c) + sr_sc (cd_mv c) M f 8 := by
  have h1 := ms_sum h (fun v u => decide (M.testBit v = false ∧ M.testBit u = false ∧ f u = f v)) (fun v u => by
    rw [decide_eq_decide]
    exact ⟨fun z => ⟨z.2.1, z.1, z.2.2.symm⟩, fun z => ⟨z.2.1, z.1, z.2.2.symm⟩⟩)
  have e : sr_sc (cd_mv c) M f 8 = cd_sg (fun v => cd_sg (fun u => if decide (M.testBit v = false ∧ M.testBit u = false ∧ f u = f v) = true then cd_mv c v u else 0) v) 8 := by
    refine cd_sgc (fun v _ => cd_sgc (fun u _ => ?_))
    unfold sr_g1
    by_cases z : M.testBit v = false ∧ M.testBit u = false ∧ f u = f v
    · rw [if_pos z, if_pos (decide_eq_true z)]
    · rw [if_neg z, if_neg (by rw [decide_eq_false z]; decide)]
  rw [e, h1]
  unfold cd_sf
  rw [← cd_sga]
  refine cd_sgc (fun i _ => ?_)
  unfold ms_sv
  by_cases h5 : cd_o c i = 5
  · by_cases z : cd_d c i = cd_a c i
    · rw [decide_eq_true (⟨h5, Or.inl z⟩), decide_eq_true (⟨h5, z⟩ : cd_o c i = 5 ∧ cd_d c i = cd_a c i), decide_eq_false (show ¬ (cd_o c i = 5 ∧ cd_d c i ≠ cd_a c i) by omega)]
      rfl
    · rw [decide_eq_false (show ¬ (cd_o c i = 5 ∧ cd_d c i = cd_a c i) by omega), decide_eq_true (show cd_o c i = 5 ∧ cd_d c i ≠ cd_a c i from ⟨h5, z⟩), Bool.true_and]
      rw [show cd_01 false = 0 from rfl, Nat.zero_add]
      congr 1
      rw [decide_eq_decide]
      constructor
      · rintro ⟨_, y | y⟩
        · exact absurd y z
        · exact ⟨y.1, y.2.1, y.2.2.symm⟩
      · exact fun y => ⟨h5, Or.inr ⟨y.1, y.2.1, y.2.2.symm⟩⟩
  · rw [decide_eq_false (fun y => h5 y.1), decide_eq_false (show ¬ (cd_o c i = 5 ∧ cd_d c i = cd_a c i) by omega), decide_eq_false (show ¬ (cd_o c i = 5 ∧ cd_d c i ≠ cd_a c i) by omega)]
    rfl
theorem cd_cstl {c : cd_T} (hn : cd_n c ≤ 20) (t : Nat) : cd_cost c t ≤ 600 := by
  have h := cd_ctl c t (cd_n c)
  have : cd_n c * 30 ≤ 20 * 30 := Nat.mul_le_mul_right _ hn
  unfold cd_cost
  omega
theorem cd_csl {c : cd_T} (hn : cd_n c ≤ 20) (s : Nat) {t : Nat} (ht : t ≤ 8) : cd_sg (cd_cs1 c s) t ≤ 4800 := by
  have h1 : cd_sg (cd_cs1 c s) 8 ≤ 8 * 600 := cd_sgk _ 600 8 (fun t _ => by
    have := cd_cstl hn t
    unfold cd_cs1
    split <;> omega)
  have h2 := cd_sg_mono (f := cd_cs1 c s) ht
  omega
/-! X: the set in memory -/
def xa_R (v M : Nat) (im mc : Int32) : Prop := (v = 0 ∧ mc = -1) ∨ (0 < v ∧ v ≤ 4801 ∧ mc = nI (v - 1) ∧ im = nI M)
/-- what X's best allocation is -/
def cd_XA (c : cd_T) (k : Nat) (im mc sv : Int32) (pl : Nat → Int32) : Prop := ∃ M P, cd_MB c k M ∧ sr_BA (cd_K c) (cd_mv c) k M P ∧ im = nI M ∧ mc = nI (cd_cs c M) ∧ sv = nI (sr_sc (cd_mv c) M P 8) ∧ xs_P M P pl
section
variable {f_count f_k f_inputCount f_known f_selfMoves f_allMoves f_allocated f_inMemory f_memoryCost f_saved f_outputCount f_done f_took f_taken : Int32} {a_op a_opD a_opA a_opB a_inputs a_before a_behind a_ways a_clash a_costs a_needs a_moves a_place a_tried a_gained a_possible a_register a_memory a_outputs : Nat → Int32} {c : cd_T} {post : SX → Prop} {k : Nat}
theorem xa_57 {J24 : Int32 → Int32 → Int32 → Prop} (hn : cd_n c ≤ 20) (hco : ∀ t, t < 8 → a_costs t = nI (cd_cost c t)) {s v M : Nat} (hs : s < 256) (hR : xa_R v M f_inMemory f_memoryCost) (hS : cd_MS c k s v M) (hp : cd_Pk c k s)
    (kk : ∀ v' M' im mc, xa_R v' M' im mc → cd_MS c k (s + 1) v' M' → J24 (nI (s + 1)) im mc) :
    ∀ d j x2, j + d = 8 → x2 = nI (cd_sg (cd_cs1 c s) j) → (wX_allocate_57 post J24 (nI s) f_count f_k f_inputCount f_known f_selfMoves f_allMoves f_allocated f_inMemory f_memoryCost f_saved f_outputCount f_done f_took f_taken a_op a_opD a_opA a_opB a_inputs a_before a_behind a_ways a_clash a_costs a_needs a_moves a_place a_tried a_gained a_possible a_register a_memory a_outputs (d + 1) x2 (nI j)) := by
  intro d
  induction d with
  | zero =>
    intro j x2 hj hx
    have ej : j = 8 := by omega
    subst ej
    have hl := cd_csl (c := c) hn s (Nat.le_refl 8)
    have hx' : x2 = nI (cd_cs c s) := hx
    have hl' : cd_cs c s ≤ 4800 := hl
    subst hx'
    refine br_t (by decide) ?_
    rcases hR with ⟨r1, r2⟩ | ⟨r1, r2, r3, r4⟩
    · subst r2
      refine br_t (by decide) (nm_r (nI_1 s) (kk (cd_cs c s + 1) s _ _ (Or.inr ⟨by omega, by omega, rfl, rfl⟩) (cd_MSlt hS hp (Or.inl r1))))
    · subst r3 r4
      refine br_f (nI_pos (by omega)) (pk_lt (cd_cs c s) (v - 1) (fun z => nm_r (nI_1 s) (kk (cd_cs c s + 1) s _ _ (Or.inr ⟨by omega, by omega, rfl, rfl⟩) (cd_MSlt hS hp (Or.inr (by omega))))) (fun z => nm_r (nI_1 s) (kk v M _ _ (Or.inr ⟨r1, r2, rfl, rfl⟩) (cd_MSge hS r1 (by omega)))))
  | succ d ih =>
    intro j x2 hj hx
    refine br_f (nI_ge (b := 8) (by omega) (by decide)) (cd_r0 (cd_Rn (s := s)) (by omega) (fun hb => nm_r (nI_1 j) (ih (j + 1) x2 (by omega) ?_)) (fun hb => ⟨vp_in_nI (by omega) (by decide), nm_e (nm_r (nI_1 j) (ih (j + 1) _ (by omega) ?_))⟩))
    · rw [hx, cd_sgs]
      unfold cd_cs1
      rw [if_neg hb]
      rfl
    · rw [nI_clamp (by omega), hco j (by omega), hx, nI_add, cd_sgs]
      congr 2
      unfold cd_cs1
      rw [if_pos hb]
theorem xa_24 (hn : cd_n c ≤ 20) (hk4 : k ≤ 4) (hk : f_k = nI k) (hco : ∀ t, t < 8 → a_costs t = nI (cd_cost c t)) (hnd : ∀ s, s < 256 → ∃ m, m ≤ 8 ∧ a_needs s = nI m ∧ co_Nd (cd_K c) s m)
    (hcl : ∀ t, t < 8 → cd_R (a_clash t) (fun u => cd_K c t u = true)) (hmv : me_M a_moves (cd_mv c)) (hW : cd_sg (fun v => cd_sg (cd_mv c v) v) 8 ≤ 20)
    (kk : ∀ im mc sv pl tr gn ps, cd_XA c k im mc sv pl → post (f_count, f_k, f_inputCount, f_known, f_selfMoves, f_allMoves, f_allocated, im, mc, sv, f_outputCount, f_done, f_took, f_taken, a_op, a_opD, a_opA, a_opB, a_inputs, a_before, a_behind, a_ways, a_clash, a_costs, a_needs, a_moves, pl, tr, gn, ps, a_register, a_memory, a_outputs)) :
    ∀ d s v M im mc, s + d = 256 → xa_R v M im mc → cd_MS c k s v M → (wX_allocate_24 post f_count f_k f_inputCount f_known f_selfMoves f_allMoves f_allocated f_saved f_outputCount f_done f_took f_taken a_op a_opD a_opA a_opB a_inputs a_before a_behind a_ways a_clash a_costs a_needs a_moves a_place a_tried a_gained a_possible a_register a_memory a_outputs (d + 1) (nI s) im mc) := by
  intro d
  induction d with
  | zero =>
    intro s v M im mc hs hR hS
    have es : s = 256 := by omega
    subst es
    have he := cd_MSe hS
    rcases hR with ⟨r1, r2⟩ | ⟨r1, r2, r3, r4⟩
    · omega
    · refine br_t (by decide) (xs_search hk4 hk r4 hcl hmv hW ((co_VA (cd_Ks c)).mpr he.1.2.1) (fun pl tr gn ps P h1 h2 => kk im mc _ pl tr gn ps ⟨M, P, he.1, h1, r4, ?_, rfl, h2⟩))
      rw [r3, he.2]
      rfl
  | succ d ih =>
    intro s v M im mc hs hR hS
    have hs2 : s < 256 := by omega
    refine br_f (nI_ge (b := 256) hs2 (by decide)) ?_
    rw [co_cmp s hs2]
    have hl := co_cml hs2
    refine ⟨vp_in_nI hl (by decide), ?_⟩
    obtain ⟨m, hm, hm', hN⟩ := hnd (255 ^^^ s) hl
    rw [nI_clamp (by omega), hm']
    refine pk_le m k (fun z => ⟨9, ?_⟩) (fun z => nm_r (nI_1 s) (ih (s + 1) v M im mc (by omega) hR (cd_MSno hS (fun hp => ?_)))) rfl hk
    · exact xa_57 hn hco hs2 hR hS ((hN k).mpr z) (fun v' M' im' mc' h1 h2 => ih (s + 1) v' M' im' mc' (by omega) h1 h2) 8 0 0 (by omega) rfl
    · have := (hN k).mp hp
      omega
theorem xa_alloc (hc : cd_Is c f_count a_op a_opD a_opA a_opB) (hk4 : k ≤ 4) (hfk : f_k = nI k) (hk : f_known = 0 ∨ (f_known = 1 ∧ cd_XK c f_selfMoves f_allMoves a_before a_behind a_clash a_costs a_needs a_moves))
    (ha : f_allocated = 0 ∨ (f_allocated = 1 ∧ f_known = 1 ∧ cd_XA c k f_inMemory f_memoryCost f_saved a_place))
    (kk : ∀ sm am bf bh wy cl co nd mv im mc sv pl tr gn ps, cd_XK c sm am bf bh cl co nd mv → cd_XA c k im mc sv pl →
      post (f_count, f_k, f_inputCount, 1, sm, am, 1, im, mc, sv, f_outputCount, f_done, f_took, f_taken, a_op, a_opD, a_opA, a_opB, a_inputs, bf, bh, wy, cl, co, nd, mv, pl, tr, gn, ps, a_register, a_memory, a_outputs)) : (wpX_allocate post (f_count, f_k, f_inputCount, f_known, f_selfMoves, f_allMoves, f_allocated, f_inMemory, f_memoryCost, f_saved, f_outputCount, f_done, f_took, f_taken, a_op, a_opD, a_opA, a_opB, a_inputs, a_before, a_behind, a_ways, a_clash, a_costs, a_needs, a_moves, a_place, a_tried, a_gained, a_possible, a_register, a_memory, a_outputs)) := by
  rcases ha with ha | ⟨ha, hkn, hA⟩
  · refine br_t ha (xk_know hc hk (fun sm am bf bh wy cl co nd mv hK => ⟨257, ?_⟩))
    exact xa_24 hc.2.1 hk4 hfk hK.2.2.2.1 hK.2.2.2.2.1 hK.2.2.1 hK.2.2.2.2.2.1 (ms_W hc) (fun im mc sv pl tr gn ps hA => kk sm am bf bh wy cl co nd mv im mc sv pl tr gn ps hK hA) 256 0 0 0 _ _ (by omega) (Or.inl ⟨rfl, rfl⟩) (cd_MS0 c k 0)
  · rcases hk with z | ⟨_, hK⟩
    · rw [z] at hkn
      exact absurd hkn (by decide)
    · subst ha hkn
      exact br_f cd_10 (kk _ _ _ _ _ _ _ _ _ _ _ _ _ _ _ _ hK hA)
end
end
section
/-! Y: the small methods -/
theorem yy_inN {post : Int32 → Prop} {o lo hi : Nat} {l h : Int32} (ho : o < 2 ^ 31) (el : l = nI lo) (eh : h = nI hi) (hl : lo < 2 ^ 31) (hh : hi < 2 ^ 31) (h1 : (lo ≤ o ∧ o ≤ hi) → post 1) (h0 : ¬ (lo ≤ o ∧ o ≤ hi) → post 0) : wpY_in post (nI o) l h := by
  subst el eh
  exact pk_lt o lo (fun z => h0 (by omega)) (fun z => pk_lt hi o (fun y => h0 (by omega)) (fun y => h1 ⟨z, y⟩))
theorem yy_df {post : Int32 → Prop} {o : Nat} (ho : o < 11) (h1 : cd_df o = true → post 1) (h0 : cd_df o = false → post 0) : wpY_defines post (nI o) :=
  pk_le o 5 (fun z => h1 (cd_dft (by omega))) (fun z => pk_eq o 9 (fun y => h1 (cd_dft (Or.inr y))) (fun y => h0 (cd_dff (by omega))))
theorem yy_ua {post : Int32 → Prop} {o : Nat} (ho : o < 11) (h1 : cd_ua o = true → post 1) (h0 : cd_ua o = false → post 0) : wpY_usesA post (nI o) :=
  yy_inN (lo := 1) (hi := 5) (by omega) rfl rfl (by decide) (by decide) (fun z => br_f cd_10 (h1 (cd_uat (by omega)))) (fun z => br_t rfl (pk_eq o 7 (fun y => h1 (cd_uat (by omega))) (fun y => pk_eq o 8 (fun x => h1 (cd_uat (by omega))) (fun x => h0 (cd_uaf (by omega))))))
theorem yy_ub {post : Int32 → Prop} {o : Nat} (ho : o < 11) (h1 : cd_ub o = true → post 1) (h0 : cd_ub o = false → post 0) : wpY_usesB post (nI o) :=
  yy_inN (lo := 1) (hi := 4) (by omega) rfl rfl (by decide) (by decide) (fun z => ⟨rfl, h1 (cd_ubt (by omega))⟩) (fun z => ⟨rfl, h0 (cd_ubf (by omega))⟩)
section
variable {f_n f_k f_known f_placed f_memory f_saved f_waiting f_forward : Int32} {a_ops a_ds a_as a_bs a_before a_ways a_clash a_costs a_best a_trial a_inputs a_outputs a_cells a_spent : Nat → Int32} {c : cd_T} {post : Int32 → Prop} {i : Nat}
theorem yy_end (hc : cd_Is c f_n a_ops a_ds a_as a_bs) {p : Nat} (hp : p < 2 ^ 31) (k : post (nI (cd_en c p))) : (wpY_end post (f_n, f_k, f_known, f_placed, f_memory, f_saved, f_waiting, f_forward, a_ops, a_ds, a_as, a_bs, a_before, a_ways, a_clash, a_costs, a_best, a_trial, a_inputs, a_outputs, a_cells, a_spent) (nI p)) := by
  have hn := hc.2.1
  refine pk_le (cd_n c) p (fun z => ?_) (fun z => ?_) hc.1
  · rw [hc.1]
    unfold cd_en at k
    rw [if_pos z] at k
    exact k
  · unfold cd_en at k
    rw [if_neg (by omega)] at k
    exact k
theorem yy_l51 (hi : i < 20) {j o : Nat} (hj : j < 20) (ho : o < 11) (k1 : (o ≠ 6 ∧ o ≠ 10 ∧ j = i + 1) → post 1) (k0 : ¬ (o ≠ 6 ∧ o ≠ 10 ∧ j = i + 1) → post 0) : (wY_leads_51 post (nI i) (nI j) (nI o) f_n f_k f_known f_placed f_memory f_saved f_waiting f_forward a_ops a_ds a_as a_bs a_before a_ways a_clash a_costs a_best a_trial a_inputs a_outputs a_cells a_spent) := by
  refine br_t rfl (pk_eq o 6 (fun y => k0 (by omega)) (fun y => pk_eq o 10 (fun x => k0 (by omega)) (fun x => ?_)))
  rw [nI_1]
  exact pk_eq j (i + 1) (fun w => k1 ⟨y, x, w⟩) (fun w => k0 (by omega))
theorem yy_l27 (hc : cd_Is c f_n a_ops a_ds a_as a_bs) (hi : i < cd_n c) {j : Nat} (hj : j < cd_n c) (k1 : ((cd_o c i = 7 ∧ cd_b c i = j) ∨ (cd_o c i ≠ 6 ∧ cd_o c i ≠ 10 ∧ j = i + 1)) → post 1) (k0 : ¬ ((cd_o c i = 7 ∧ cd_b c i = j) ∨ (cd_o c i ≠ 6 ∧ cd_o c i ≠ 10 ∧ j = i + 1)) → post 0) : (wY_leads_27 post (nI i) (nI j) (nI (cd_o c i)) f_n f_k f_known f_placed f_memory f_saved f_waiting f_forward a_ops a_ds a_as a_bs a_before a_ways a_clash a_costs a_best a_trial a_inputs a_outputs a_cells a_spent) := by
  have hn := hc.2.1
  have h1 := hc.2.2 i hi
  have hv : vp_in (nI i) 20 := vp_in_nI (by omega) (by decide)
  have e : (nI i).toNatClampNeg = i := nI_clamp (by omega)
  have ho := h1.2.1
  refine pk_eq (cd_o c i) 7 (fun y => ⟨hv, ?_⟩) (fun y => ?_)
  · have hb := h1.2.2.2.2.2.2.1 y
    rw [e, hb.1]
    refine yy_end hc (by omega) ?_
    have hen := cd_enl hn (cd_b c i)
    have hej := cd_enj (c := c) (p := cd_b c i) hj
    refine pk_eq (cd_en c (cd_b c i)) j (fun z => ?_) (fun z => ?_)
    · exact br_f cd_10 (k1 (Or.inl ⟨y, hej.mp z.symm⟩))
    · exact yy_l51 (by omega) (by omega) ho (fun w => k1 (Or.inr w)) (fun w => k0 (fun x => x.elim (fun x => z (hej.mpr x.2).symm) w))
  · exact yy_l51 (by omega) (by omega) ho (fun w => k1 (Or.inr w)) (fun w => k0 (fun x => x.elim (fun x => y x.1) w))
theorem yy_leads (hc : cd_Is c f_n a_ops a_ds a_as a_bs) (hi : i < cd_n c) {j : Nat} (hj : j < cd_n c) (k1 : cd_suc c i j = true → post 1) (k0 : ¬ cd_suc c i j = true → post 0) : (wpY_leads post (f_n, f_k, f_known, f_placed, f_memory, f_saved, f_waiting, f_forward, a_ops, a_ds, a_as, a_bs, a_before, a_ways, a_clash, a_costs, a_best, a_trial, a_inputs, a_outputs, a_cells, a_spent) (nI i) (nI j)) := by
  have hn := hc.2.1
  have h1 := hc.2.2 i hi
  have hv : vp_in (nI i) 20 := vp_in_nI (by omega) (by decide)
  have e : (nI i).toNatClampNeg = i := nI_clamp (by omega)
  have ho := h1.2.1
  have ea : a_ops (nI i).toNatClampNeg = nI (cd_o c i) := by rw [e]; exact h1.1
  rw [cd_suci] at k1 k0
  refine ⟨hv, nm_r ea (pk_eq (cd_o c i) 6 (fun y => ⟨hv, ?_⟩) (fun y => ?_))⟩
  · have hb := h1.2.2.2.2.2.1 y
    rw [e, hb.1]
    refine yy_end hc (by omega) ?_
    have hen := cd_enl hn (cd_a c i)
    have hej := cd_enj (c := c) (p := cd_a c i) hj
    refine pk_eq (cd_en c (cd_a c i)) j (fun z => ?_) (fun z => ?_)
    · exact br_f cd_10 (k1 (Or.inl ⟨y, hej.mp z.symm⟩))
    · exact yy_l27 hc hi hj (fun w => k1 (Or.inr w)) (fun w => k0 (fun x => x.elim (fun x => z (hej.mpr x.2).symm) w))
  · exact yy_l27 hc hi hj (fun w => k1 (Or.inr w)) (fun w => k0 (fun x => x.elim (fun x => y x.1) w))
theorem yy_used (hc : cd_Is c f_n a_ops a_ds a_as a_bs) (hi : i < cd_n c) (k : ∀ r, cd_R r (cd_use c i) → post r) : (wpY_used post (f_n, f_k, f_known, f_placed, f_memory, f_saved, f_waiting, f_forward, a_ops, a_ds, a_as, a_bs, a_before, a_ways, a_clash, a_costs, a_best, a_trial, a_inputs, a_outputs, a_cells, a_spent) (nI i)) := by
  have hn := hc.2.1
  have h1 := hc.2.2 i hi
  have hv : vp_in (nI i) 20 := vp_in_nI (by omega) (by decide)
  have e : (nI i).toNatClampNeg = i := nI_clamp (by omega)
  have ea : a_ops (nI i).toNatClampNeg = nI (cd_o c i) := by rw [e]; exact h1.1
  refine ⟨hv, nm_r ea (yy_ua h1.2.1 (fun ua => br_f cd_10 ⟨hv, ?_⟩) (fun ua => br_t rfl ?_))⟩
  · rw [e]
    refine yy_ub h1.2.1 (fun ub => br_f cd_10 ⟨hv, k _ ?_⟩) (fun ub => br_t rfl (k _ ?_))
    · have ha := h1.2.2.2.1 ua
      have hb := h1.2.2.2.2.1 ub
      rw [e, ha.1, hb.1]
      refine cd_Rc (cd_Ror (cd_Rsh (by omega)) (cd_Rsh (by omega))) (fun t _ => ?_)
      simp only [cd_use, ua, ub, true_and]
      omega
    · have ha := h1.2.2.2.1 ua
      rw [ha.1]
      refine cd_Rc (cd_Ror (cd_Rsh (by omega)) cd_R0) (fun t _ => ?_)
      simp only [cd_use, ua, ub, true_and, Bool.false_eq_true, false_and, or_false]
      omega
  · refine yy_ub h1.2.1 (fun ub => br_f cd_10 ⟨hv, k _ ?_⟩) (fun ub => br_t rfl (k _ ?_))
    · have hb := h1.2.2.2.2.1 ub
      rw [e, hb.1]
      refine cd_Rc (cd_Ror cd_R0 (cd_Rsh (by omega))) (fun t _ => ?_)
      simp only [cd_use, ua, ub, true_and, Bool.false_eq_true, false_and, false_or]
      omega
    · refine cd_Rc (cd_Ror cd_R0 cd_R0) (fun t _ => ?_)
      simp only [cd_use, ua, ub, Bool.false_eq_true, false_and, false_or]
theorem yy_def (hc : cd_Is c f_n a_ops a_ds a_as a_bs) (hi : i < cd_n c) (k : ∀ r, cd_R r (cd_def c i) → post r) : (wpY_defined post (f_n, f_k, f_known, f_placed, f_memory, f_saved, f_waiting, f_forward, a_ops, a_ds, a_as, a_bs, a_before, a_ways, a_clash, a_costs, a_best, a_trial, a_inputs, a_outputs, a_cells, a_spent) (nI i)) := by
  have hn := hc.2.1
  have h1 := hc.2.2 i hi
  have hv : vp_in (nI i) 20 := vp_in_nI (by omega) (by decide)
  have e : (nI i).toNatClampNeg = i := nI_clamp (by omega)
  have ea : a_ops (nI i).toNatClampNeg = nI (cd_o c i) := by rw [e]; exact h1.1
  simp only [wpY_defined, ea]
  simp only [e]
  refine ⟨hv, yy_df h1.2.1 (fun ua => br_f cd_10 ⟨hv, k _ ?_⟩) (fun ua => br_t rfl (k _ ?_))⟩
  · have ha := h1.2.2.1 ua
    rw [ha.1]
    refine cd_Rc (cd_Rsh (by omega)) (fun t _ => ?_)
    simp only [cd_def, ua, true_and]
    omega
  · refine cd_Rc cd_R0 (fun t _ => ?_)
    simp only [cd_def, ua, Bool.false_eq_true, false_and]
theorem yy_behind (hc : cd_Is c f_n a_ops a_ds a_as a_bs) (hi : i < cd_n c) (k : ∀ r, cd_R r (cd_bh c (li_F a_before) i) → post r) : (wpY_behind post (f_n, f_k, f_known, f_placed, f_memory, f_saved, f_waiting, f_forward, a_ops, a_ds, a_as, a_bs, a_before, a_ways, a_clash, a_costs, a_best, a_trial, a_inputs, a_outputs, a_cells, a_spent) (nI i)) := by
  have hn := hc.2.1
  have main : ∀ d j x2, j + d = cd_n c → cd_R x2 (fun t => ∃ j', j' < j ∧ cd_suc c i j' = true ∧ li_F a_before j' t) → (wY_behind_4 post (nI i) f_n f_k f_known f_placed f_memory f_saved f_waiting f_forward a_ops a_ds a_as a_bs a_before a_ways a_clash a_costs a_best a_trial a_inputs a_outputs a_cells a_spent (d + 1) x2 (nI j)) := by
    intro d
    induction d with
    | zero =>
      intro j x2 hj h
      have ej : j = cd_n c := by omega
      subst ej
      exact pk_le (cd_n c) (cd_n c) (fun _ => k x2 h) (fun z => absurd z (by omega)) hc.1
    | succ d ih =>
      intro j x2 hj h
      have hjn : j < cd_n c := by omega
      refine pk_le (cd_n c) j (fun z => absurd z (by omega)) (fun z => ?_) hc.1
      refine yy_leads hc hi hjn (fun hs => br_f cd_10 ⟨vp_in_nI (by omega) (by decide), nm_e (nm_r (nI_1 j) (ih (j + 1) _ (by omega) ?_))⟩) (fun hs => br_t rfl (nm_r (nI_1 j) (ih (j + 1) x2 (by omega) (cd_Rc h (fun t _ => ?_)))))
      · rw [nI_clamp (by omega)]
        refine cd_Rc (cd_Ror h (fun t _ => Iff.rfl : cd_R (a_before j) (li_F a_before j))) (fun t _ => ?_)
        constructor
        · rintro (⟨j', a, b⟩ | a)
          · exact ⟨j', by omega, b⟩
          · exact ⟨j, by omega, hs, a⟩
        · rintro ⟨j', a, b, d'⟩
          rcases Nat.lt_or_ge j' j with y | y
          · exact Or.inl ⟨j', y, b, d'⟩
          · have ej : j' = j := by omega
            subst ej
            exact Or.inr d'
      · constructor
        · rintro ⟨j', a, b⟩
          exact ⟨j', by omega, b⟩
        · rintro ⟨j', a, b, d'⟩
          refine ⟨j', ?_, b, d'⟩
          rcases Nat.lt_or_ge j' j with y | y
          · exact y
          · have ej : j' = j := by omega
            subst ej
            exact absurd b hs
  refine ⟨cd_n c + 1, main (cd_n c) 0 0 (by omega) (cd_Rc cd_R0 (fun t _ => ?_))⟩
  constructor
  · exact fun z => z.elim
  · rintro ⟨j', a, _⟩
    omega
theorem yy_times (hc : cd_Is c f_n a_ops a_ds a_as a_bs) (hi : i < cd_n c) {t : Nat} (ht : t < 8) (k : post (nI (cd_tm c i t))) : (wpY_times post (f_n, f_k, f_known, f_placed, f_memory, f_saved, f_waiting, f_forward, a_ops, a_ds, a_as, a_bs, a_before, a_ways, a_clash, a_costs, a_best, a_trial, a_inputs, a_outputs, a_cells, a_spent) (nI i) (nI t)) := by
  have hn := hc.2.1
  have h1 := hc.2.2 i hi
  have hv : vp_in (nI i) 20 := vp_in_nI (by omega) (by decide)
  have e : (nI i).toNatClampNeg = i := nI_clamp (by omega)
  have ea : a_ops (nI i).toNatClampNeg = nI (cd_o c i) := by rw [e]; exact h1.1
  have e0 : cd_01 false = 0 := rfl
  have e1 : cd_01 true = 1 := rfl
  have s3 : ∀ x y : Nat, x = cd_01 (cd_df (cd_o c i) && decide (cd_d c i = t)) → y = cd_01 (cd_ua (cd_o c i) && decide (cd_a c i = t)) → (wY_times_51 post (nI i) (nI t) (nI (cd_o c i)) (nI y) (nI x) f_n f_k f_known f_placed f_memory f_saved f_waiting f_forward a_ops a_ds a_as a_bs a_before a_ways a_clash a_costs a_best a_trial a_inputs a_outputs a_cells a_spent) := fun x y hx hy => by
    refine yy_ub h1.2.1 (fun ub => br_f cd_10 ⟨hv, ?_⟩) (fun ub => br_t rfl ?_)
    · have hb := h1.2.2.2.2.1 ub
      rw [e, hb.1, nI_add, nI_1, show nI (x + y) + 0 = nI (x + y) from Int32.add_zero _]
      refine pk_eq (cd_b c i) t (fun z => ?_) (fun z => ?_)
      · unfold cd_tm at k
        rw [← hx, ← hy, ub, z, decide_eq_true rfl] at k
        exact k
      · unfold cd_tm at k
        rw [← hx, ← hy, ub, decide_eq_false z] at k
        exact k
    · rw [nI_add, show nI (x + y) + 0 = nI (x + y) from Int32.add_zero _]
      unfold cd_tm at k
      rw [← hx, ← hy, ub] at k
      exact k
  have s2 : ∀ x : Nat, x = cd_01 (cd_df (cd_o c i) && decide (cd_d c i = t)) → (wY_times_29 post (nI i) (nI t) (nI (cd_o c i)) (nI x) f_n f_k f_known f_placed f_memory f_saved f_waiting f_forward a_ops a_ds a_as a_bs a_before a_ways a_clash a_costs a_best a_trial a_inputs a_outputs a_cells a_spent) := fun x hx => by
    refine yy_ua h1.2.1 (fun ua => br_f cd_10 ⟨hv, ?_⟩) (fun ua => br_t rfl (s3 x 0 hx (by rw [ua]; rfl)))
    have ha := h1.2.2.2.1 ua
    rw [e, ha.1]
    exact pk_eq (cd_a c i) t (fun z => s3 x 1 hx (by rw [ua, z, decide_eq_true rfl]; rfl)) (fun z => s3 x 0 hx (by rw [ua, decide_eq_false z]; rfl))
  refine ⟨hv, nm_r ea (yy_df h1.2.1 (fun df => br_f cd_10 ⟨hv, ?_⟩) (fun df => br_t rfl (s2 0 (by rw [df]; rfl))))⟩
  have hd := h1.2.2.1 df
  rw [e, hd.1]
  exact pk_eq (cd_d c i) t (fun z => s2 1 (by rw [df, z, decide_eq_true rfl]; rfl)) (fun z => s2 0 (by rw [df, decide_eq_false z]; rfl))
end
end
section
/-! Y: what is alive -/
def yl_Q (c : cd_T) (bf0 : Nat → Int32) (k : Nat) (m : Int32) (bf : Nat → Int32) : Prop :=
  li_I c bf ∧ ((m = 1 ∧ li_mu c bf < li_mu c bf0) ∨ (m = 0 ∧ bf = bf0 ∧ ∀ i, i < k → i < cd_n c → cd_R (bf i) (cd_st c (li_F bf) i)))
theorem yl_Qs {c : cd_T} {m0 : Int32} {op oD oA oB : Nat → Int32} (hc : cd_Is c m0 op oD oA oB) {bf0 bf : Nat → Int32} {k : Nat} {m z now : Int32} (hk : k < cd_n c) (h : yl_Q c bf0 k m bf) (hw : cd_R now (cd_st c (li_F bf) k))
    (hz : (z = 0 ∧ now = bf k) ∨ (z = 1 ∧ ¬ now = bf k)) : yl_Q c bf0 (k + 1) (m ||| z) (upd bf k now) := by
  refine ⟨li_u hk h.1 hw, ?_⟩
  rcases h.2 with ⟨hm, hl⟩ | ⟨hm, he, ha⟩
  · have := li_le hk h.1 hw
    refine Or.inl ⟨?_, by omega⟩
    rcases hz with ⟨z1, _⟩ | ⟨z1, _⟩
    · rw [hm, z1]; decide
    · rw [hm, z1]; decide
  · rcases hz with ⟨z1, z3⟩ | ⟨z1, z2⟩
    · have ee : upd bf k now = bf := cd_ue z3.symm
      rw [ee]
      refine Or.inr ⟨by rw [hm, z1]; decide, he, fun i hi1 hi2 => ?_⟩
      rcases Nat.lt_or_ge i k with y | y
      · exact ha i y hi2
      · have ei : i = k := by omega
        subst ei
        rw [← z3]
        exact hw
    · have := li_lt hc hk h.1 hw z2
      rw [he] at this ⊢
      exact Or.inl ⟨by rw [hm, z1]; decide, this⟩
/-- what Y knows of the code c -/
def cd_YK (c : cd_T) (bf cl co : Nat → Int32) : Prop :=
  (∀ i, i < cd_n c → cd_R (bf i) (cd_LB c i)) ∧ (∀ t, t < 8 → cd_R (cl t) (fun u => cd_K c t u = true)) ∧ (∀ t, t < 8 → co t = nI (cd_cost c t))
/-- one more in one row, ints -/
theorem me_uy {cl : Nat → Int32} {E : Nat → Nat → Prop} (h : me_E cl E) {t : Nat} (ht : t < 8) {x : Int32} {O : Nat → Prop} (hx : cd_R x O) (ho : ∀ v, O v → v < 8) : me_E (upd cl t (cl t ||| x)) (fun u v => E u v ∨ (u = t ∧ O v)) := by
  have hr := cd_Ror (h.1 t ht) hx
  refine ⟨fun u hu => ?_, fun u v hu hv => ?_⟩
  · by_cases e : u = t
    · subst e
      rw [cd_us]
      exact cd_Rc hr (fun v _ => by simp)
    · rw [cd_un e]
      exact cd_Rc (h.1 u hu) (fun v _ => by simp [e])
  · rcases hv with z | ⟨_, z⟩
    · exact h.2 u v hu z
    · exact ho v z
section
variable {f_n f_k f_known f_placed f_memory f_saved f_waiting f_forward : Int32} {a_ops a_ds a_as a_bs a_before a_ways a_clash a_costs a_best a_trial a_inputs a_outputs a_cells a_spent : Nat → Int32} {c : cd_T} {post : SY → Prop}
theorem yk_46 {J38 : (Int32 → (Nat → Int32) → (Nat → Int32) → (Nat → Int32) → (Nat → Int32) → (Nat → Int32) → (Nat → Int32) → (Nat → Int32) → (Nat → Int32) → (Nat → Int32) → (Nat → Int32) → (Nat → Int32) → (Nat → Int32) → (Nat → Int32) → (Nat → Int32) → Prop)} (hc : cd_Is c f_n a_ops a_ds a_as a_bs) {bf0 : Nat → Int32} (k : ∀ m bf, yl_Q c bf0 (cd_n c) m bf → J38 m a_ops a_ds a_as a_bs bf a_ways a_clash a_costs a_best a_trial a_inputs a_outputs a_cells a_spent) :
    ∀ d j m bf, j + d = cd_n c → yl_Q c bf0 j m bf → (wY_know_46 post J38 f_n f_k f_known f_placed f_memory f_saved f_waiting f_forward (d + 1) m (nI j) a_ops a_ds a_as a_bs bf a_ways a_clash a_costs a_best a_trial a_inputs a_outputs a_cells a_spent) := by
  have hn := hc.2.1
  intro d
  induction d with
  | zero =>
    intro j m bf hj hQ
    have ej : j = cd_n c := by omega
    subst ej
    exact pk_le (cd_n c) (cd_n c) (fun _ => k m bf hQ) (fun z => absurd z (by omega)) hc.1
  | succ d ih =>
    intro j m bf hj hQ
    have hjn : j < cd_n c := by omega
    refine pk_le (cd_n c) j (fun z => absurd z (by omega)) (fun z => ?_) hc.1
    refine yy_used hc hjn (fun r hr => yy_behind hc hjn (fun s hs => yy_def hc hjn (fun q hq => nm_e ⟨vp_in_nI (by omega) (by decide), ?_⟩)))
    have hw : cd_R (r ||| (s &&& (q ^^^ (-1)))) (cd_st c (li_F bf) j) := cd_Ror hr (cd_Rand hs (cd_Rnot hq))
    have e : (nI j).toNatClampNeg = j := nI_clamp (by omega)
    have go : ∀ z, ((z = 0 ∧ (r ||| (s &&& (q ^^^ (-1)))) = bf j) ∨ (z = 1 ∧ ¬ (r ||| (s &&& (q ^^^ (-1)))) = bf j)) → (wY_know_46 post J38 f_n f_k f_known f_placed f_memory f_saved f_waiting f_forward (d + 1) (m ||| z) (nI (j + 1)) a_ops a_ds a_as a_bs (upd bf j (r ||| (s &&& (q ^^^ (-1))))) a_ways a_clash a_costs a_best a_trial a_inputs a_outputs a_cells a_spent) := fun z hz => ih (j + 1) _ _ (by omega) (yl_Qs hc hjn hQ hw hz)
    rw [e]
    refine br_c (fun e1 => nm_e ⟨vp_in_nI (by omega) (by decide), nm_r (by rw [e]) (nm_r (nI_1 j) (go 0 (Or.inl ⟨rfl, e1⟩)))⟩) (fun e1 => nm_e ⟨vp_in_nI (by omega) (by decide), nm_r (by rw [e]) (nm_r (nI_1 j) (go 1 (Or.inr ⟨rfl, e1⟩)))⟩)
/-! Y: clashes -/
theorem yk_collide {q : Int32 → Prop} (hc : cd_Is c f_n a_ops a_ds a_as a_bs) (hb : ∀ i, i < cd_n c → cd_R (a_before i) (cd_LB c i)) {t u : Nat} (ht : t < 8) (hu : u < 8) (k1 : cd_co c t u → q 1) (k0 : ¬ cd_co c t u → q 0) : (wpY_collide q (f_n, f_k, f_known, f_placed, f_memory, f_saved, f_waiting, f_forward, a_ops, a_ds, a_as, a_bs, a_before, a_ways, a_clash, a_costs, a_best, a_trial, a_inputs, a_outputs, a_cells, a_spent) (nI t) (nI u)) := by
  have hn := hc.2.1
  have hF : ∀ j v, j < cd_n c → (li_F a_before j v ↔ cd_LB c j v) := fun j v hj => by
    constructor
    · intro h
      exact (hb j hj v (li_32 h)).mp h
    · intro h
      have := (cd_LB8 hc h).2
      exact (hb j hj v (by omega)).mpr h
  have main : (¬ (0 < cd_n c ∧ cd_LB c 0 t ∧ cd_LB c 0 u)) → ∀ d j, j + d = cd_n c → (∀ i, i < j → ¬ (cd_def c i t ∧ ¬ (cd_o c i = 5 ∧ cd_a c i = u) ∧ cd_bh c (cd_LB c) i u)) → (wY_collide_39 q (nI t) (nI u) f_n f_k f_known f_placed f_memory f_saved f_waiting f_forward a_ops a_ds a_as a_bs a_before a_ways a_clash a_costs a_best a_trial a_inputs a_outputs a_cells a_spent (d + 1) (nI j)) := by
    intro h0 d
    induction d with
    | zero =>
      intro j hj h
      have ej : j = cd_n c := by omega
      subst ej
      exact pk_le (cd_n c) (cd_n c) (fun _ => k0 (fun z => z.elim h0 (fun ⟨i, hi, y⟩ => h i hi y))) (fun z => absurd z (by omega)) hc.1
    | succ d ih =>
      intro j hj h
      have hjn : j < cd_n c := by omega
      have h1 := hc.2.2 j hjn
      have hv : vp_in (nI j) 20 := vp_in_nI (by omega) (by decide)
      have e : (nI j).toNatClampNeg = j := nI_clamp (by omega)
      have ho := h1.2.1
      have go : ¬ (cd_def c j t ∧ ¬ (cd_o c j = 5 ∧ cd_a c j = u) ∧ cd_bh c (cd_LB c) j u) → (wY_collide_39 q (nI t) (nI u) f_n f_k f_known f_placed f_memory f_saved f_waiting f_forward a_ops a_ds a_as a_bs a_before a_ways a_clash a_costs a_best a_trial a_inputs a_outputs a_cells a_spent (d + 1) (nI (j + 1))) := fun hno => ih (j + 1) (by omega) (fun i hi => by
        rcases Nat.lt_or_ge i j with y | y
        · exact h i y
        · have ei : i = j := by omega
          subst ei
          exact hno)
      have s72 : ∀ z, ((z = 0 ∧ ¬ (cd_o c j = 5 ∧ cd_a c j = u)) ∨ (z = 1 ∧ (cd_o c j = 5 ∧ cd_a c j = u))) → (wY_collide_72 q (wY_collide_39 q (nI t) (nI u) f_n f_k f_known f_placed f_memory f_saved f_waiting f_forward a_ops a_ds a_as a_bs a_before a_ways a_clash a_costs a_best a_trial a_inputs a_outputs a_cells a_spent (d + 1)) (nI t) (nI u) (nI j) z f_n f_k f_known f_placed f_memory f_saved f_waiting f_forward a_ops a_ds a_as a_bs a_before a_ways a_clash a_costs a_best a_trial a_inputs a_outputs a_cells a_spent) := fun z hz => by
        refine yy_def hc hjn (fun r hr => ?_)
        have er : r = (1 : Int32) <<< (nI t &&& 31) ↔ cd_def c j t := by
          constructor
          · intro z1
            rw [z1] at hr
            exact (hr t (by omega)).mp ((cd_Rsh (by omega : t < 32) t (by omega)).mpr rfl)
          · intro z1
            refine cd_Ru hr (cd_Rc (cd_Rsh (by omega : t < 32)) (fun v _ => ?_))
            have e1 : cd_d c j = t := z1.2
            constructor
            · intro z2
              exact ⟨z1.1, by rw [e1]; exact z2.symm⟩
            · intro z2
              have e2 : cd_d c j = v := z2.2
              omega
        refine cd_bi er (fun hd => ?_) (fun hd => nm_r (nI_1 j) (go (fun y => hd y.1)))
        rcases hz with ⟨hz, hm⟩ | ⟨hz, hm⟩
        · subst hz
          refine br_t rfl (yy_behind hc hjn (fun s hs => ?_))
          have hs' : cd_R s (cd_bh c (cd_LB c) j) := cd_Rc hs (fun v _ => ⟨cd_bhm (fun j v hj h => (hF j v hj).mp h), cd_bhm (fun j v hj h => (hF j v hj).mpr h)⟩)
          exact cd_r1 hs' (by omega) (fun y => k1 (Or.inr ⟨j, hjn, hd, hm, y⟩)) (fun y => nm_r (nI_1 j) (go (fun x => y x.2.2)))
        · subst hz
          exact br_f cd_10 (nm_r (nI_1 j) (go (fun x => x.2.1 hm)))
      refine pk_le (cd_n c) j (fun z => absurd z (by omega)) (fun z => ⟨hv, ?_⟩) hc.1
      rw [e, h1.1]
      refine pk_eq (cd_o c j) 5 (fun o5 => ⟨hv, ?_⟩) (fun o5 => s72 0 (Or.inl ⟨rfl, fun x => o5 x.1⟩))
      have ha := h1.2.2.2.1 (cd_uat (by omega))
      rw [ha.1]
      exact pk_eq (cd_a c j) u (fun y => s72 1 (Or.inr ⟨rfl, o5, y⟩)) (fun y => s72 0 (Or.inl ⟨rfl, fun x => y x.2⟩))
  have fin : (¬ (0 < cd_n c ∧ cd_LB c 0 t ∧ cd_LB c 0 u)) → ∃ n39, (wY_collide_39 q (nI t) (nI u) f_n f_k f_known f_placed f_memory f_saved f_waiting f_forward a_ops a_ds a_as a_bs a_before a_ways a_clash a_costs a_best a_trial a_inputs a_outputs a_cells a_spent n39 0) := fun h0 => ⟨cd_n c + 1, main h0 (cd_n c) 0 (by omega) (fun i hi => absurd hi (by omega))⟩
  refine pk_le (cd_n c) 0 (fun z => fin (fun y => by omega)) (fun z => ?_) hc.1
  refine cd_r1 (hb 0 z) (by omega) (fun y => cd_r1 (hb 0 z) (by omega) (fun x => k1 (Or.inl ⟨z, y, x⟩)) (fun x => fin (fun w => x w.2.2))) (fun y => fin (fun w => y w.2.1))
def yk_E (c : cd_T) (t j u v : Nat) : Prop := v < 8 ∧ u ≠ v ∧ (((u < t ∨ (u = t ∧ v < j)) ∧ cd_co c u v) ∨ ((v < t ∨ (v = t ∧ u < j)) ∧ cd_co c v u))
theorem yk_31 {J23 : (Int32 → (Nat → Int32) → (Nat → Int32) → (Nat → Int32) → (Nat → Int32) → (Nat → Int32) → (Nat → Int32) → (Nat → Int32) → (Nat → Int32) → (Nat → Int32) → (Nat → Int32) → (Nat → Int32) → (Nat → Int32) → (Nat → Int32) → (Nat → Int32) → Prop)} (hc : cd_Is c f_n a_ops a_ds a_as a_bs) (hb : ∀ i, i < cd_n c → cd_R (a_before i) (cd_LB c i)) {t : Nat} (ht : t < 8) (k : ∀ cl, me_E cl (yk_E c (t + 1) 0) → J23 (nI (t + 1)) a_ops a_ds a_as a_bs a_before a_ways cl a_costs a_best a_trial a_inputs a_outputs a_cells a_spent) :
    ∀ d j cl, j + d = 8 → me_E cl (yk_E c t j) → (wY_findClashes_31 post J23 (nI t) f_n f_k f_known f_placed f_memory f_saved f_waiting f_forward (d + 1) (nI j) a_ops a_ds a_as a_bs a_before a_ways cl a_costs a_best a_trial a_inputs a_outputs a_cells a_spent) := by
  intro d
  induction d with
  | zero =>
    intro j cl hj hE
    have ej : j = 8 := by omega
    subst ej
    refine br_t (by decide) (nm_r (nI_1 t) (k cl (me_c hE (fun u v hu _ => ?_) (fun u v _ h => h.1))))
    unfold yk_E
    constructor
    · rintro ⟨h1, h2, h3⟩
      refine ⟨h1, h2, ?_⟩
      rcases h3 with ⟨a, b⟩ | ⟨a, b⟩
      · exact Or.inl ⟨by omega, b⟩
      · exact Or.inr ⟨by omega, b⟩
    · rintro ⟨h1, h2, h3⟩
      refine ⟨h1, h2, ?_⟩
      rcases h3 with ⟨a, b⟩ | ⟨a, b⟩
      · exact Or.inl ⟨by omega, b⟩
      · exact Or.inr ⟨by omega, b⟩
  | succ d ih =>
    intro j cl hj hE
    have hj8 : j < 8 := by omega
    refine br_f (nI_ge (b := 8) (by omega) (by decide)) (pk_eq t j (fun etj => nm_r (nI_1 j) (ih (j + 1) cl (by omega) (me_c hE (fun u v hu _ => ?_) (fun u v _ h => h.1)))) (fun etj => ?_))
    · unfold yk_E
      constructor
      · rintro ⟨h1, h2, h3⟩
        refine ⟨h1, h2, ?_⟩
        rcases h3 with ⟨a, b⟩ | ⟨a, b⟩
        · exact Or.inl ⟨by omega, b⟩
        · exact Or.inr ⟨by omega, b⟩
      · rintro ⟨h1, h2, h3⟩
        refine ⟨h1, h2, ?_⟩
        rcases h3 with ⟨a, b⟩ | ⟨a, b⟩
        · exact Or.inl ⟨by omega, b⟩
        · exact Or.inr ⟨by omega, b⟩
    · refine yk_collide hc hb ht hj8 (fun hco => br_f cd_10 ?_) (fun hco => br_t rfl (nm_r (nI_1 j) (ih (j + 1) cl (by omega) (me_c hE (fun u v hu _ => ?_) (fun u v _ h => h.1)))))
      · have hvt : vp_in (nI t) 8 := vp_in_nI ht (by decide)
        have hvj : vp_in (nI j) 8 := vp_in_nI hj8 (by decide)
        refine ⟨hvt, hvt, nm_e ⟨hvj, hvj, nm_e (nm_r (nI_1 j) (ih (j + 1) _ (by omega) ?_))⟩⟩
        rw [nI_clamp (by omega : t < 2 ^ 31), nI_clamp (by omega : j < 2 ^ 31)]
        refine me_c (me_uy (me_uy hE ht (cd_Rsh (show j < 32 by omega)) (fun v hv => by omega)) hj8 (cd_Rsh (show t < 32 by omega)) (fun v hv => by omega)) (fun u v hu _ => ?_) (fun u v _ h => h.1)
        unfold yk_E
        constructor
        · rintro ((⟨h1, h2, h3⟩ | ⟨h1, h2⟩) | ⟨h1, h2⟩)
          · refine ⟨h1, h2, ?_⟩
            rcases h3 with ⟨a, b⟩ | ⟨a, b⟩
            · exact Or.inl ⟨by omega, b⟩
            · exact Or.inr ⟨by omega, b⟩
          · subst h1 h2
            exact ⟨hj8, etj, Or.inl ⟨by omega, hco⟩⟩
          · subst h1 h2
            exact ⟨ht, fun z => etj z.symm, Or.inr ⟨by omega, hco⟩⟩
        · rintro ⟨h1, h2, h3⟩
          rcases h3 with ⟨a, b⟩ | ⟨a, b⟩
          · by_cases z : u = t ∧ v = j
            · exact Or.inl (Or.inr z)
            · exact Or.inl (Or.inl ⟨h1, h2, Or.inl ⟨by omega, b⟩⟩)
          · by_cases z : v = t ∧ u = j
            · exact Or.inr ⟨z.2, z.1⟩
            · exact Or.inl (Or.inl ⟨h1, h2, Or.inr ⟨by omega, b⟩⟩)
      · unfold yk_E
        constructor
        · rintro ⟨h1, h2, h3⟩
          refine ⟨h1, h2, ?_⟩
          rcases h3 with ⟨a, b⟩ | ⟨a, b⟩
          · exact Or.inl ⟨by omega, b⟩
          · exact Or.inr ⟨by omega, b⟩
        · rintro ⟨h1, h2, h3⟩
          refine ⟨h1, h2, ?_⟩
          rcases h3 with ⟨a, b⟩ | ⟨a, b⟩
          · by_cases z : u = t ∧ v = j
            · rw [z.1, z.2] at b
              exact absurd b hco
            · exact Or.inl ⟨by omega, b⟩
          · by_cases z : v = t ∧ u = j
            · rw [z.1, z.2] at b
              exact absurd b hco
            · exact Or.inr ⟨by omega, b⟩
theorem yk_23 (hc : cd_Is c f_n a_ops a_ds a_as a_bs) (hb : ∀ i, i < cd_n c → cd_R (a_before i) (cd_LB c i)) (k : ∀ cl, (∀ t, t < 8 → cd_R (cl t) (fun u => cd_K c t u = true)) → post (f_n, f_k, f_known, f_placed, f_memory, f_saved, f_waiting, f_forward, a_ops, a_ds, a_as, a_bs, a_before, a_ways, cl, a_costs, a_best, a_trial, a_inputs, a_outputs, a_cells, a_spent)) :
    ∀ d j cl, j + d = 8 → me_E cl (yk_E c j 0) → (wY_findClashes_23 post f_n f_k f_known f_placed f_memory f_saved f_waiting f_forward (d + 1) (nI j) a_ops a_ds a_as a_bs a_before a_ways cl a_costs a_best a_trial a_inputs a_outputs a_cells a_spent) := by
  intro d
  induction d with
  | zero =>
    intro j cl hj hE
    have ej : j = 8 := by omega
    subst ej
    refine br_t (by decide) (k cl (fun t ht => cd_Rc (hE.1 t ht) (fun u _ => ?_)))
    rw [cd_Kt]
    unfold yk_E
    constructor
    · rintro ⟨h1, h2, h3⟩
      exact ⟨h2, h3.elim (fun z => Or.inl z.2) (fun z => Or.inr z.2)⟩
    · intro h
      have hu : u < 8 := me_C8 hc (Nat.le_refl _) (me_Cn.mpr h)
      exact ⟨hu, h.1, h.2.elim (fun z => Or.inl ⟨by omega, z⟩) (fun z => Or.inr ⟨by omega, z⟩)⟩
  | succ d ih =>
    intro j cl hj hE
    refine br_f (nI_ge (b := 8) (by omega) (by decide)) ⟨9, yk_31 hc hb (by omega) (fun cl' h' => ih (j + 1) cl' (by omega) h') 8 0 cl (by omega) hE⟩
theorem yk_cl2 (k : ∀ cl, (∀ j, j < 8 → cl j = 0) → ∃ n23, (wY_findClashes_23 post f_n f_k f_known f_placed f_memory f_saved f_waiting f_forward n23 0 a_ops a_ds a_as a_bs a_before a_ways cl a_costs a_best a_trial a_inputs a_outputs a_cells a_spent)) : ∀ d j cl, j + d = 8 → (∀ i, i < j → cl i = 0) → (wY_findClashes_2 post f_n f_k f_known f_placed f_memory f_saved f_waiting f_forward (d + 1) (nI j) a_ops a_ds a_as a_bs a_before a_ways cl a_costs a_best a_trial a_inputs a_outputs a_cells a_spent) := by
  intro d
  induction d with
  | zero =>
    intro j cl hj hb
    have ej : j = 8 := by omega
    subst ej
    exact br_t (by decide) (k cl hb)
  | succ d ih =>
    intro j cl hj hb
    refine br_f (nI_ge (b := 8) (by omega) (by decide)) ⟨vp_in_nI (by omega) (by decide), nm_r (by rw [nI_clamp (by omega)]) (nm_r (nI_1 j) (ih (j + 1) (upd cl j 0) (by omega) (fun i hi => ?_)))⟩
    by_cases ei : i = j
    · rw [ei, cd_us]
    · rw [cd_un ei]
      exact hb i (by omega)
theorem yk_clashes (hc : cd_Is c f_n a_ops a_ds a_as a_bs) (hb : ∀ i, i < cd_n c → cd_R (a_before i) (cd_LB c i)) (k : ∀ cl, (∀ t, t < 8 → cd_R (cl t) (fun u => cd_K c t u = true)) → post (f_n, f_k, f_known, f_placed, f_memory, f_saved, f_waiting, f_forward, a_ops, a_ds, a_as, a_bs, a_before, a_ways, cl, a_costs, a_best, a_trial, a_inputs, a_outputs, a_cells, a_spent)) : (wpY_findClashes post (f_n, f_k, f_known, f_placed, f_memory, f_saved, f_waiting, f_forward, a_ops, a_ds, a_as, a_bs, a_before, a_ways, a_clash, a_costs, a_best, a_trial, a_inputs, a_outputs, a_cells, a_spent)) := by
  refine ⟨9, yk_cl2 (fun cl hcl => ⟨9, yk_23 hc hb k 8 0 cl (by omega) ⟨fun u hu => ?_, fun u v _ h => h.1⟩⟩) 8 0 a_clash (by omega) (fun i hi => absurd hi (by omega))⟩
  rw [hcl u hu]
  refine cd_Rc cd_R0 (fun v _ => ⟨fun z => z.elim, fun h => ?_⟩)
  rcases h.2.2 with z | z <;> omega
/-! Y: ways -/
theorem yk_72 {J62 : (Int32 → (Nat → Int32) → (Nat → Int32) → (Nat → Int32) → (Nat → Int32) → (Nat → Int32) → (Nat → Int32) → (Nat → Int32) → (Nat → Int32) → (Nat → Int32) → (Nat → Int32) → (Nat → Int32) → (Nat → Int32) → (Nat → Int32) → (Nat → Int32) → Prop)} (hc : cd_Is c f_n a_ops a_ds a_as a_bs) {m : Nat} (hm : m < cd_n c) (k : ∀ wy, (∀ i, i < cd_n c → cd_R (wy i) (fun t => cd_rw c (m + 1) i t = true)) → J62 (nI (m + 1)) a_ops a_ds a_as a_bs a_before wy a_clash a_costs a_best a_trial a_inputs a_outputs a_cells a_spent) :
    ∀ d j wy, j + d = cd_n c → cd_W1 c m j wy → (wY_findWays_72 post J62 (nI m) f_n f_k f_known f_placed f_memory f_saved f_waiting f_forward (d + 1) (nI j) a_ops a_ds a_as a_bs a_before wy a_clash a_costs a_best a_trial a_inputs a_outputs a_cells a_spent) := by
  have hn := hc.2.1
  intro d
  induction d with
  | zero =>
    intro j wy hj hW
    have ej : j = cd_n c := by omega
    subst ej
    exact pk_le (cd_n c) (cd_n c) (fun _ => nm_r (nI_1 m) (k wy (cd_W1e hW))) (fun z => absurd z (by omega)) hc.1
  | succ d ih =>
    intro j wy hj hW
    have hjn : j < cd_n c := by omega
    have hv : vp_in (nI j) 21 := vp_in_nI (by omega) (by decide)
    refine pk_le (cd_n c) j (fun z => absurd z (by omega)) (fun z => ⟨hv, ?_⟩) hc.1
    rw [nI_clamp (by omega : j < 2 ^ 31), nI_clamp (by omega : m < 2 ^ 31)]
    exact cd_r1 (cd_W1i hW hjn) (by omega) (fun hb => ⟨hv, vp_in_nI (by omega) (by decide), hv, nm_e (nm_r (nI_1 j) (ih (j + 1) _ (by omega) (cd_W1y hW hjn hm hb)))⟩) (fun hb => nm_r (nI_1 j) (ih (j + 1) wy (by omega) (cd_W1n hW hb)))
theorem yk_62 (hc : cd_Is c f_n a_ops a_ds a_as a_bs) (k : ∀ wy, (∀ i, i < cd_n c → cd_R (wy i) (fun t => cd_rw c (cd_n c) i t = true)) → post (f_n, f_k, f_known, f_placed, f_memory, f_saved, f_waiting, f_forward, a_ops, a_ds, a_as, a_bs, a_before, wy, a_clash, a_costs, a_best, a_trial, a_inputs, a_outputs, a_cells, a_spent)) :
    ∀ d j wy, j + d = cd_n c → (∀ i, i < cd_n c → cd_R (wy i) (fun t => cd_rw c j i t = true)) → (wY_findWays_62 post f_n f_k f_known f_placed f_memory f_saved f_waiting f_forward (d + 1) (nI j) a_ops a_ds a_as a_bs a_before wy a_clash a_costs a_best a_trial a_inputs a_outputs a_cells a_spent) := by
  have hn := hc.2.1
  intro d
  induction d with
  | zero =>
    intro j wy hj hW
    have ej : j = cd_n c := by omega
    subst ej
    exact pk_le (cd_n c) (cd_n c) (fun _ => k wy hW) (fun z => absurd z (by omega)) hc.1
  | succ d ih =>
    intro j wy hj hW
    refine pk_le (cd_n c) j (fun z => absurd z (by omega)) (fun z => ⟨cd_n c + 1, ?_⟩) hc.1
    exact yk_72 hc (by omega) (fun wy' hW' => ih (j + 1) wy' (by omega) hW') (cd_n c) 0 wy (by omega) (cd_W10 hW)
theorem yk_19 {J2 : (Int32 → (Nat → Int32) → (Nat → Int32) → (Nat → Int32) → (Nat → Int32) → (Nat → Int32) → (Nat → Int32) → (Nat → Int32) → (Nat → Int32) → (Nat → Int32) → (Nat → Int32) → (Nat → Int32) → (Nat → Int32) → (Nat → Int32) → (Nat → Int32) → Prop)} (hc : cd_Is c f_n a_ops a_ds a_as a_bs) {i : Nat} (hi : i < cd_n c) {wy0 : Nat → Int32} (k : ∀ wy, (∀ i', i' ≠ i → wy i' = wy0 i') → cd_R (wy i) (fun t => cd_rw c 0 i t = true) → J2 (nI (i + 1)) a_ops a_ds a_as a_bs a_before wy a_clash a_costs a_best a_trial a_inputs a_outputs a_cells a_spent) :
    ∀ d j wy, j + d = cd_n c → (∀ i', i' ≠ i → wy i' = wy0 i') → cd_R (wy i) (fun t => t < j ∧ cd_suc c i t = true) → (wY_findWays_19 post J2 (nI i) f_n f_k f_known f_placed f_memory f_saved f_waiting f_forward (d + 1) (nI j) a_ops a_ds a_as a_bs a_before wy a_clash a_costs a_best a_trial a_inputs a_outputs a_cells a_spent) := by
  have hn := hc.2.1
  intro d
  induction d with
  | zero =>
    intro j wy hj hk hW
    have ej : j = cd_n c := by omega
    subst ej
    refine pk_le (cd_n c) (cd_n c) (fun _ => nm_r (nI_1 i) (k wy hk (cd_Rc hW (fun t _ => ?_)))) (fun z => absurd z (by omega)) hc.1
    show _ ↔ (cd_suc c i t && decide (t < cd_n c)) = true
    rw [Bool.and_eq_true, decide_eq_true_eq]
    exact And.comm
  | succ d ih =>
    intro j wy hj hk hW
    have hv : vp_in (nI i) 21 := vp_in_nI (by omega) (by decide)
    refine pk_le (cd_n c) j (fun z => absurd z (by omega)) (fun z => ?_) hc.1
    refine yy_leads hc hi (by omega) (fun hs => br_f cd_10 ⟨hv, hv, nm_e (nm_r (nI_1 j) (ih (j + 1) _ (by omega) ?_ ?_))⟩) (fun hs => br_t rfl (nm_r (nI_1 j) (ih (j + 1) wy (by omega) hk (cd_Rc hW (fun t _ => ?_)))))
    · intro i' hi'
      rw [nI_clamp (by omega), cd_un hi']
      exact hk i' hi'
    · rw [nI_clamp (by omega), cd_us]
      refine cd_Rc (cd_Ror hW (cd_Rsh (show j < 32 by omega))) (fun t _ => ?_)
      constructor
      · rintro (⟨a, b⟩ | a)
        · exact ⟨by omega, b⟩
        · subst a
          exact ⟨by omega, hs⟩
      · rintro ⟨a, b⟩
        rcases Nat.lt_or_ge t j with y | y
        · exact Or.inl ⟨y, b⟩
        · exact Or.inr (by omega)
    · constructor
      · exact fun h => ⟨by omega, h.2⟩
      · rintro ⟨a, b⟩
        rcases Nat.lt_or_ge t j with y | y
        · exact ⟨y, b⟩
        · have et : t = j := by omega
          subst et
          exact absurd b hs
theorem yk_w2 (hc : cd_Is c f_n a_ops a_ds a_as a_bs) (k : ∀ wy, (∀ i, i < cd_n c → cd_R (wy i) (fun t => cd_rw c 0 i t = true)) → ∃ n62, (wY_findWays_62 post f_n f_k f_known f_placed f_memory f_saved f_waiting f_forward n62 0 a_ops a_ds a_as a_bs a_before wy a_clash a_costs a_best a_trial a_inputs a_outputs a_cells a_spent)) :
    ∀ d j wy, j + d = cd_n c → (∀ i, i < j → cd_R (wy i) (fun t => cd_rw c 0 i t = true)) → (wY_findWays_2 post f_n f_k f_known f_placed f_memory f_saved f_waiting f_forward (d + 1) (nI j) a_ops a_ds a_as a_bs a_before wy a_clash a_costs a_best a_trial a_inputs a_outputs a_cells a_spent) := by
  have hn := hc.2.1
  intro d
  induction d with
  | zero =>
    intro j wy hj hW
    have ej : j = cd_n c := by omega
    subst ej
    exact pk_le (cd_n c) (cd_n c) (fun _ => k wy hW) (fun z => absurd z (by omega)) hc.1
  | succ d ih =>
    intro j wy hj hW
    refine pk_le (cd_n c) j (fun z => absurd z (by omega)) (fun z => ⟨vp_in_nI (by omega) (by decide), ?_⟩) hc.1
    rw [nI_clamp (by omega)]
    refine nm_e ⟨cd_n c + 1, yk_19 hc (by omega) (wy0 := upd wy j 0) (fun wy' h1 h2 => ih (j + 1) wy' (by omega) (fun i hi => ?_)) (cd_n c) 0 (upd wy j 0) (by omega) (fun _ _ => rfl) ?_⟩
    · by_cases ei : i = j
      · rw [ei]
        exact h2
      · rw [h1 i ei, cd_un ei]
        exact hW i (by omega)
    · rw [cd_us]
      exact cd_Rc cd_R0 (fun t _ => ⟨fun z => z.elim, fun h => by omega⟩)
theorem yk_ways (hc : cd_Is c f_n a_ops a_ds a_as a_bs) (k : ∀ wy, (∀ i, i < cd_n c → cd_R (wy i) (fun t => cd_rw c (cd_n c) i t = true)) → post (f_n, f_k, f_known, f_placed, f_memory, f_saved, f_waiting, f_forward, a_ops, a_ds, a_as, a_bs, a_before, wy, a_clash, a_costs, a_best, a_trial, a_inputs, a_outputs, a_cells, a_spent)) : (wpY_findWays post (f_n, f_k, f_known, f_placed, f_memory, f_saved, f_waiting, f_forward, a_ops, a_ds, a_as, a_bs, a_before, a_ways, a_clash, a_costs, a_best, a_trial, a_inputs, a_outputs, a_cells, a_spent)) := by
  have hn := hc.2.1
  exact ⟨cd_n c + 1, yk_w2 hc (fun wy hW => ⟨cd_n c + 1, yk_62 hc k (cd_n c) 0 wy (by omega) hW⟩) (cd_n c) 0 a_ways (by omega) (fun i hi => absurd hi (by omega))⟩
/-! Y: costs -/
theorem yk_133 {J118 : (Int32 → (Nat → Int32) → (Nat → Int32) → (Nat → Int32) → (Nat → Int32) → (Nat → Int32) → (Nat → Int32) → (Nat → Int32) → (Nat → Int32) → (Nat → Int32) → (Nat → Int32) → (Nat → Int32) → (Nat → Int32) → (Nat → Int32) → (Nat → Int32) → Prop)} (hc : cd_Is c f_n a_ops a_ds a_as a_bs) (hw : ∀ i, i < cd_n c → cd_R (a_ways i) (fun t => cd_rw c (cd_n c) i t = true)) {t : Nat} (ht : t < 8) {co0 : Nat → Int32}
    (k : ∀ co, (∀ t', t' ≠ t → co t' = co0 t') → co t = nI (cd_cost c t) → J118 (nI (t + 1)) a_ops a_ds a_as a_bs a_before a_ways a_clash co a_best a_trial a_inputs a_outputs a_cells a_spent) :
    ∀ d j co, j + d = cd_n c → (∀ t', t' ≠ t → co t' = co0 t') → co t = nI (cd_ct c t j) → (wY_know_133 post J118 (nI t) f_n f_k f_known f_placed f_memory f_saved f_waiting f_forward (d + 1) (nI j) a_ops a_ds a_as a_bs a_before a_ways a_clash co a_best a_trial a_inputs a_outputs a_cells a_spent) := by
  have hn := hc.2.1
  intro d
  induction d with
  | zero =>
    intro j co hj hk hco
    have ej : j = cd_n c := by omega
    subst ej
    exact pk_le (cd_n c) (cd_n c) (fun _ => nm_r (nI_1 t) (k co hk hco)) (fun z => absurd z (by omega)) hc.1
  | succ d ih =>
    intro j co hj hk hco
    have hjn : j < cd_n c := by omega
    have hvt : vp_in (nI t) 8 := vp_in_nI ht (by decide)
    have et : (nI t).toNatClampNeg = t := nI_clamp (by omega)
    have ej : (nI j).toNatClampNeg = j := nI_clamp (by omega)
    have go : ∀ w, cd_wt c j = w → (wY_know_133 post J118 (nI t) f_n f_k f_known f_placed f_memory f_saved f_waiting f_forward (d + 1) (nI (j + 1)) a_ops a_ds a_as a_bs a_before a_ways a_clash (upd co t (co t + nI (cd_tm c j t) * nI w)) a_best a_trial a_inputs a_outputs a_cells a_spent) := fun w hw' => ih (j + 1) _ (by omega) (fun t' h' => by
      rw [cd_un h']
      exact hk t' h') (by
      rw [cd_us, hco, pk_mul, nI_add, ← hw']
      rfl)
    refine pk_le (cd_n c) j (fun z => absurd z (by omega)) (fun z => ⟨hvt, yy_times hc hjn ht ⟨vp_in_nI (by omega) (by decide), ?_⟩⟩) hc.1
    rw [et, ej]
    refine cd_r1 (hw j hjn) (by omega) (fun hb => ⟨hvt, nm_e (nm_r (nI_1 j) (go 10 (by unfold cd_wt; rw [if_pos hb])))⟩) (fun hb => ⟨hvt, nm_e (nm_r (nI_1 j) (go 1 (by unfold cd_wt; rw [if_neg hb])))⟩)
theorem yk_118 (hc : cd_Is c f_n a_ops a_ds a_as a_bs) (hw : ∀ i, i < cd_n c → cd_R (a_ways i) (fun t => cd_rw c (cd_n c) i t = true)) (k : ∀ co, (∀ t, t < 8 → co t = nI (cd_cost c t)) → post (f_n, f_k, f_known, f_placed, f_memory, f_saved, f_waiting, f_forward, a_ops, a_ds, a_as, a_bs, a_before, a_ways, a_clash, co, a_best, a_trial, a_inputs, a_outputs, a_cells, a_spent)) :
    ∀ d j co, j + d = 8 → (∀ t, t < j → co t = nI (cd_cost c t)) → (wY_know_118 post f_n f_k f_known f_placed f_memory f_saved f_waiting f_forward (d + 1) (nI j) a_ops a_ds a_as a_bs a_before a_ways a_clash co a_best a_trial a_inputs a_outputs a_cells a_spent) := by
  have hn := hc.2.1
  intro d
  induction d with
  | zero =>
    intro j co hj h
    have ej : j = 8 := by omega
    subst ej
    exact br_t (by decide) (k co h)
  | succ d ih =>
    intro j co hj h
    refine br_f (nI_ge (b := 8) (by omega) (by decide)) ⟨vp_in_nI (by omega) (by decide), ?_⟩
    rw [nI_clamp (by omega)]
    refine nm_e ⟨cd_n c + 1, yk_133 hc hw (by omega) (co0 := upd co j 0) (fun co' h1 h2 => ih (j + 1) co' (by omega) (fun t ht => ?_)) (cd_n c) 0 _ (by omega) (fun _ _ => rfl) (by rw [cd_us]; rfl)⟩
    by_cases e : t = j
    · rw [e]
      exact h2
    · rw [h1 t e, cd_un e]
      exact h t (by omega)
/-! Y: know -/
theorem yk_38 (hc : cd_Is c f_n a_ops a_ds a_as a_bs) (k : ∀ bf wy cl co, cd_YK c bf cl co → post (f_n, f_k, f_known, f_placed, f_memory, f_saved, f_waiting, f_forward, a_ops, a_ds, a_as, a_bs, bf, wy, cl, co, a_best, a_trial, a_inputs, a_outputs, a_cells, a_spent)) :
    ∀ n m bf0 bf, li_I c bf → ((m = 1 ∧ li_mu c bf + 1 < n) ∨ (0 < n ∧ m = 0 ∧ yl_Q c bf0 (cd_n c) m bf)) → (wY_know_38 post f_n f_k f_known f_placed f_memory f_saved f_waiting f_forward n m a_ops a_ds a_as a_bs bf a_ways a_clash a_costs a_best a_trial a_inputs a_outputs a_cells a_spent) := by
  intro n
  induction n with
  | zero => intro m bf0 bf _ h; omega
  | succ n ih =>
    intro m bf0 bf hI h
    rcases h with ⟨hm, hl⟩ | ⟨_, hm, hQ⟩
    · subst hm
      refine br_f (by decide) ⟨cd_n c + 1, ?_⟩
      refine yk_46 hc (bf0 := bf) (fun m' bf' hQ => ?_) (cd_n c) 0 0 bf (by omega) ⟨hI, Or.inr ⟨rfl, rfl, fun i h1 h2 => absurd h1 (by omega)⟩⟩
      rcases hQ.2 with ⟨a, b⟩ | ⟨a, b⟩
      · exact ih m' bf bf' hQ.1 (Or.inl ⟨a, by omega⟩)
      · exact ih m' bf bf' hQ.1 (Or.inr ⟨by omega, a, hQ⟩)
    · subst hm
      rcases hQ.2 with ⟨a, _⟩ | ⟨_, _, ha⟩
      · exact absurd a (by decide)
      · have he : ∀ i, i < cd_n c → cd_R (bf i) (cd_st c (li_F bf) i) := fun i hi => ha i hi hi
        have hb : ∀ i, i < cd_n c → cd_R (bf i) (cd_LB c i) := fun i hi => li_fin hc hI he hi
        refine br_t rfl (yk_clashes hc hb (fun cl hcl => yk_ways hc (fun wy hwy => ⟨9, ?_⟩)))
        exact yk_118 hc hwy (fun co hco => k bf wy cl co ⟨hb, hcl, hco⟩) 8 0 a_costs (by omega) (fun t ht => absurd ht (by omega))
theorem yk_15 (hn : cd_n c ≤ 20) (hc : f_n = nI (cd_n c)) (k : ∀ bf, (∀ j, j < cd_n c + 1 → bf j = 0) → ∃ n38, (wY_know_38 post f_n f_k f_known f_placed f_memory f_saved f_waiting f_forward n38 1 a_ops a_ds a_as a_bs bf a_ways a_clash a_costs a_best a_trial a_inputs a_outputs a_cells a_spent)) : ∀ d j bf, j + d = cd_n c + 1 → (∀ i, i < j → bf i = 0) → (wY_know_15 post f_n f_k f_known f_placed f_memory f_saved f_waiting f_forward (d + 1) (nI j) a_ops a_ds a_as a_bs bf a_ways a_clash a_costs a_best a_trial a_inputs a_outputs a_cells a_spent) := by
  intro d
  induction d with
  | zero =>
    intro j bf hj hb
    have ej : j = cd_n c + 1 := by omega
    subst ej
    exact pk_lt (cd_n c) (cd_n c + 1) (fun _ => k bf hb) (fun z => absurd z (by omega)) hc
  | succ d ih =>
    intro j bf hj hb
    refine pk_lt (cd_n c) j (fun z => absurd z (by omega)) (fun z => ⟨vp_in_nI (by omega) (by decide), nm_r (by rw [nI_clamp (by omega)]) (nm_r (nI_1 j) (ih (j + 1) (upd bf j 0) (by omega) (fun i hi => ?_)))⟩) hc
    by_cases ei : i = j
    · rw [ei, cd_us]
    · rw [cd_un ei]
      exact hb i (by omega)
theorem yk_know (hc : cd_Is c f_n a_ops a_ds a_as a_bs) (hk : f_known = 0 ∨ (f_known = 1 ∧ cd_YK c a_before a_clash a_costs)) (k : ∀ bf wy cl co, cd_YK c bf cl co → post (f_n, f_k, 1, f_placed, f_memory, f_saved, f_waiting, f_forward, a_ops, a_ds, a_as, a_bs, bf, wy, cl, co, a_best, a_trial, a_inputs, a_outputs, a_cells, a_spent)) : (wpY_know post (f_n, f_k, f_known, f_placed, f_memory, f_saved, f_waiting, f_forward, a_ops, a_ds, a_as, a_bs, a_before, a_ways, a_clash, a_costs, a_best, a_trial, a_inputs, a_outputs, a_cells, a_spent)) := by
  have hn := hc.2.1
  rcases hk with hk | ⟨hk, hK⟩
  · refine br_t hk ⟨cd_n c + 2, yk_15 hn hc.1 (fun bf hb => ⟨li_mu c bf + 2, ?_⟩) (cd_n c + 1) 0 a_before (by omega) (fun i hi => absurd hi (by omega))⟩
    exact yk_38 hc k _ 1 bf bf (li_0 (fun j hj => hb j (by omega))) (Or.inl ⟨rfl, by omega⟩)
  · subst hk
    exact br_f cd_10 (k _ _ _ _ hK)
end
end
section
/-! Y: the search -/
/-- the trial: t of them have their registers f -/
def ys_S (M : Nat) (f : Nat → Nat) (t : Nat) (tr : Nat → Int32) : Prop := ∀ u, u < 8 → tr u = if M.testBit u = true then -2 else if u < t then nI (f u) else -1
def ys_V (K : Nat → Nat → Bool) (k M : Nat) (f : Nat → Nat) (t : Nat) : Prop := ∀ s, s < t → f s < sr_mo k M s ∧ sr_ok K M f s
def ys_E (K : Nat → Nat → Bool) (k M : Nat) (D0 : (Nat → Nat) → Prop) (f : Nat → Nat) (t c : Nat) : Prop := ∀ Q, sr_VA K k M Q → (sr_Dn f t c Q ↔ D0 Q)
theorem ys_S1 {M t c : Nat} {f g : Nat → Nat} {tr : Nat → Int32} (ht : t < 8) (hm : M.testBit t = false) (h : ys_S M f t tr ∨ ys_S M f (t + 1) tr) (hg : ∀ u, u < t → f u = g u) : ys_S M (xs_g g t c) (t + 1) (upd tr t (nI c)) := by
  intro u hu
  by_cases e : u = t
  · rw [e, cd_us, hm, if_neg (by decide), if_pos (by omega), xs_gt]
  · rw [cd_un e]
    rcases h with h | h
    · rw [h u hu]
      by_cases z : u < t
      · rw [if_pos z, if_pos (show u < t + 1 by omega), xs_gu z, hg u z]
      · rw [if_neg z, if_neg (show ¬ u < t + 1 by omega)]
    · rw [h u hu]
      by_cases z : u < t
      · rw [if_pos (show u < t + 1 by omega), if_pos (show u < t + 1 by omega), xs_gu z, hg u z]
      · rw [if_neg (show ¬ u < t + 1 by omega), if_neg (show ¬ u < t + 1 by omega)]
theorem ys_Sm {M t : Nat} {f : Nat → Nat} {tr : Nat → Int32} (hm : M.testBit t = true) (h : ys_S M f (t + 1) tr) : ys_S M f t tr := by
  intro u hu
  rw [h u hu]
  by_cases e : u = t
  · rw [e, hm, if_pos rfl, if_pos rfl]
  · by_cases z : u < t
    · rw [if_pos z, if_pos (show u < t + 1 by omega)]
    · rw [if_neg z, if_neg (show ¬ u < t + 1 by omega)]
theorem ys_Sm' {M t : Nat} {f : Nat → Nat} {tr : Nat → Int32} (hm : M.testBit t = true) (h : ys_S M f t tr) : ys_S M (xs_g f t 0) (t + 1) tr := by
  intro u hu
  rw [h u hu]
  by_cases e : u = t
  · rw [e, hm, if_pos rfl, if_pos rfl]
  · by_cases z : u < t
    · rw [if_pos z, if_pos (show u < t + 1 by omega), xs_gu z]
    · rw [if_neg z, if_neg (show ¬ u < t + 1 by omega)]
theorem ys_S0 {M t : Nat} {f g : Nat → Nat} {tr : Nat → Int32} (hm : M.testBit t = false) (h : ys_S M f (t + 1) tr) (hg : ∀ u, u < t → f u = g u) : ys_S M g t (upd tr t (-1)) := by
  intro u hu
  by_cases e : u = t
  · rw [e, cd_us, hm, if_neg (by decide), if_neg (by omega)]
  · rw [cd_un e, h u hu]
    by_cases z : u < t
    · rw [if_pos z, if_pos (show u < t + 1 by omega), hg u z]
    · rw [if_neg z, if_neg (show ¬ u < t + 1 by omega)]
theorem ys_SP {M : Nat} {f : Nat → Nat} {tr : Nat → Int32} (h : ys_S M f 8 tr) : xs_P M f tr := by
  intro u hu
  rw [h u hu, if_pos hu]
theorem ys_V1 {K : Nat → Nat → Bool} {k M t c : Nat} {f : Nat → Nat} (h : ys_V K k M f t) (hc : c < sr_mo k M t) (hok : sr_ok K M (xs_g f t c) t) : ys_V K k M (xs_g f t c) (t + 1) := by
  intro s hs
  by_cases e : s = t
  · rw [e, xs_gt]
    exact ⟨hc, hok⟩
  · rw [xs_gu (by omega)]
    have h' := h s (by omega)
    exact ⟨h'.1, sr_okc (fun u hu => (xs_gu (by omega)).symm) h'.2⟩
theorem ys_E1 {K : Nat → Nat → Bool} {k M t c : Nat} {D0 : (Nat → Nat) → Prop} {f : Nat → Nat} (h : ys_E K k M D0 f t c) : ys_E K k M D0 (xs_g f t c) (t + 1) 0 := fun Q hQ =>
  (sr_in (fun u hu => (xs_gu hu).symm) xs_gt Q).trans (h Q hQ)
theorem ys_Eo {K : Nat → Nat → Bool} {k M t : Nat} {D0 : (Nat → Nat) → Prop} {f : Nat → Nat} (ht : t + 1 < 8) (h : ys_E K k M D0 f (t + 1) (sr_mo k M (t + 1))) : ys_E K k M D0 f t (f t + 1) := fun Q hQ =>
  (sr_out (hQ (t + 1) ht).1).trans (h Q hQ)
theorem ys_Es {K : Nat → Nat → Bool} {k M t c : Nat} {D0 : (Nat → Nat) → Prop} {f : Nat → Nat} (ht : t < 8) (hn : ¬ sr_ok K M (xs_g f t c) t) (h : ys_E K k M D0 f t c) : ys_E K k M D0 f t (c + 1) := fun Q hQ => by
  refine (sr_skip (fun ha hb => hn (sr_okc (fun u hu => ?_) (hQ t ht).2))).trans (h Q hQ)
  rcases Nat.lt_or_ge u t with y | y
  · rw [xs_gu y]
    exact ha u y
  · have e : u = t := by omega
    subst e
    rw [xs_gt]
    exact hb
theorem ys_E0 {K : Nat → Nat → Bool} {k M : Nat} {D0 : (Nat → Nat) → Prop} {f : Nat → Nat} (h : ys_E K k M D0 f 0 (sr_mo k M 0)) : ∀ Q, sr_VA K k M Q → D0 Q := fun Q hQ =>
  (h Q hQ).mp (Or.inr ⟨fun u hu => absurd hu (by omega), (hQ 0 (by omega)).1⟩)
section
variable {f_n f_k f_known f_placed f_memory f_saved f_waiting f_forward : Int32} {a_ops a_ds a_as a_bs a_before a_ways a_clash a_costs a_best a_trial a_inputs a_outputs a_cells a_spent : Nat → Int32} {post : Int32 → SY → Prop} {K : Nat → Nat → Bool} {k M : Nat}
theorem ys_fits {q : Int32 → Prop} (hcl : ∀ t, t < 8 → cd_R (a_clash t) (fun u => K t u = true)) {t : Nat} (ht : t < 8) (hm : M.testBit t = false) {g : Nat → Nat} (hg : ∀ u, u ≤ t → g u < 100) (hS : ys_S M g (t + 1) a_trial) (k1 : sr_ok K M g t → q 1) (k0 : ¬ sr_ok K M g t → q 0) : (wpY_fits q (f_n, f_k, f_known, f_placed, f_memory, f_saved, f_waiting, f_forward, a_ops, a_ds, a_as, a_bs, a_before, a_ways, a_clash, a_costs, a_best, a_trial, a_inputs, a_outputs, a_cells, a_spent) (nI t)) := by
  have hvt : vp_in (nI t) 8 := vp_in_nI ht (by decide)
  have et : (nI t).toNatClampNeg = t := nI_clamp (by omega)
  have ht' : a_trial t = nI (g t) := by rw [hS t ht, hm, if_neg (by decide), if_pos (by omega)]
  have main : ∀ d j, j + d = t → (∀ u, u < j → g u = g t → ¬ sr_cf K M t u) → (wY_fits_2 q (nI t) f_n f_k f_known f_placed f_memory f_saved f_waiting f_forward a_ops a_ds a_as a_bs a_before a_ways a_clash a_costs a_best a_trial a_inputs a_outputs a_cells a_spent (d + 1) (nI j)) := by
    intro d
    induction d with
    | zero =>
      intro j hj h
      have ej : j = t := by omega
      subst ej
      exact pk_le j j (fun _ => k1 h) (fun z => absurd z (by omega))
    | succ d ih =>
      intro j hj h
      have hjt : j < t := by omega
      have ej : (nI j).toNatClampNeg = j := nI_clamp (by omega)
      have go : (g j = g t → ¬ sr_cf K M t j) → (wY_fits_2 q (nI t) f_n f_k f_known f_placed f_memory f_saved f_waiting f_forward a_ops a_ds a_as a_bs a_before a_ways a_clash a_costs a_best a_trial a_inputs a_outputs a_cells a_spent (d + 1) (nI (j + 1))) := fun h1 => ih (j + 1) (by omega) (fun u hu => by
        rcases Nat.lt_or_ge u j with y | y
        · exact h u y
        · have e : u = j := by omega
          subst e
          exact h1)
      refine pk_le t j (fun z => absurd z (by omega)) (fun _ => ⟨vp_in_nI (by omega) (by decide), hvt, ?_⟩)
      rw [et, ej, ht']
      have hj' := hS j (by omega)
      cases hmj : M.testBit j
      · rw [hmj, if_neg (by decide), if_pos (by omega)] at hj'
        rw [hj']
        have b1 := hg j (by omega)
        have b2 := hg t (by omega)
        refine pk_eq (g j) (g t) (fun eg => ⟨hvt, cd_r1 (hcl t ht) (by omega) (fun hk => k0 (fun ho => ho j hjt eg ⟨hm, hmj, hk⟩)) (fun hk => nm_r (nI_1 j) (go (fun _ z => hk z.2.2)))⟩) (fun eg => nm_r (nI_1 j) (go (fun z => absurd z eg)))
      · rw [hmj, if_pos rfl] at hj'
        rw [hj']
        have b2 := hg t (by omega)
        refine br_f (fun z => cd_n2 (by omega) z.symm) (nm_r (nI_1 j) (go (fun _ z => ?_)))
        rw [z.2.1] at hmj
        exact absurd hmj (by decide)
  exact ⟨t + 1, main t 0 (by omega) (fun u hu => absurd hu (by omega))⟩
theorem ys_105 {J50 : (Int32 → Int32 → (Nat → Int32) → (Nat → Int32) → (Nat → Int32) → (Nat → Int32) → (Nat → Int32) → (Nat → Int32) → (Nat → Int32) → (Nat → Int32) → (Nat → Int32) → (Nat → Int32) → (Nat → Int32) → (Nat → Int32) → (Nat → Int32) → (Nat → Int32) → Prop)} (hk8 : k ≤ 8) (hcl : ∀ t, t < 8 → cd_R (a_clash t) (fun u => K t u = true)) {t : Nat} (ht : t < 8) (hm : M.testBit t = false) {f : Nat → Nat} (hV : ys_V K k M f t) {D0 : (Nat → Nat) → Prop} {c0 : Nat}
    (k1 : ∀ c tr, c0 ≤ c → c < k → sr_ok K M (xs_g f t c) t → ys_E K k M D0 f t c → ys_S M (xs_g f t c) (t + 1) tr → J50 (nI (t + 1)) 1 a_ops a_ds a_as a_bs a_before a_ways a_clash a_costs a_best tr a_inputs a_outputs a_cells a_spent)
    (k0 : ∀ tr, ys_E K k M D0 f t k → ys_S M f t tr → J50 (nI t + (-1)) 0 a_ops a_ds a_as a_bs a_before a_ways a_clash a_costs a_best tr a_inputs a_outputs a_cells a_spent) :
    ∀ d c tr, c0 ≤ c → c + d = k → ys_E K k M D0 f t c → ys_S M (xs_g f t c) (t + 1) tr → (wY_next_105 post J50 (nI k) (nI t) f_n f_k f_known f_placed f_memory f_saved f_waiting f_forward (d + 1) a_ops a_ds a_as a_bs a_before a_ways a_clash a_costs a_best tr a_inputs a_outputs a_cells a_spent) := by
  have hvt : vp_in (nI t) 8 := vp_in_nI ht (by decide)
  have et : (nI t).toNatClampNeg = t := nI_clamp (by omega)
  intro d
  induction d with
  | zero =>
    intro c tr hc0 hc hE hS
    have ec : c = k := by omega
    subst ec
    have ht' : tr t = nI c := by rw [hS t ht, hm, if_neg (by decide), if_pos (by omega), xs_gt]
    refine ⟨hvt, ?_⟩
    rw [et, ht']
    refine pk_le c c (fun _ => ⟨hvt, ?_⟩) (fun z => absurd z (by omega))
    rw [et, ht']
    refine pk_le c c (fun _ => ⟨rfl, rfl, br_t rfl ⟨hvt, ?_⟩⟩) (fun z => absurd z (by omega))
    rw [et]
    exact nm_e (br_t rfl (nm_e (k0 _ hE (ys_S0 hm hS (fun u hu => xs_gu hu)))))
  | succ d ih =>
    intro c tr hc0 hc hE hS
    have ht' : tr t = nI c := by rw [hS t ht, hm, if_neg (by decide), if_pos (by omega), xs_gt]
    refine ⟨hvt, ?_⟩
    rw [et, ht']
    refine pk_le k c (fun z => absurd z (by omega)) (fun _ => ?_)
    refine ys_fits hcl ht hm (fun u hu => ?_) hS (fun ok => br_f cd_10 ⟨hvt, ?_⟩) (fun nok => br_t rfl ⟨hvt, hvt, nm_r (by rw [nI_1]) (ih (c + 1) (upd tr t (nI (c + 1))) (by omega) (by omega) (ys_Es ht nok hE) (ys_S1 ht hm (Or.inr hS) (fun u hu => xs_gu hu)))⟩)
    · rcases Nat.lt_or_ge u t with y | y
      · rw [xs_gu y]
        have h1 := (hV u y).1
        have h2 : sr_mo k M u ≤ 8 := by
          unfold sr_mo
          split <;> omega
        omega
      · have e : u = t := by omega
        rw [e, xs_gt]
        omega
    · rw [et, ht']
      exact pk_le k c (fun z => absurd z (by omega)) (fun _ => ⟨rfl, rfl, br_f cd_10 (br_f cd_10 (nm_r (nI_1 t) (k1 c tr hc0 (by omega) ok hE hS)))⟩)
theorem ys_50 (hk8 : k ≤ 8) (hcl : ∀ t, t < 8 → cd_R (a_clash t) (fun u => K t u = true)) {D0 : (Nat → Nat) → Prop}
    (k1 : ∀ f tr, sr_VA K k M f → (∀ Q, sr_VA K k M Q → (sr_lx Q f ↔ D0 Q)) → ys_S M f 8 tr → post 1 (f_n, f_k, f_known, f_placed, f_memory, f_saved, f_waiting, 1, a_ops, a_ds, a_as, a_bs, a_before, a_ways, a_clash, a_costs, a_best, tr, a_inputs, a_outputs, a_cells, a_spent))
    (k0 : ∀ tr, (∀ Q, sr_VA K k M Q → D0 Q) → post 0 (f_n, f_k, f_known, f_placed, f_memory, f_saved, f_waiting, 0, a_ops, a_ds, a_as, a_bs, a_before, a_ways, a_clash, a_costs, a_best, tr, a_inputs, a_outputs, a_cells, a_spent)) :
    ∀ N f t fw tr, ((fw = 1 ∧ t ≤ 8 ∧ ys_V K k M f t ∧ ys_S M f t tr ∧ ys_E K k M D0 f t 0 ∧ sr_mu f t 0 + 1 < N) ∨ (fw = 0 ∧ t < 8 ∧ ys_V K k M f (t + 1) ∧ ys_S M f (t + 1) tr ∧ ys_E K k M D0 f t (f t + 1) ∧ sr_mu f t (f t + 1) + 1 < N)) →
      (wY_next_50 post (nI k) f_n f_k f_known f_placed f_memory f_saved f_waiting N (nI t) fw a_ops a_ds a_as a_bs a_before a_ways a_clash a_costs a_best tr a_inputs a_outputs a_cells a_spent) := by
  have hmo : ∀ u, sr_mo k M u ≤ 8 ∨ sr_mo k M u = 1 := fun u => by
    unfold sr_mo
    split <;> omega
  have hmo8 : ∀ u, sr_mo k M u ≤ 8 := fun u => by
    have := hmo u
    omega
  intro N
  induction N with
  | zero => intro f t fw tr h; omega
  | succ N ih =>
    intro f t fw tr h
    /- to the one before, the registers of t used up -/
    have back : ∀ t c tr', t < 8 → ys_V K k M f t → ys_E K k M D0 f t (sr_mo k M t) → ys_S M f t tr' → sr_mu f t c < N → (wY_next_50 post (nI k) f_n f_k f_known f_placed f_memory f_saved f_waiting N (nI t + (-1)) 0 a_ops a_ds a_as a_bs a_before a_ways a_clash a_costs a_best tr' a_inputs a_outputs a_cells a_spent) := fun t c tr' ht hV hE hS hN => by
      cases t with
      | zero =>
        obtain ⟨n', rfl⟩ : ∃ n', N = n' + 1 := ⟨N - 1, by omega⟩
        exact br_t (by decide) (br_f (by decide) (k0 tr' (ys_E0 hE)))
      | succ t =>
        rw [pk_m1]
        refine ih f t 0 tr' (Or.inr ⟨rfl, by omega, hV, hS, ys_Eo ht hE, ?_⟩)
        have h1 := (hV t (by omega)).1
        have h2 := hmo8 t
        have := sr_mu_out (f := f) (t := t) (c := c) (by omega) (by omega)
        omega
    rcases h with ⟨hfw, ht, hV, hS, hE, hN⟩ | ⟨hfw, ht, hV, hS, hE, hN⟩
    · subst hfw
      by_cases e8 : t = 8
      · subst e8
        exact br_f (by decide) (br_t (by decide) (br_t rfl (k1 f tr (fun t ht => hV t ht) (fun Q hQ => sr_lx8.symm.trans (hE Q hQ)) hS)))
      · have ht8 : t < 8 := by omega
        have hvt : vp_in (nI t) 8 := vp_in_nI ht8 (by decide)
        refine br_f (nI_pos (by omega)) (br_f (nI_ge (b := 8) ht8 (by decide)) ⟨hvt, ?_⟩)
        rw [nI_clamp (by omega)]
        have hS' := hS t ht8
        cases hm : M.testBit t
        · rw [hm, if_neg (by decide), if_neg (by omega)] at hS'
          rw [hS']
          have emo : sr_mo k M t = k := by
            unfold sr_mo
            rw [hm, if_neg (by decide)]
          refine br_f (by decide) ⟨hvt, hvt, nm_r (e' := upd tr t (nI 0)) (congrArg (upd tr t) (by decide)) ⟨k + 1, ?_⟩⟩
          refine ys_105 hk8 hcl ht8 hm hV (c0 := 0) (fun c tr' h0 h1 h2 h3 h4 => ?_) (fun tr' h1 h2 => ?_) k 0 _ (Nat.le_refl _) (by omega) hE (ys_S1 ht8 hm (Or.inl hS) (fun _ _ => rfl))
          · refine ih _ (t + 1) 1 tr' (Or.inl ⟨rfl, by omega, ys_V1 hV (by omega) h2, h4, ys_E1 h3, ?_⟩)
            have := sr_mu_in (f := f) (g := xs_g f t c) (t := t) (c := 0) (c' := c) (fun u hu => xs_gu hu) xs_gt h0 (by omega) ht8
            omega
          · exact back t 0 tr' ht8 hV (by rw [emo]; exact h1) h2 (by omega)
        · rw [hm, if_pos rfl] at hS'
          rw [hS']
          refine br_t rfl (br_f cd_10 (nm_r (nI_1 t) (ih _ (t + 1) 1 tr (Or.inl ⟨rfl, by omega, ys_V1 hV ?_ (xs_okm hm), ys_Sm' hm hS, ys_E1 hE, ?_⟩))))
          · unfold sr_mo
            rw [hm, if_pos rfl]
            decide
          · have := sr_mu_in (f := f) (g := xs_g f t 0) (t := t) (c := 0) (c' := 0) (fun u hu => xs_gu hu) xs_gt (Nat.le_refl _) (by omega) ht8
            omega
    · subst hfw
      have hvt : vp_in (nI t) 8 := vp_in_nI ht (by decide)
      refine br_f (nI_pos (by omega)) (br_f (nI_ge (b := 8) ht (by decide)) ⟨hvt, ?_⟩)
      rw [nI_clamp (by omega)]
      have hS' := hS t ht
      have hft := (hV t (by omega)).1
      have hVt : ys_V K k M f t := fun s hs => hV s (by omega)
      cases hm : M.testBit t
      · have emo : sr_mo k M t = k := by
          unfold sr_mo
          rw [hm, if_neg (by decide)]
        rw [hm, if_neg (by decide), if_pos (by omega)] at hS'
        rw [hS']
        refine br_f (cd_n2 (by omega)) ⟨hvt, hvt, nm_r (e' := upd tr t (nI (f t + 1))) (by rw [nI_1]) ⟨k - (f t + 1) + 1, ?_⟩⟩
        refine ys_105 hk8 hcl ht hm hVt (c0 := f t + 1) (fun c tr' h0 h1 h2 h3 h4 => ?_) (fun tr' h1 h2 => ?_) (k - (f t + 1)) (f t + 1) _ (Nat.le_refl _) (by omega) hE (ys_S1 ht hm (Or.inr hS) (fun _ _ => rfl))
        · refine ih _ (t + 1) 1 tr' (Or.inl ⟨rfl, by omega, ys_V1 hVt (by omega) h2, h4, ys_E1 h3, ?_⟩)
          have := sr_mu_in (f := f) (g := xs_g f t c) (t := t) (c := f t + 1) (c' := c) (fun u hu => xs_gu hu) xs_gt h0 (by omega) ht
          omega
        · exact back t (f t + 1) tr' ht hVt (by rw [emo]; exact h1) h2 (by omega)
      · have emo : sr_mo k M t = 1 := by
          unfold sr_mo
          rw [hm, if_pos rfl]
        rw [hm, if_pos rfl] at hS'
        rw [hS']
        have ef : f t + 1 = sr_mo k M t := by omega
        refine br_t rfl (br_t rfl (nm_e (back t (f t + 1) tr ht hVt (by rw [← ef]; exact hE) (ys_Sm hm hS) (by omega))))
theorem ys_11 {x1 : Int32} (hx1 : x1 = nI M) {x2 : Int32} (kk : ∀ tr, ys_S M (fun _ => 0) 0 tr → ∃ n50, (wY_next_50 post x2 f_n f_k f_known f_placed f_memory f_saved f_waiting n50 0 f_forward a_ops a_ds a_as a_bs a_before a_ways a_clash a_costs a_best tr a_inputs a_outputs a_cells a_spent)) :
    ∀ d j tr, j + d = 8 → (∀ u, u < j → tr u = if M.testBit u = true then -2 else -1) → (wY_next_11 post x1 x2 f_n f_k f_known f_placed f_memory f_saved f_waiting f_forward (d + 1) (nI j) a_ops a_ds a_as a_bs a_before a_ways a_clash a_costs a_best tr a_inputs a_outputs a_cells a_spent) := by
  subst hx1
  intro d
  induction d with
  | zero =>
    intro j tr hj h
    have ej : j = 8 := by omega
    subst ej
    exact br_t (by decide) (kk tr (fun u hu => by rw [h u hu, if_neg (by omega : ¬ u < 0)]))
  | succ d ih =>
    intro j tr hj h
    have hv : vp_in (nI j) 8 := vp_in_nI (by omega) (by decide)
    have e : (nI j).toNatClampNeg = j := nI_clamp (by omega)
    have go : ∀ x, x = (if M.testBit j = true then -2 else -1) → (wY_next_11 post (nI M) x2 f_n f_k f_known f_placed f_memory f_saved f_waiting f_forward (d + 1) (nI (j + 1)) a_ops a_ds a_as a_bs a_before a_ways a_clash a_costs a_best (upd tr j x) a_inputs a_outputs a_cells a_spent) := fun x hx => ih (j + 1) _ (by omega) (fun u hu => by
      by_cases e : u = j
      · rw [e, cd_us, hx]
      · rw [cd_un e]
        exact h u (by omega))
    refine br_f (nI_ge (b := 8) (by omega) (by decide)) (cd_r1 (cd_Rn (s := M)) (by omega) (fun m1 => ⟨hv, ?_⟩) (fun m1 => ⟨hv, ?_⟩))
    · rw [e]
      exact nm_e (nm_r (nI_1 j) (go (-2) (by rw [if_pos m1])))
    · rw [e]
      exact nm_e (nm_r (nI_1 j) (go (-1) (by rw [if_neg m1])))
theorem ys_next1 (hk8 : k ≤ 8) (hcl : ∀ t, t < 8 → cd_R (a_clash t) (fun u => K t u = true)) (hfw : f_forward = 1) {x2 : Int32} (hx2 : x2 = nI k) {x1 : Int32} (hx1 : x1 = nI M)
    (k1 : ∀ f tr, sr_VA K k M f → (∀ Q, sr_VA K k M Q → ¬ sr_lx Q f) → ys_S M f 8 tr → post 1 (f_n, f_k, f_known, f_placed, f_memory, f_saved, f_waiting, 1, a_ops, a_ds, a_as, a_bs, a_before, a_ways, a_clash, a_costs, a_best, tr, a_inputs, a_outputs, a_cells, a_spent))
    (k0 : ∀ tr, (∀ Q, ¬ sr_VA K k M Q) → post 0 (f_n, f_k, f_known, f_placed, f_memory, f_saved, f_waiting, 0, a_ops, a_ds, a_as, a_bs, a_before, a_ways, a_clash, a_costs, a_best, tr, a_inputs, a_outputs, a_cells, a_spent)) : (wpY_next post (f_n, f_k, f_known, f_placed, f_memory, f_saved, f_waiting, f_forward, a_ops, a_ds, a_as, a_bs, a_before, a_ways, a_clash, a_costs, a_best, a_trial, a_inputs, a_outputs, a_cells, a_spent) x1 x2 1) := by
  subst hfw hx2
  refine br_f cd_10 ⟨9, ys_11 hx1 (fun tr hS => ⟨sr_mu (fun _ => 0) 0 0 + 2, ?_⟩) 8 0 a_trial (by omega) (fun u hu => absurd hu (by omega))⟩
  refine ys_50 (D0 := fun _ => False) hk8 hcl (fun f tr h1 h2 h3 => k1 f tr h1 (fun Q hQ hl => (h2 Q hQ).mp hl) h3) (fun tr h => k0 tr (fun Q hQ => h Q hQ)) _ (fun _ => 0) 0 1 tr (Or.inl ⟨rfl, by omega, fun s hs => absurd hs (by omega), hS, fun Q hQ => ?_, by omega⟩)
  constructor
  · rintro (⟨s, hs, _⟩ | ⟨_, hs⟩)
    · omega
    · omega
  · exact fun z => z.elim
theorem ys_next0 (hk8 : k ≤ 8) (hcl : ∀ t, t < 8 → cd_R (a_clash t) (fun u => K t u = true)) (hfw : f_forward = 0) {x1 x2 : Int32} (hx2 : x2 = nI k) {f : Nat → Nat} (hV : sr_VA K k M f) (hS : ys_S M f 8 a_trial)
    (k1 : ∀ f' tr, sr_VA K k M f' → (∀ Q, sr_VA K k M Q → (sr_lx Q f' ↔ sr_Dn f 7 (f 7 + 1) Q)) → ys_S M f' 8 tr → post 1 (f_n, f_k, f_known, f_placed, f_memory, f_saved, f_waiting, 1, a_ops, a_ds, a_as, a_bs, a_before, a_ways, a_clash, a_costs, a_best, tr, a_inputs, a_outputs, a_cells, a_spent))
    (k0 : ∀ tr, (∀ Q, sr_VA K k M Q → sr_Dn f 7 (f 7 + 1) Q) → post 0 (f_n, f_k, f_known, f_placed, f_memory, f_saved, f_waiting, 0, a_ops, a_ds, a_as, a_bs, a_before, a_ways, a_clash, a_costs, a_best, tr, a_inputs, a_outputs, a_cells, a_spent)) : (wpY_next post (f_n, f_k, f_known, f_placed, f_memory, f_saved, f_waiting, f_forward, a_ops, a_ds, a_as, a_bs, a_before, a_ways, a_clash, a_costs, a_best, a_trial, a_inputs, a_outputs, a_cells, a_spent) x1 x2 0) := by
  subst hfw hx2
  refine br_t rfl ⟨sr_mu f 7 (f 7 + 1) + 2, ?_⟩
  exact ys_50 (D0 := sr_Dn f 7 (f 7 + 1)) hk8 hcl k1 k0 _ f 7 0 a_trial (Or.inr ⟨rfl, by omega, fun s hs => hV s (by omega), hS, fun Q _ => Iff.rfl, by omega⟩)
theorem ys_possible (hk8 : k ≤ 8) (hcl : ∀ t, t < 8 → cd_R (a_clash t) (fun u => K t u = true)) {x2 : Int32} (hx2 : x2 = nI k) {x1 : Int32} (hx1 : x1 = nI M)
    (k1 : ∀ tr, (∃ Q, sr_VA K k M Q) → post 1 (f_n, f_k, f_known, f_placed, f_memory, f_saved, f_waiting, 1, a_ops, a_ds, a_as, a_bs, a_before, a_ways, a_clash, a_costs, a_best, tr, a_inputs, a_outputs, a_cells, a_spent)) (k0 : ∀ tr, ¬ (∃ Q, sr_VA K k M Q) → post 0 (f_n, f_k, f_known, f_placed, f_memory, f_saved, f_waiting, 0, a_ops, a_ds, a_as, a_bs, a_before, a_ways, a_clash, a_costs, a_best, tr, a_inputs, a_outputs, a_cells, a_spent)) : (wpY_possible post (f_n, f_k, f_known, f_placed, f_memory, f_saved, f_waiting, f_forward, a_ops, a_ds, a_as, a_bs, a_before, a_ways, a_clash, a_costs, a_best, a_trial, a_inputs, a_outputs, a_cells, a_spent) x1 x2) := by
  refine ys_next1 hk8 hcl rfl hx2 hx1 (fun f tr h1 h2 h3 => ⟨rfl, k1 tr ⟨f, h1⟩⟩) (fun tr h => ⟨rfl, k0 tr (fun ⟨Q, hQ⟩ => h Q hQ)⟩)
theorem ys_least (hK : co_sy K) (hcl : ∀ t, t < 8 → cd_R (a_clash t) (fun u => K t u = true)) {m : Nat} (hm8 : m ≤ 8) (hN : co_Nd K 255 m) (kk : ∀ fw tr, post (nI m) (f_n, f_k, f_known, f_placed, f_memory, f_saved, f_waiting, fw, a_ops, a_ds, a_as, a_bs, a_before, a_ways, a_clash, a_costs, a_best, tr, a_inputs, a_outputs, a_cells, a_spent)) :
    ∀ d r fw tr, 0 < r → r + d = m → (wY_least_6 post (d + 1) (nI r) f_n f_k f_known f_placed f_memory f_saved f_waiting fw a_ops a_ds a_as a_bs a_before a_ways a_clash a_costs a_best tr a_inputs a_outputs a_cells a_spent) := by
  intro d
  induction d with
  | zero =>
    intro r fw tr h0 hr
    have er : r = m := by omega
    subst er
    rw [wY_least_6]
    refine ys_possible (M := 0) hm8 hcl rfl rfl (fun tr' _ => br_f cd_10 (kk 1 tr')) (fun tr' hn => absurd ((co_VA hK).mpr ?_) hn)
    exact (hN r).mpr (Nat.le_refl _)
  | succ d ih =>
    intro r fw tr h0 hr
    rw [wY_least_6]
    refine ys_possible (M := 0) (k := r) (by omega) hcl rfl rfl (fun tr' hx => ?_) (fun tr' _ => br_t rfl (nm_r (nI_1 r) (ih (r + 1) 0 tr' (by omega) (by omega))))
    have h1 : co_Cb K 255 r := (co_VA hK).mp hx
    have := (hN r).mp h1
    omega
end
end
section
/-! Y: the best allocation -/
section
variable {f_n f_k f_known f_placed f_memory f_saved f_waiting f_forward : Int32} {a_ops a_ds a_as a_bs a_before a_ways a_clash a_costs a_best a_trial a_inputs a_outputs a_cells a_spent : Nat → Int32} {c : cd_T} {post : Int32 → SY → Prop} {k M : Nat}
theorem ya_sum {q : Int32 → Prop} (hco : ∀ t, t < 8 → a_costs t = nI (cd_cost c t)) {s : Nat} (kk : q (nI (cd_cs c s))) : (wpY_sum q (f_n, f_k, f_known, f_placed, f_memory, f_saved, f_waiting, f_forward, a_ops, a_ds, a_as, a_bs, a_before, a_ways, a_clash, a_costs, a_best, a_trial, a_inputs, a_outputs, a_cells, a_spent) (nI s)) := by
  have main : ∀ d j x2, j + d = 8 → x2 = nI (cd_sg (cd_cs1 c s) j) → (wY_sum_4 q (nI s) f_n f_k f_known f_placed f_memory f_saved f_waiting f_forward a_ops a_ds a_as a_bs a_before a_ways a_clash a_costs a_best a_trial a_inputs a_outputs a_cells a_spent (d + 1) x2 (nI j)) := by
    intro d
    induction d with
    | zero =>
      intro j x2 hj hx
      have ej : j = 8 := by omega
      subst ej hx
      exact br_t (by decide) kk
    | succ d ih =>
      intro j x2 hj hx
      refine br_f (nI_ge (b := 8) (by omega) (by decide)) (cd_r1 (cd_Rn (s := s)) (by omega) (fun hb => ⟨vp_in_nI (by omega) (by decide), nm_e (nm_r (nI_1 j) (ih (j + 1) _ (by omega) ?_))⟩) (fun hb => nm_r (nI_1 j) (ih (j + 1) x2 (by omega) ?_)))
      · rw [nI_clamp (by omega), hco j (by omega), hx, nI_add, cd_sgs]
        congr 2
        unfold cd_cs1
        rw [if_pos hb]
      · rw [hx, cd_sgs]
        unfold cd_cs1
        rw [if_neg hb]
        rfl
  exact ⟨9, main 8 0 0 (by omega) rfl⟩
theorem ya_saved_trial {q : Int32 → Prop} (hc : cd_Is c f_n a_ops a_ds a_as a_bs) {i : Nat} (hi : i < cd_n c) {f : Nat → Nat} (hP : xs_P M f a_trial) (hf : ∀ t, t < 8 → f t < 100) (k1 : ms_sv c M f i = true → q 1) (k0 : ms_sv c M f i = false → q 0) : (wpY_isSaved__trial q (f_n, f_k, f_known, f_placed, f_memory, f_saved, f_waiting, f_forward, a_ops, a_ds, a_as, a_bs, a_before, a_ways, a_clash, a_costs, a_best, a_trial, a_inputs, a_outputs, a_cells, a_spent) (nI i)) := by
  have hn := hc.2.1
  have h1 := hc.2.2 i hi
  have hv : vp_in (nI i) 20 := vp_in_nI (by omega) (by decide)
  have e : (nI i).toNatClampNeg = i := nI_clamp (by omega)
  have ho := h1.2.1
  have t1 : (cd_o c i = 5 ∧ (cd_d c i = cd_a c i ∨ (M.testBit (cd_d c i) = false ∧ M.testBit (cd_a c i) = false ∧ f (cd_d c i) = f (cd_a c i)))) → q 1 := fun z => k1 (decide_eq_true z)
  have t0 : ¬ (cd_o c i = 5 ∧ (cd_d c i = cd_a c i ∨ (M.testBit (cd_d c i) = false ∧ M.testBit (cd_a c i) = false ∧ f (cd_d c i) = f (cd_a c i)))) → q 0 := fun z => k0 (decide_eq_false z)
  refine ⟨hv, ?_⟩
  rw [e, h1.1]
  refine pk_eq (cd_o c i) 5 (fun o5 => ⟨hv, hv, ?_⟩) (fun o5 => t0 (fun z => o5 z.1))
  have hd := h1.2.2.1 (cd_dft (by omega))
  have ha := h1.2.2.2.1 (cd_uat (by omega))
  have hvd : vp_in (nI (cd_d c i)) 8 := vp_in_nI hd.2 (by decide)
  rw [hd.1, ha.1]
  refine pk_eq (cd_d c i) (cd_a c i) (fun y => t1 ⟨o5, Or.inl y⟩) (fun y => ⟨hv, hvd, hv, vp_in_nI ha.2 (by decide), ?_⟩)
  have pd := hP (cd_d c i) hd.2
  have pa := hP (cd_a c i) ha.2
  have fd := hf (cd_d c i) hd.2
  have fa := hf (cd_a c i) ha.2
  rw [nI_clamp (by omega), nI_clamp (by omega), pd, pa]
  cases md : M.testBit (cd_d c i)
  · rw [if_neg (by decide)]
    cases ma : M.testBit (cd_a c i)
    · rw [if_neg (by decide)]
      exact pk_eq (f (cd_d c i)) (f (cd_a c i)) (fun z => ⟨hv, hvd, br_f (cd_n2 (by omega)) (t1 ⟨o5, Or.inr ⟨md, ma, z⟩⟩)⟩) (fun z => t0 (fun w => w.2.elim y (fun x => z x.2.2)))
    · rw [if_pos rfl]
      refine br_f (cd_n2 (by omega)) (t0 (fun w => w.2.elim y (fun x => ?_)))
      rw [x.2.1] at ma
      exact absurd ma (by decide)
  · rw [if_pos rfl]
    have no : ¬ (cd_o c i = 5 ∧ (cd_d c i = cd_a c i ∨ (M.testBit (cd_d c i) = false ∧ M.testBit (cd_a c i) = false ∧ f (cd_d c i) = f (cd_a c i)))) := fun w => w.2.elim y (fun x => by
      rw [x.1] at md
      exact absurd md (by decide))
    exact br_c (fun _ => ⟨hv, hvd, br_t rfl (t0 no)⟩) (fun _ => t0 no)
theorem ya_saved_best {q : Int32 → Prop} (hc : cd_Is c f_n a_ops a_ds a_as a_bs) {i : Nat} (hi : i < cd_n c) {f : Nat → Nat} (hP : xs_P M f a_best) (hf : ∀ t, t < 8 → f t < 100) (k1 : ms_sv c M f i = true → q 1) (k0 : ms_sv c M f i = false → q 0) : (wpY_isSaved__best q (f_n, f_k, f_known, f_placed, f_memory, f_saved, f_waiting, f_forward, a_ops, a_ds, a_as, a_bs, a_before, a_ways, a_clash, a_costs, a_best, a_trial, a_inputs, a_outputs, a_cells, a_spent) (nI i)) := by
  have hn := hc.2.1
  have h1 := hc.2.2 i hi
  have hv : vp_in (nI i) 20 := vp_in_nI (by omega) (by decide)
  have e : (nI i).toNatClampNeg = i := nI_clamp (by omega)
  have ho := h1.2.1
  have t1 : (cd_o c i = 5 ∧ (cd_d c i = cd_a c i ∨ (M.testBit (cd_d c i) = false ∧ M.testBit (cd_a c i) = false ∧ f (cd_d c i) = f (cd_a c i)))) → q 1 := fun z => k1 (decide_eq_true z)
  have t0 : ¬ (cd_o c i = 5 ∧ (cd_d c i = cd_a c i ∨ (M.testBit (cd_d c i) = false ∧ M.testBit (cd_a c i) = false ∧ f (cd_d c i) = f (cd_a c i)))) → q 0 := fun z => k0 (decide_eq_false z)
  refine ⟨hv, ?_⟩
  rw [e, h1.1]
  refine pk_eq (cd_o c i) 5 (fun o5 => ⟨hv, hv, ?_⟩) (fun o5 => t0 (fun z => o5 z.1))
  have hd := h1.2.2.1 (cd_dft (by omega))
  have ha := h1.2.2.2.1 (cd_uat (by omega))
  have hvd : vp_in (nI (cd_d c i)) 8 := vp_in_nI hd.2 (by decide)
  rw [hd.1, ha.1]
  refine pk_eq (cd_d c i) (cd_a c i) (fun y => t1 ⟨o5, Or.inl y⟩) (fun y => ⟨hv, hvd, hv, vp_in_nI ha.2 (by decide), ?_⟩)
  have pd := hP (cd_d c i) hd.2
  have pa := hP (cd_a c i) ha.2
  have fd := hf (cd_d c i) hd.2
  have fa := hf (cd_a c i) ha.2
  rw [nI_clamp (by omega), nI_clamp (by omega), pd, pa]
  cases md : M.testBit (cd_d c i)
  · rw [if_neg (by decide)]
    cases ma : M.testBit (cd_a c i)
    · rw [if_neg (by decide)]
      exact pk_eq (f (cd_d c i)) (f (cd_a c i)) (fun z => ⟨hv, hvd, br_f (cd_n2 (by omega)) (t1 ⟨o5, Or.inr ⟨md, ma, z⟩⟩)⟩) (fun z => t0 (fun w => w.2.elim y (fun x => z x.2.2)))
    · rw [if_pos rfl]
      refine br_f (cd_n2 (by omega)) (t0 (fun w => w.2.elim y (fun x => ?_)))
      rw [x.2.1] at ma
      exact absurd ma (by decide)
  · rw [if_pos rfl]
    have no : ¬ (cd_o c i = 5 ∧ (cd_d c i = cd_a c i ∨ (M.testBit (cd_d c i) = false ∧ M.testBit (cd_a c i) = false ∧ f (cd_d c i) = f (cd_a c i)))) := fun w => w.2.elim y (fun x => by
      rw [x.1] at md
      exact absurd md (by decide))
    exact br_c (fun _ => ⟨hv, hvd, br_t rfl (t0 no)⟩) (fun _ => t0 no)
end
/-- Y's count of the best: v plus the MOVEs onto themselves -/
def ya_v (c : cd_T) (v : Nat) (sv : Int32) : Prop := (v = 0 ∧ sv = -1) ∨ (0 < v ∧ sv = nI (cd_sf c (cd_n c) + (v - 1)))
/-- what Y's best allocation is -/
def cd_YA (c : cd_T) (k : Nat) (me sv : Int32) (be : Nat → Int32) : Prop := ∃ M P, cd_MB c k M ∧ sr_BA (cd_K c) (cd_mv c) k M P ∧ me = nI M ∧ sv = nI (cd_sf c (cd_n c) + sr_sc (cd_mv c) M P 8) ∧ xs_P M P be
theorem ya_sfl (c : cd_T) (i : Nat) : cd_sf c i ≤ i := by
  have := cd_sgk (fun i => cd_01 (decide (cd_o c i = 5 ∧ cd_d c i = cd_a c i))) 1 i (fun j _ => cd_01l _)
  unfold cd_sf
  omega
theorem ya_100 {K : Nat → Nat → Bool} {k M : Nat} (hk : k ≤ 4) {f : Nat → Nat} (h : sr_VA K k M f) : ∀ t, t < 8 → f t < 100 := fun t ht => by
  have h1 := (h t ht).1
  have h2 := xs_mo (M := M) (t := t) hk
  omega
section
variable {f_n f_k f_known f_placed f_memory f_saved f_waiting f_forward : Int32} {a_ops a_ds a_as a_bs a_before a_ways a_clash a_costs a_best a_trial a_inputs a_outputs a_cells a_spent : Nat → Int32} {c : cd_T} {post : SY → Prop} {k M : Nat}
theorem ya_159 {J103 : (Int32 → Int32 → Int32 → Int32 → Int32 → Int32 → Int32 → Int32 → Int32 → (Nat → Int32) → (Nat → Int32) → (Nat → Int32) → (Nat → Int32) → (Nat → Int32) → (Nat → Int32) → (Nat → Int32) → (Nat → Int32) → (Nat → Int32) → (Nat → Int32) → (Nat → Int32) → (Nat → Int32) → (Nat → Int32) → (Nat → Int32) → Prop)} {f : Nat → Nat} (hP : xs_P M f a_trial) (kk : ∀ be, xs_P M f be → (wY_allocate_186 post J103 f_n f_k f_known f_placed f_memory f_saved f_waiting f_forward a_ops a_ds a_as a_bs a_before a_ways a_clash a_costs be a_trial a_inputs a_outputs a_cells a_spent)) :
    ∀ d j be, j + d = 8 → (∀ t, t < j → be t = if M.testBit t = true then -2 else nI (f t)) → (wY_allocate_159 post J103 f_n f_k f_known f_placed f_memory f_saved f_waiting f_forward (d + 1) (nI j) a_ops a_ds a_as a_bs a_before a_ways a_clash a_costs be a_trial a_inputs a_outputs a_cells a_spent) := by
  intro d
  induction d with
  | zero =>
    intro j be hj h
    have ej : j = 8 := by omega
    subst ej
    exact br_t (by decide) (kk be h)
  | succ d ih =>
    intro j be hj h
    have hv : vp_in (nI j) 8 := vp_in_nI (by omega) (by decide)
    refine br_f (nI_ge (b := 8) (by omega) (by decide)) ⟨hv, hv, ?_⟩
    rw [nI_clamp (by omega)]
    refine nm_e (nm_r (nI_1 j) (ih (j + 1) _ (by omega) (fun t ht => ?_)))
    by_cases e : t = j
    · rw [e, cd_us]
      exact hP j (by omega)
    · rw [cd_un e]
      exact h t (by omega)
theorem ya_112 {J103 : (Int32 → Int32 → Int32 → Int32 → Int32 → Int32 → Int32 → Int32 → Int32 → (Nat → Int32) → (Nat → Int32) → (Nat → Int32) → (Nat → Int32) → (Nat → Int32) → (Nat → Int32) → (Nat → Int32) → (Nat → Int32) → (Nat → Int32) → (Nat → Int32) → (Nat → Int32) → (Nat → Int32) → (Nat → Int32) → (Nat → Int32) → Prop)} (hc : cd_Is c f_n a_ops a_ds a_as a_bs) {f : Nat → Nat} (hP : xs_P M f a_trial) (hf : ∀ t, t < 8 → f t < 100)
    (kle : nI (cd_sf c (cd_n c) + sr_sc (cd_mv c) M f 8) ≤ f_saved → (wY_allocate_186 post J103 f_n f_k f_known f_placed f_memory f_saved f_waiting f_forward a_ops a_ds a_as a_bs a_before a_ways a_clash a_costs a_best a_trial a_inputs a_outputs a_cells a_spent))
    (kgt : ¬ nI (cd_sf c (cd_n c) + sr_sc (cd_mv c) M f 8) ≤ f_saved → ∃ n159, (wY_allocate_159 post J103 f_n f_k f_known f_placed f_memory (nI (cd_sf c (cd_n c) + sr_sc (cd_mv c) M f 8)) f_waiting f_forward n159 0 a_ops a_ds a_as a_bs a_before a_ways a_clash a_costs a_best a_trial a_inputs a_outputs a_cells a_spent)) :
    ∀ d j x3, j + d = cd_n c → x3 = nI (cd_sg (fun i => cd_01 (ms_sv c M f i)) j) → (wY_allocate_112 post J103 f_n f_k f_known f_placed f_memory f_saved f_waiting f_forward a_ops a_ds a_as a_bs a_before a_ways a_clash a_costs a_best a_trial a_inputs a_outputs a_cells a_spent (d + 1) x3 (nI j)) := by
  have hn := hc.2.1
  intro d
  induction d with
  | zero =>
    intro j x3 hj hx
    have ej : j = cd_n c := by omega
    subst ej
    rw [ms_score (ms_ok hc)] at hx
    subst hx
    exact pk_le (cd_n c) (cd_n c) (fun _ => ⟨kle, kgt⟩) (fun z => absurd z (by omega)) hc.1
  | succ d ih =>
    intro j x3 hj hx
    refine pk_le (cd_n c) j (fun z => absurd z (by omega)) (fun z => ?_) hc.1
    refine ya_saved_trial hc (by omega) hP hf (fun hs => br_f cd_10 (nm_e (nm_r (nI_1 j) (ih (j + 1) _ (by omega) ?_)))) (fun hs => br_t rfl (nm_r (nI_1 j) (ih (j + 1) x3 (by omega) ?_)))
    · rw [hx, nI_1, cd_sgs, hs]
      rfl
    · rw [hx, cd_sgs, hs]
      rfl
theorem ya_103 (hc : cd_Is c f_n a_ops a_ds a_as a_bs) (hk4 : k ≤ 4) (hk : f_k = nI k) (hM : f_memory = nI M) (hcl : ∀ t, t < 8 → cd_R (a_clash t) (fun u => cd_K c t u = true)) (hx : ∃ Q, sr_VA (cd_K c) k M Q)
    (kk : ∀ be fw tr P, sr_BA (cd_K c) (cd_mv c) k M P → xs_P M P be → post (f_n, f_k, f_known, f_placed, f_memory, nI (cd_sf c (cd_n c) + sr_sc (cd_mv c) M P 8), f_waiting, fw, a_ops, a_ds, a_as, a_bs, a_before, a_ways, a_clash, a_costs, be, tr, a_inputs, a_outputs, a_cells, a_spent)) :
    ∀ N f v P sv fw be tr, sr_m8 f + 2 < N → sr_VA (cd_K c) k M f → ys_S M f 8 tr → sr_BS (cd_K c) (cd_mv c) k M (sr_Dn f 8 0) v P → ya_v c v sv → (0 < v → xs_P M P be) → (wY_allocate_103 post N 1 f_n f_k f_known f_placed f_memory sv f_waiting fw a_ops a_ds a_as a_bs a_before a_ways a_clash a_costs be tr a_inputs a_outputs a_cells a_spent) := by
  have hn := hc.2.1
  have hW := ms_W hc
  have hsl := ya_sfl c (cd_n c)
  have hk8 : k ≤ 8 := by omega
  intro N
  induction N with
  | zero => intro f v P sv fw be tr h; omega
  | succ N ih =>
    intro f v P sv fw be tr hN hf hS hB hv hbe
    have hs20 := xs_s20 hW M f (Nat.le_refl 8)
    have hv21 := xs_v21 hW hB
    /- the next one, the best so far v', P' -/
    have nxt : ∀ v' P' sv' be', sr_BS (cd_K c) (cd_mv c) k M (sr_Dn f 7 (f 7 + 1)) v' P' → ya_v c v' sv' → (0 < v' → xs_P M P' be') → (wY_allocate_186 post (wY_allocate_103 post N) f_n f_k f_known f_placed f_memory sv' f_waiting fw a_ops a_ds a_as a_bs a_before a_ways a_clash a_costs be' tr a_inputs a_outputs a_cells a_spent) := fun v' P' sv' be' hB' hv' hbe' => by
      refine ys_next0 hk8 hcl rfl hk hf hS (fun f' tr' h1 h2 h3 => ?_) (fun tr' h => ?_)
      · have hl : sr_lx f f' := (h2 f hf).mpr (Or.inr ⟨fun _ _ => rfl, by omega⟩)
        have hm := sr_m8l hl (fun u hu => by
          have a1 := (h1 u hu).1
          have a2 := xs_mo (M := M) (t := u) hk4
          omega)
        exact ih f' v' P' sv' 1 be' tr' (by omega) h1 h3 (sr_BSi hB' (fun Q hQ => sr_lx8.trans (h2 Q hQ))) hv' hbe'
      · obtain ⟨n', rfl⟩ : ∃ n', N = n' + 1 := ⟨N - 1, by omega⟩
        have hfin := sr_fin hB' h hx
        have e : sv' = nI (cd_sf c (cd_n c) + sr_sc (cd_mv c) M P' 8) := by
          rcases hv' with ⟨z, _⟩ | ⟨_, z⟩
          · omega
          · rw [z]
            congr 2
            omega
        rw [e]
        exact br_t rfl (kk be' 0 tr' P' hfin.1 (hbe' (by omega)))
    refine br_f cd_10 ⟨cd_n c + 1, ?_⟩
    refine ya_112 hc (ys_SP hS) (ya_100 hk4 hf) (fun hle => nxt v P sv be (sr_BSn hB ?_) hv hbe) (fun hgt => ⟨9, ?_⟩) (cd_n c) 0 0 (by omega) rfl
    · rcases hv with ⟨z, y⟩ | ⟨z, y⟩
      · rw [y] at hle
        exfalso
        rw [Int32.le_iff_toInt_le, nI_toInt (by omega), show (-1 : Int32).toInt = -1 by decide] at hle
        omega
      · rw [y, nI_leI (by omega) (by omega)] at hle
        omega
    · refine ya_159 (ys_SP hS) (fun be' hbe' => nxt (sr_sc (cd_mv c) M f 8 + 1) f _ be' (sr_BSk hB hf ?_) (Or.inr ⟨by omega, rfl⟩) (fun _ => hbe')) 8 0 be (by omega) (fun t ht => absurd ht (by omega))
      rcases hv with ⟨z, y⟩ | ⟨z, y⟩
      · omega
      · rw [y, nI_leI (by omega) (by omega)] at hgt
        omega
def ya_R (v M : Nat) (me le : Int32) : Prop := (v = 0 ∧ me = -1) ∨ (0 < v ∧ v ≤ 4801 ∧ M < 256 ∧ me = nI M ∧ le = nI (v - 1))
theorem ya_26 (hc : cd_Is c f_n a_ops a_ds a_as a_bs) (hk4 : k ≤ 4) (hk : f_k = nI k) (hcl : ∀ t, t < 8 → cd_R (a_clash t) (fun u => cd_K c t u = true)) (hco : ∀ t, t < 8 → a_costs t = nI (cd_cost c t))
    (kk : ∀ me sv be fw tr, cd_YA c k me sv be → post (f_n, f_k, f_known, f_placed, me, sv, f_waiting, fw, a_ops, a_ds, a_as, a_bs, a_before, a_ways, a_clash, a_costs, be, tr, a_inputs, a_outputs, a_cells, a_spent)) :
    ∀ d s v M le me fw tr, s + d = 256 → ya_R v M me le → cd_MS c k s v M → (wY_allocate_26 post (d + 1) le (nI s) f_n f_k f_known f_placed me f_saved f_waiting fw a_ops a_ds a_as a_bs a_before a_ways a_clash a_costs a_best tr a_inputs a_outputs a_cells a_spent) := by
  have hn := hc.2.1
  have hk8 : k ≤ 8 := by omega
  intro d
  induction d with
  | zero =>
    intro s v M le me fw tr hs hR hS
    have es : s = 256 := by omega
    subst es
    have he := cd_MSe hS
    rcases hR with ⟨r1, r2⟩ | ⟨r1, r2, r3, r4, r5⟩
    · omega
    · have hx : ∃ Q, sr_VA (cd_K c) k M Q := (co_VA (cd_Ks c)).mpr he.1.2.1
      refine br_t (by decide) (ys_next1 hk8 hcl rfl hk r4 (fun f tr' h1 h2 h3 => ⟨sr_m8 f + 3, ?_⟩) (fun tr' h => ?_))
      · exact ya_103 hc hk4 hk r4 hcl hx (fun be fw tr P h4 h5 => kk _ _ be fw tr ⟨M, P, he.1, h4, r4, rfl, h5⟩) _ f 0 f (-1) 1 a_best tr' (by omega) h1 h3 ⟨fun Q hQ hD => absurd (sr_lx8.mp hD) (h2 Q hQ), Or.inl rfl⟩ (Or.inl ⟨rfl, rfl⟩) (fun h => absurd h (by omega))
      · obtain ⟨Q, hQ⟩ := hx
        exact absurd hQ (h Q)
  | succ d ih =>
    intro s v M le me fw tr hs hR hS
    have hs2 : s < 256 := by omega
    have hl : cd_cs c s ≤ 4800 := cd_csl (c := c) hn s (Nat.le_refl 8)
    have s51 : (v = 0 ∨ cd_cs c s + 1 < v) → (wY_allocate_51 post (wY_allocate_26 post (d + 1)) le (nI s) (nI (cd_cs c s)) f_n f_k f_known f_placed me f_saved f_waiting fw a_ops a_ds a_as a_bs a_before a_ways a_clash a_costs a_best tr a_inputs a_outputs a_cells a_spent) := fun hlt => by
      refine ys_possible hk8 hcl hk rfl (fun tr' hp => br_f cd_10 (nm_r (nI_1 s) (ih (s + 1) (cd_cs c s + 1) s _ _ 1 tr' (by omega) (Or.inr ⟨by omega, by omega, hs2, rfl, rfl⟩) (cd_MSlt hS ((co_VA (cd_Ks c)).mp hp) hlt)))) (fun tr' hp => br_t rfl (nm_r (nI_1 s) (ih (s + 1) v M le me 0 tr' (by omega) hR (cd_MSno hS (fun z => hp ((co_VA (cd_Ks c)).mpr z))))))
    refine br_f (nI_ge (b := 256) hs2 (by decide)) (ya_sum hco ?_)
    rcases hR with ⟨r1, r2⟩ | ⟨r1, r2, r3, r4, r5⟩
    · subst r2
      exact br_t (by decide) (s51 (Or.inl r1))
    · subst r4 r5
      exact br_f (nI_pos (by omega)) (pk_le (v - 1) (cd_cs c s) (fun z => nm_r (nI_1 s) (ih (s + 1) v M _ _ fw tr (by omega) (Or.inr ⟨r1, r2, r3, rfl, rfl⟩) (cd_MSge hS r1 (by omega)))) (fun z => s51 (Or.inr (by omega))))
theorem ya_alloc (hc : cd_Is c f_n a_ops a_ds a_as a_bs) (hk4 : k ≤ 4) (hfk : f_k = nI k) (hk : f_known = 0 ∨ (f_known = 1 ∧ cd_YK c a_before a_clash a_costs)) (ha : f_placed = 0 ∨ (f_placed = 1 ∧ cd_YA c k f_memory f_saved a_best))
    (kk : ∀ bf wy cl co me sv be fw tr, cd_YK c bf cl co → cd_YA c k me sv be → post (f_n, f_k, 1, 1, me, sv, f_waiting, fw, a_ops, a_ds, a_as, a_bs, bf, wy, cl, co, be, tr, a_inputs, a_outputs, a_cells, a_spent)) : (wpY_allocate post (f_n, f_k, f_known, f_placed, f_memory, f_saved, f_waiting, f_forward, a_ops, a_ds, a_as, a_bs, a_before, a_ways, a_clash, a_costs, a_best, a_trial, a_inputs, a_outputs, a_cells, a_spent)) := by
  refine yk_know hc hk (fun bf wy cl co hK => ?_)
  rcases ha with ha | ⟨ha, hA⟩
  · refine br_t ha ⟨257, ?_⟩
    exact ya_26 hc hk4 hfk hK.2.1 hK.2.2 (fun me sv be fw tr hA => kk bf wy cl co me sv be fw tr hK hA) 256 0 0 0 0 (-1) f_forward a_trial (by omega) (Or.inl ⟨rfl, rfl⟩) (cd_MS0 c k 0)
  · subst ha
    exact br_f cd_10 (kk bf wy cl co _ _ _ _ _ hK hA)
end
end
section
/-! the machine, pure -/
def ru_x (c : cd_T) (ce : Nat → Int32) (i : Nat) : Int32 := if cd_ua (cd_o c i) = true then ce (cd_a c i) else cd_w c i
def ru_v (c : cd_T) (inp : Nat → Int32) (ic : Nat) (ce : Nat → Int32) (tn i : Nat) : Int32 :=
  if cd_o c i = 9 then (if tn < ic then inp tn else 0) else if cd_o c i = 1 then ru_x c ce i + ce (cd_b c i) else if cd_o c i = 2 then ru_x c ce i - ce (cd_b c i) else if cd_o c i = 3 then ru_x c ce i * ce (cd_b c i)
  else if cd_o c i = 4 then (if ce (cd_b c i) ≤ ru_x c ce i then 0 else 1) else ru_x c ce i
def ru_ce (c : cd_T) (inp : Nat → Int32) (ic : Nat) (ce : Nat → Int32) (tn i : Nat) : Nat → Int32 := if cd_df (cd_o c i) = true then upd ce (cd_d c i) (ru_v c inp ic ce tn i) else ce
/-- where it goes on, as X says it -/
def ru_pc (c : cd_T) (ce : Nat → Int32) (i : Nat) : Nat := if cd_o c i = 6 then cd_a c i else if cd_o c i = 7 then (if ru_x c ce i = 0 then cd_b c i else i + 1) else if cd_o c i = 10 then cd_n c else i + 1
def ru_oc (c : cd_T) (oc i : Nat) : Nat := if cd_o c i = 8 then oc + 1 else oc
def ru_ou (c : cd_T) (ce ou : Nat → Int32) (oc i : Nat) : Nat → Int32 := if cd_o c i = 8 ∧ oc < 30 then upd ou oc (ru_x c ce i) else ou
def ru_tn (c : cd_T) (tn i : Nat) : Nat := if cd_o c i = 9 then tn + 1 else tn
def ru_py (c : cd_T) (M : Nat) (P : Nat → Nat) (i : Nat) : Nat := if ms_sv c M P i = true then 0 else 1 + 2 * (cd_01 (cd_df (cd_o c i) && M.testBit (cd_d c i)) + cd_01 (cd_ua (cd_o c i) && M.testBit (cd_a c i)) + cd_01 (cd_ub (cd_o c i) && M.testBit (cd_b c i)))
theorem ru_pyl (c : cd_T) (M : Nat) (P : Nat → Nat) (i : Nat) : ru_py c M P i ≤ 7 := by
  unfold ru_py
  have h1 := cd_01l (cd_df (cd_o c i) && M.testBit (cd_d c i))
  have h2 := cd_01l (cd_ua (cd_o c i) && M.testBit (cd_a c i))
  have h3 := cd_01l (cd_ub (cd_o c i) && M.testBit (cd_b c i))
  split <;> omega
abbrev ru_T : Type := Nat × (Nat → Int32) × Nat × Nat × Nat × Nat × (Nat → Int32)
/-- pc, cells, outputs' count, done, took, taken, outputs -/
def ru_st (c : cd_T) (M : Nat) (P : Nat → Nat) (inp : Nat → Int32) (ic : Nat) (s : ru_T) : ru_T :=
  (cd_en c (ru_pc c s.2.1 s.1), ru_ce c inp ic s.2.1 s.2.2.2.2.2.1 s.1, ru_oc c s.2.2.1 s.1, s.2.2.2.1 + 1, s.2.2.2.2.1 + ru_py c M P s.1, ru_tn c s.2.2.2.2.2.1 s.1, ru_ou c s.2.1 s.2.2.2.2.2.2 s.2.2.1 s.1)
def ru_run (c : cd_T) (M : Nat) (P : Nat → Nat) (inp : Nat → Int32) (ic : Nat) : Nat → ru_T → Int32 × ru_T
  | 0, s => (0, s)
  | N + 1, s => if cd_n c ≤ s.1 then (0, s) else if s.2.2.2.1 = 200 then (1, s) else ru_run c M P inp ic N (ru_st c M P inp ic s)
theorem ru_r0 {c : cd_T} {M : Nat} {P : Nat → Nat} {inp : Nat → Int32} {ic N : Nat} {s : ru_T} (h : cd_n c ≤ s.1) : ru_run c M P inp ic (N + 1) s = (0, s) := if_pos h
theorem ru_r1 {c : cd_T} {M : Nat} {P : Nat → Nat} {inp : Nat → Int32} {ic N : Nat} {s : ru_T} (h : ¬ cd_n c ≤ s.1) (h2 : s.2.2.2.1 = 200) : ru_run c M P inp ic (N + 1) s = (1, s) := (if_neg h).trans (if_pos h2)
theorem ru_rs {c : cd_T} {M : Nat} {P : Nat → Nat} {inp : Nat → Int32} {ic N : Nat} {s : ru_T} (h : ¬ cd_n c ≤ s.1) (h2 : ¬ s.2.2.2.1 = 200) : ru_run c M P inp ic (N + 1) s = ru_run c M P inp ic N (ru_st c M P inp ic s) := (if_neg h).trans (if_neg h2)
/-! registers hold what is alive -/
def ru_xv (M : Nat) (P : Nat → Nat) (rg me : Nat → Int32) (t : Nat) : Int32 := if M.testBit t = true then me t else rg (P t)
def ru_rg (M : Nat) (P : Nat → Nat) (d : Nat) (v : Int32) (rg : Nat → Int32) : Nat → Int32 := if M.testBit d = true then rg else upd rg (P d) v
def ru_me (M d : Nat) (v : Int32) (me : Nat → Int32) : Nat → Int32 := if M.testBit d = true then upd me d v else me
def ru_si (c : cd_T) (M : Nat) (P : Nat → Nat) (rg me ce : Nat → Int32) (i : Nat) : Prop := ∀ t, cd_LB c i t → ru_xv M P rg me t = ce t
theorem ru_xd {M : Nat} {P : Nat → Nat} {rg me : Nat → Int32} {d : Nat} {v : Int32} : ru_xv M P (ru_rg M P d v rg) (ru_me M d v me) d = v := by
  unfold ru_xv ru_rg ru_me
  cases M.testBit d
  · rw [if_neg (by decide), if_neg (by decide), cd_us]
  · rw [if_pos rfl, if_pos rfl, cd_us]
theorem ru_xn {M : Nat} {P : Nat → Nat} {rg me : Nat → Int32} {d t : Nat} {v : Int32} (h : t ≠ d) (hp : M.testBit d = false → M.testBit t = false → P t ≠ P d) : ru_xv M P (ru_rg M P d v rg) (ru_me M d v me) t = ru_xv M P rg me t := by
  unfold ru_xv ru_rg ru_me
  cases hd : M.testBit d <;> cases ht : M.testBit t <;> simp only [Bool.false_eq_true, if_false, if_true]
  · exact cd_un (hp hd ht)
  · exact cd_un h
theorem ru_bh {c : cd_T} {i j t : Nat} (hj : j < cd_n c) (hs : cd_suc c i j = true) (h : cd_LB c j t) : cd_bh c (cd_LB c) i t := ⟨j, hj, hs, h⟩
/-- a definition, with a store -/
theorem ru_s1 {c : cd_T} {m : Int32} {op oD oA oB : Nat → Int32} (hc : cd_Is c m op oD oA oB) {k M : Nat} {P : Nat → Nat} (hV : sr_VA (cd_K c) k M P) {rg me ce : Nat → Int32} {i j : Nat} (hi : i < cd_n c) (hj : j < cd_n c) (hs : cd_suc c i j = true) (hS : ru_si c M P rg me ce i) (hdf : cd_df (cd_o c i) = true) (hsv : ms_sv c M P i = false) (v : Int32) :
    ru_si c M P (ru_rg M P (cd_d c i) v rg) (ru_me M (cd_d c i) v me) (upd ce (cd_d c i) v) j := by
  intro t ht
  have hb := ru_bh hj hs ht
  have t8 := (cd_LB8 hc ht).2
  have d8 := ((hc.2.2 i hi).2.2.1 hdf).2
  by_cases e : t = cd_d c i
  · rw [e, ru_xd, cd_us]
  · have hl : cd_LB c i t := cd_LBi hi (Or.inr ⟨hb, fun z => e z.2.symm⟩)
    rw [cd_un e, ← hS t hl]
    refine ru_xn e (fun md mt ep => ?_)
    by_cases mv : cd_o c i = 5 ∧ cd_a c i = t
    · have z := of_decide_eq_false hsv
      apply z
      refine ⟨mv.1, Or.inr ⟨md, ?_, ?_⟩⟩
      · rw [mv.2]
        exact mt
      · rw [mv.2]
        exact ep.symm
    · have hcl : cd_CL c (cd_d c i) t := ⟨fun z => e z.symm, Or.inl (Or.inr ⟨i, hi, ⟨hdf, rfl⟩, mv, hb⟩)⟩
      rcases Nat.lt_trichotomy t (cd_d c i) with z | z | z
      · exact (hV (cd_d c i) d8).2 t z ep ⟨md, mt, cd_Kt.mpr hcl⟩
      · exact e z
      · exact (hV t t8).2 (cd_d c i) z ep.symm ⟨mt, md, cd_Kt.mpr (cd_CLs hcl)⟩
/-- no definition -/
theorem ru_s0 {c : cd_T} {M : Nat} {P : Nat → Nat} {rg me ce : Nat → Int32} {i j : Nat} (hi : i < cd_n c) (hj : j < cd_n c) (hs : cd_suc c i j = true) (hS : ru_si c M P rg me ce i) (hdf : cd_df (cd_o c i) = false) : ru_si c M P rg me ce j := by
  intro t ht
  refine hS t (cd_LBi hi (Or.inr ⟨ru_bh hj hs ht, fun z => ?_⟩))
  have := z.1
  rw [hdf] at this
  exact absurd this (by decide)
/-- a MOVE that vanishes -/
theorem ru_sv {c : cd_T} {M : Nat} {P : Nat → Nat} {rg me ce : Nat → Int32} {i j : Nat} (hi : i < cd_n c) (hj : j < cd_n c) (hs : cd_suc c i j = true) (hS : ru_si c M P rg me ce i) (hsv : ms_sv c M P i = true) : ru_si c M P rg me (upd ce (cd_d c i) (ce (cd_a c i))) j := by
  intro t ht
  have z := of_decide_eq_true hsv
  have hua : cd_LB c i (cd_a c i) := cd_LBi hi (Or.inl (Or.inl ⟨cd_uat (by omega), rfl⟩))
  by_cases e : t = cd_d c i
  · rw [e, cd_us, ← hS _ hua]
    rcases z.2 with y | ⟨y1, y2, y3⟩
    · rw [y]
    · unfold ru_xv
      rw [y1, y2, if_neg (by decide), if_neg (by decide), y3]
  · rw [cd_un e]
    exact hS t (cd_LBi hi (Or.inr ⟨ru_bh hj hs ht, fun z => e z.2.symm⟩))
/-- the next one is one that i leads to -/
theorem ru_suc {c : cd_T} {ce : Nat → Int32} {i : Nat} (h : cd_en c (ru_pc c ce i) < cd_n c) : cd_suc c i (cd_en c (ru_pc c ce i)) = true := by
  have e : cd_en c (ru_pc c ce i) = ru_pc c ce i := by
    unfold cd_en at h ⊢
    split at h
    · omega
    · rw [if_neg (by assumption)]
  rw [e] at h ⊢
  rw [cd_suci]
  unfold ru_pc at h ⊢
  by_cases h6 : cd_o c i = 6
  · rw [if_pos h6]
    exact Or.inl ⟨h6, rfl⟩
  · rw [if_neg h6] at h ⊢
    by_cases h7 : cd_o c i = 7
    · rw [if_pos h7]
      by_cases hx : ru_x c ce i = 0
      · rw [if_pos hx]
        exact Or.inr (Or.inl ⟨h7, rfl⟩)
      · rw [if_neg hx]
        exact Or.inr (Or.inr ⟨h6, by omega, rfl⟩)
    · rw [if_neg h7] at h ⊢
      by_cases h10 : cd_o c i = 10
      · rw [if_pos h10] at h
        omega
      · rw [if_neg h10]
        exact Or.inr (Or.inr ⟨h6, h10, rfl⟩)
/-- what a step keeps -/
def ru_ok (oc dn tk tn : Nat) : Prop := oc ≤ dn ∧ tn ≤ dn ∧ tk ≤ 7 * dn ∧ dn ≤ 200
theorem ru_oks {c : cd_T} {M : Nat} {P : Nat → Nat} {oc dn tk tn i : Nat} (h : ru_ok oc dn tk tn) (hd : dn < 200) : ru_ok (ru_oc c oc i) (dn + 1) (tk + ru_py c M P i) (ru_tn c tn i) := by
  have hp := ru_pyl c M P i
  unfold ru_ok at h
  refine ⟨?_, ?_, ?_, ?_⟩
  · unfold ru_oc
    split <;> omega
  · unfold ru_tn
    split <;> omega
  · omega
  · omega
end
section
/-! X: the machine -/
theorem ru_pc1 {c : cd_T} {ce : Nat → Int32} {i : Nat} (h6 : cd_o c i ≠ 6) (h7 : cd_o c i ≠ 7) (h10 : cd_o c i ≠ 10) : ru_pc c ce i = i + 1 := by
  unfold ru_pc
  rw [if_neg h6, if_neg h7, if_neg h10]
theorem ru_oc0 {c : cd_T} {oc i : Nat} (h : cd_o c i ≠ 8) : ru_oc c oc i = oc := if_neg h
theorem ru_ou0 {c : cd_T} {ce ou : Nat → Int32} {oc i : Nat} (h : cd_o c i ≠ 8) : ru_ou c ce ou oc i = ou := if_neg (fun z => h z.1)
theorem ru_tn0 {c : cd_T} {tn i : Nat} (h : cd_o c i ≠ 9) : ru_tn c tn i = tn := if_neg h
theorem ru_01f {b : Bool} : cd_01 (false && b) = 0 := rfl
theorem ru_01t {b : Bool} : cd_01 (true && b) = cd_01 b := rfl
section
variable {f_count f_k f_inputCount f_known f_selfMoves f_allMoves f_allocated f_inMemory f_memoryCost f_saved f_outputCount f_done f_took f_taken : Int32} {a_op a_opD a_opA a_opB a_inputs a_before a_behind a_ways a_clash a_costs a_needs a_moves a_place a_tried a_gained a_possible a_register a_memory a_outputs : Nat → Int32} {c : cd_T} {post : Int32 → SX → Prop} {M : Nat} {P : Nat → Nat} {i oc tk tn ic : Nat} {ce : Nat → Int32}
theorem xr_fetch (hP : xs_P M P a_place) (h4 : ∀ t, t < 8 → M.testBit t = false → P t < 4) {t : Nat} (ht : t < 8) (htk : f_took = nI tk) (k : post (ru_xv M P a_register a_memory t) (f_count, f_k, f_inputCount, f_known, f_selfMoves, f_allMoves, f_allocated, f_inMemory, f_memoryCost, f_saved, f_outputCount, f_done, nI (tk + 2 * cd_01 (M.testBit t)), f_taken, a_op, a_opD, a_opA, a_opB, a_inputs, a_before, a_behind, a_ways, a_clash, a_costs, a_needs, a_moves, a_place, a_tried, a_gained, a_possible, a_register, a_memory, a_outputs)) : (wpX_fetch post (f_count, f_k, f_inputCount, f_known, f_selfMoves, f_allMoves, f_allocated, f_inMemory, f_memoryCost, f_saved, f_outputCount, f_done, f_took, f_taken, a_op, a_opD, a_opA, a_opB, a_inputs, a_before, a_behind, a_ways, a_clash, a_costs, a_needs, a_moves, a_place, a_tried, a_gained, a_possible, a_register, a_memory, a_outputs) (nI t)) := by
  have hv : vp_in (nI t) 8 := vp_in_nI ht (by decide)
  subst htk
  refine ⟨hv, ?_⟩
  rw [nI_clamp (by omega), hP t ht]
  unfold ru_xv at k
  cases hm : M.testBit t
  · rw [hm, if_neg (by decide)] at k
    have h := h4 t ht hm
    rw [if_neg (by decide)]
    refine br_f (nI_pos (by omega)) ⟨hv, vp_in_nI h (by decide), ?_⟩
    rw [nI_clamp (by omega)]
    exact k
  · rw [hm, if_pos rfl] at k
    rw [if_pos rfl]
    exact br_t (by decide) (nm_r (nI_add tk 2) ⟨hv, k⟩)
theorem xr_store {q : SX → Prop} (hP : xs_P M P a_place) (h4 : ∀ t, t < 8 → M.testBit t = false → P t < 4) {t : Nat} (ht : t < 8) (htk : f_took = nI tk) {v : Int32} (k : q (f_count, f_k, f_inputCount, f_known, f_selfMoves, f_allMoves, f_allocated, f_inMemory, f_memoryCost, f_saved, f_outputCount, f_done, nI (tk + 2 * cd_01 (M.testBit t)), f_taken, a_op, a_opD, a_opA, a_opB, a_inputs, a_before, a_behind, a_ways, a_clash, a_costs, a_needs, a_moves, a_place, a_tried, a_gained, a_possible, ru_rg M P t v a_register, ru_me M t v a_memory, a_outputs)) : (wpX_store q (f_count, f_k, f_inputCount, f_known, f_selfMoves, f_allMoves, f_allocated, f_inMemory, f_memoryCost, f_saved, f_outputCount, f_done, f_took, f_taken, a_op, a_opD, a_opA, a_opB, a_inputs, a_before, a_behind, a_ways, a_clash, a_costs, a_needs, a_moves, a_place, a_tried, a_gained, a_possible, a_register, a_memory, a_outputs) (nI t) v) := by
  have hv : vp_in (nI t) 8 := vp_in_nI ht (by decide)
  subst htk
  refine ⟨hv, ?_⟩
  rw [nI_clamp (by omega), hP t ht]
  unfold ru_rg ru_me at k
  cases hm : M.testBit t
  · rw [hm, if_neg (by decide), if_neg (by decide)] at k
    have h := h4 t ht hm
    rw [if_neg (by decide)]
    refine br_f (nI_pos (by omega)) ⟨hv, vp_in_nI h (by decide), ?_⟩
    rw [nI_clamp (by omega)]
    exact nm_e k
  · rw [hm, if_pos rfl, if_pos rfl] at k
    rw [if_pos rfl]
    exact br_t (by decide) (nm_r (nI_add tk 2) ⟨hv, nm_e k⟩)
/-- the registers and the memory behind a step that doesn't vanish -/
def xr_sp (c : cd_T) (M : Nat) (P : Nat → Nat) (inp : Nat → Int32) (ic : Nat) (ce : Nat → Int32) (tn i : Nat) (rg me rg' me' : Nat → Int32) : Prop :=
  (cd_df (cd_o c i) = true ∧ rg' = ru_rg M P (cd_d c i) (ru_v c inp ic ce tn i) rg ∧ me' = ru_me M (cd_d c i) (ru_v c inp ic ce tn i) me) ∨ (cd_df (cd_o c i) = false ∧ rg' = rg ∧ me' = me)
theorem xr_243 (hP : xs_P M P a_place) (h4 : ∀ t, t < 8 → M.testBit t = false → P t < 4) {x3 v : Int32} {d : Nat} (hd : d < 8) (hx3 : x3 = nI d) (htk : f_took = nI tk)
    (k : post (nI (i + 1)) (f_count, f_k, f_inputCount, f_known, f_selfMoves, f_allMoves, f_allocated, f_inMemory, f_memoryCost, f_saved, f_outputCount, f_done, nI (tk + 2 * cd_01 (M.testBit d)), f_taken, a_op, a_opD, a_opA, a_opB, a_inputs, a_before, a_behind, a_ways, a_clash, a_costs, a_needs, a_moves, a_place, a_tried, a_gained, a_possible, ru_rg M P d v a_register, ru_me M d v a_memory, a_outputs)) : (wX_step_243 post (nI i) x3 v f_count f_k f_inputCount f_known f_selfMoves f_allMoves f_allocated f_inMemory f_memoryCost f_saved f_outputCount f_done f_took f_taken a_op a_opD a_opA a_opB a_inputs a_before a_behind a_ways a_clash a_costs a_needs a_moves a_place a_tried a_gained a_possible a_register a_memory a_outputs) := by
  subst hx3
  unfold wX_step_243
  refine xr_store hP h4 hd htk ?_
  rw [nI_1]
  exact k
theorem xr_156 (hc : cd_Is c f_count a_op a_opD a_opA a_opB) (hi : i < cd_n c) (hP : xs_P M P a_place) (h4 : ∀ t, t < 8 → M.testBit t = false → P t < 4) (o6 : cd_o c i ≠ 6) (o10 : cd_o c i ≠ 10)
    {x3 xa xb : Int32} (hx3 : x3 = a_opD i) (hxa : (cd_ua (cd_o c i) = true ∨ cd_o c i = 0) → xa = ru_x c ce i) (hxb : cd_ub (cd_o c i) = true → xb = ce (cd_b c i)) (htk : f_took = nI tk) (hoc : f_outputCount = nI oc) (htn : f_taken = nI tn) (hic : f_inputCount = nI ic) (hoc2 : oc ≤ 200) (htn2 : tn ≤ 200) (hic2 : ic ≤ 8)
    (k : ∀ rg me, xr_sp c M P a_inputs ic ce tn i a_register a_memory rg me → post (nI (ru_pc c ce i)) (f_count, f_k, f_inputCount, f_known, f_selfMoves, f_allMoves, f_allocated, f_inMemory, f_memoryCost, f_saved, nI (ru_oc c oc i), f_done, nI (tk + 2 * cd_01 (cd_df (cd_o c i) && M.testBit (cd_d c i))), nI (ru_tn c tn i), a_op, a_opD, a_opA, a_opB, a_inputs, a_before, a_behind, a_ways, a_clash, a_costs, a_needs, a_moves, a_place, a_tried, a_gained, a_possible, rg, me, ru_ou c ce a_outputs oc i)) : (wX_step_156 post (nI i) (nI (cd_o c i)) x3 xa xb f_count f_k f_inputCount f_known f_selfMoves f_allMoves f_allocated f_inMemory f_memoryCost f_saved f_outputCount f_done f_took f_taken a_op a_opD a_opA a_opB a_inputs a_before a_behind a_ways a_clash a_costs a_needs a_moves a_place a_tried a_gained a_possible a_register a_memory a_outputs) := by
  have hn := hc.2.1
  have h1 := hc.2.2 i hi
  have ho := h1.2.1
  have hv : vp_in (nI i) 20 := vp_in_nI (by omega) (by decide)
  subst htk hoc htn hic
  refine pk_eq (cd_o c i) 7 (fun o7 => ?_) (fun o7 => pk_eq (cd_o c i) 8 (fun o8 => ?_) (fun o8 => ?_))
  · have hb := h1.2.2.2.2.2.2.1 o7
    have df : cd_df (cd_o c i) = false := cd_dff (by omega)
    have k1 := k _ _ (Or.inr ⟨df, rfl, rfl⟩)
    rw [ru_oc0 (by omega), ru_tn0 (by omega), ru_ou0 (by omega), df, ru_01f] at k1
    have ex := hxa (Or.inl (cd_uat (by omega)))
    have ep : ru_pc c ce i = if ru_x c ce i = 0 then cd_b c i else i + 1 := by
      unfold ru_pc
      rw [if_neg o6, if_pos o7]
    rw [ep, ← ex] at k1
    refine br_c (fun z => ⟨hv, ?_⟩) (fun z => ?_)
    · rw [if_pos z] at k1
      rw [nI_clamp (by omega), hb.1]
      exact k1
    · rw [if_neg z] at k1
      rw [nI_1]
      exact k1
  · have df : cd_df (cd_o c i) = false := cd_dff (by omega)
    have k1 := k _ _ (Or.inr ⟨df, rfl, rfl⟩)
    have ex := hxa (Or.inl (cd_uat (by omega)))
    rw [ru_tn0 (by omega), df, ru_01f, ru_pc1 o6 o7 o10, show ru_oc c oc i = oc + 1 from if_pos o8] at k1
    refine pk_le 30 oc (fun z => nm_r (nI_1 oc) ?_) (fun z => ⟨vp_in_nI z (by decide), ?_⟩)
    · rw [show ru_ou c ce a_outputs oc i = a_outputs from if_neg (by omega)] at k1
      rw [nI_1]
      exact k1
    · rw [show ru_ou c ce a_outputs oc i = upd a_outputs oc (ru_x c ce i) from if_pos ⟨o8, z⟩, ← ex] at k1
      rw [nI_clamp (by omega)]
      refine nm_e (nm_r (nI_1 oc) ?_)
      rw [nI_1]
      exact k1
  · have df : cd_df (cd_o c i) = true := cd_dft (by omega)
    have hd := h1.2.2.1 df
    have k1 := k _ _ (Or.inl ⟨df, rfl, rfl⟩)
    rw [ru_oc0 o8, ru_ou0 o8, df, ru_01t, ru_pc1 o6 o7 o10] at k1
    have hx3' : x3 = nI (cd_d c i) := hx3.trans hd.1
    refine pk_eq (cd_o c i) 9 (fun o9 => ?_) (fun o9 => ?_)
    · rw [show ru_tn c tn i = tn + 1 from if_pos o9, show ru_v c a_inputs ic ce tn i = if tn < ic then a_inputs tn else 0 from if_pos o9] at k1
      refine pk_le ic tn (fun z => nm_r (nI_1 tn) ?_) (fun z => ⟨vp_in_nI (by omega) (by decide), ?_⟩)
      · rw [if_neg (by omega)] at k1
        exact xr_243 hP h4 hd.2 hx3' rfl k1
      · rw [if_pos z] at k1
        rw [nI_clamp (by omega)]
        refine nm_r (nI_1 tn) ?_
        exact xr_243 hP h4 hd.2 hx3' rfl k1
    · rw [ru_tn0 o9] at k1
      have go : ∀ v, v = ru_v c a_inputs ic ce tn i → (wX_step_243 post (nI i) x3 v f_count f_k (nI ic) f_known f_selfMoves f_allMoves f_allocated f_inMemory f_memoryCost f_saved (nI oc) f_done (nI tk) (nI tn) a_op a_opD a_opA a_opB a_inputs a_before a_behind a_ways a_clash a_costs a_needs a_moves a_place a_tried a_gained a_possible a_register a_memory a_outputs) := fun v hv => by
        rw [hv]
        exact xr_243 hP h4 hd.2 hx3' rfl k1
      have ev : ru_v c a_inputs ic ce tn i = if cd_o c i = 1 then ru_x c ce i + ce (cd_b c i) else if cd_o c i = 2 then ru_x c ce i - ce (cd_b c i) else if cd_o c i = 3 then ru_x c ce i * ce (cd_b c i) else if cd_o c i = 4 then (if ce (cd_b c i) ≤ ru_x c ce i then 0 else 1) else ru_x c ce i := if_neg o9
      rw [ev] at go
      have ex : xa = ru_x c ce i := hxa (by
        rcases Nat.eq_zero_or_pos (cd_o c i) with z | z
        · exact Or.inr z
        · exact Or.inl (cd_uat (by omega)))
      refine pk_lt (cd_o c i) 1 (fun z => go xa ?_) (fun z => pk_lt 4 (cd_o c i) (fun y => go xa ?_) (fun y => ?_))
      · rw [if_neg (by omega), if_neg (by omega), if_neg (by omega), if_neg (by omega)]
        exact ex
      · rw [if_neg (by omega), if_neg (by omega), if_neg (by omega), if_neg (by omega)]
        exact ex
      · have eb := hxb (cd_ubt (by omega))
        rw [← ex, ← eb] at go
        refine pk_eq (cd_o c i) 1 (fun w => go _ (by rw [if_pos w])) (fun w => pk_eq (cd_o c i) 2 (fun w2 => go _ (by rw [if_neg w, if_pos w2])) (fun w2 => pk_eq (cd_o c i) 3 (fun w3 => go _ (by rw [if_neg w, if_neg w2, if_pos w3])) (fun w3 => br_t ?_ (br_c (fun w5 => go _ ?_) (fun w5 => go _ ?_)))))
        · have : cd_o c i = 4 := by omega
          rw [this]
          rfl
        · rw [if_neg w, if_neg w2, if_neg w3, if_pos (by omega), if_pos w5]
        · rw [if_neg w, if_neg w2, if_neg w3, if_pos (by omega), if_neg w5]
theorem xr_133 (hc : cd_Is c f_count a_op a_opD a_opA a_opB) (hi : i < cd_n c) (hP : xs_P M P a_place) (h4 : ∀ t, t < 8 → M.testBit t = false → P t < 4) (hS : ru_si c M P a_register a_memory ce i) (o6 : cd_o c i ≠ 6) (o10 : cd_o c i ≠ 10)
    {x3 xa : Int32} (hx3 : x3 = a_opD i) (hxa : (cd_ua (cd_o c i) = true ∨ cd_o c i = 0) → xa = ru_x c ce i) (htk : f_took = nI tk) (hoc : f_outputCount = nI oc) (htn : f_taken = nI tn) (hic : f_inputCount = nI ic) (hoc2 : oc ≤ 200) (htn2 : tn ≤ 200) (hic2 : ic ≤ 8)
    (k : ∀ rg me, xr_sp c M P a_inputs ic ce tn i a_register a_memory rg me → post (nI (ru_pc c ce i)) (f_count, f_k, f_inputCount, f_known, f_selfMoves, f_allMoves, f_allocated, f_inMemory, f_memoryCost, f_saved, nI (ru_oc c oc i), f_done, nI (tk + 2 * cd_01 (cd_ub (cd_o c i) && M.testBit (cd_b c i)) + 2 * cd_01 (cd_df (cd_o c i) && M.testBit (cd_d c i))), nI (ru_tn c tn i), a_op, a_opD, a_opA, a_opB, a_inputs, a_before, a_behind, a_ways, a_clash, a_costs, a_needs, a_moves, a_place, a_tried, a_gained, a_possible, rg, me, ru_ou c ce a_outputs oc i)) : (wX_step_133 post (nI i) (nI (cd_o c i)) x3 xa f_count f_k f_inputCount f_known f_selfMoves f_allMoves f_allocated f_inMemory f_memoryCost f_saved f_outputCount f_done f_took f_taken a_op a_opD a_opA a_opB a_inputs a_before a_behind a_ways a_clash a_costs a_needs a_moves a_place a_tried a_gained a_possible a_register a_memory a_outputs) := by
  have hn := hc.2.1
  have h1 := hc.2.2 i hi
  have ho := h1.2.1
  have hv : vp_in (nI i) 20 := vp_in_nI (by omega) (by decide)
  refine xx_ub ho (fun ub => br_f cd_10 ⟨hv, ?_⟩) (fun ub => br_t rfl ?_)
  · have hb := h1.2.2.2.2.1 ub
    rw [nI_clamp (by omega), hb.1]
    rw [ub, ru_01t] at k
    refine xr_fetch hP h4 hb.2 htk ?_
    exact xr_156 hc hi hP h4 o6 o10 hx3 hxa (fun _ => hS _ (cd_LBi hi (Or.inl (Or.inr ⟨ub, rfl⟩)))) rfl hoc htn hic hoc2 htn2 hic2 k
  · rw [ub, ru_01f] at k
    exact xr_156 hc hi hP h4 o6 o10 hx3 hxa (fun z => by rw [ub] at z; exact absurd z (by decide)) htk hoc htn hic hoc2 htn2 hic2 k
theorem xr_85 (hc : cd_Is c f_count a_op a_opD a_opA a_opB) (hi : i < cd_n c) (hP : xs_P M P a_place) (h4 : ∀ t, t < 8 → M.testBit t = false → P t < 4) (hS : ru_si c M P a_register a_memory ce i) (o6 : cd_o c i ≠ 6) (o10 : cd_o c i ≠ 10)
    {x3 : Int32} (hx3 : x3 = a_opD i) (htk : f_took = nI tk) (hoc : f_outputCount = nI oc) (htn : f_taken = nI tn) (hic : f_inputCount = nI ic) (hoc2 : oc ≤ 200) (htn2 : tn ≤ 200) (hic2 : ic ≤ 8) (hsv : ms_sv c M P i = false)
    (k : ∀ rg me, xr_sp c M P a_inputs ic ce tn i a_register a_memory rg me → post (nI (ru_pc c ce i)) (f_count, f_k, f_inputCount, f_known, f_selfMoves, f_allMoves, f_allocated, f_inMemory, f_memoryCost, f_saved, nI (ru_oc c oc i), f_done, nI (tk + ru_py c M P i), nI (ru_tn c tn i), a_op, a_opD, a_opA, a_opB, a_inputs, a_before, a_behind, a_ways, a_clash, a_costs, a_needs, a_moves, a_place, a_tried, a_gained, a_possible, rg, me, ru_ou c ce a_outputs oc i)) : (wX_step_85 post (nI i) (nI (cd_o c i)) x3 f_count f_k f_inputCount f_known f_selfMoves f_allMoves f_allocated f_inMemory f_memoryCost f_saved f_outputCount f_done f_took f_taken a_op a_opD a_opA a_opB a_inputs a_before a_behind a_ways a_clash a_costs a_needs a_moves a_place a_tried a_gained a_possible a_register a_memory a_outputs) := by
  have hn := hc.2.1
  have h1 := hc.2.2 i hi
  have ho := h1.2.1
  have hv : vp_in (nI i) 20 := vp_in_nI (by omega) (by decide)
  subst htk
  have ep : tk + ru_py c M P i = tk + 1 + 2 * cd_01 (cd_ua (cd_o c i) && M.testBit (cd_a c i)) + 2 * cd_01 (cd_ub (cd_o c i) && M.testBit (cd_b c i)) + 2 * cd_01 (cd_df (cd_o c i) && M.testBit (cd_d c i)) := by
    unfold ru_py
    rw [hsv, if_neg (by decide)]
    omega
  rw [ep] at k
  refine br_t rfl (nm_r (nI_1 tk) (xx_ua ho (fun ua => br_f cd_10 ⟨hv, ?_⟩) (fun ua => br_t rfl ⟨hv, ?_⟩)))
  · have ha := h1.2.2.2.1 ua
    rw [nI_clamp (by omega), ha.1]
    rw [ua, ru_01t] at k
    refine xr_fetch hP h4 ha.2 rfl ?_
    refine xr_133 hc hi hP h4 hS o6 o10 hx3 (fun _ => ?_) rfl hoc htn hic hoc2 htn2 hic2 k
    unfold ru_x
    rw [ua, if_pos rfl]
    exact hS _ (cd_LBi hi (Or.inl (Or.inl ⟨ua, rfl⟩)))
  · rw [nI_clamp (by omega)]
    rw [ua, ru_01f] at k
    refine xr_133 hc hi hP h4 hS o6 o10 hx3 (fun z => ?_) rfl hoc htn hic hoc2 htn2 hic2 k
    rcases z with z | z
    · rw [ua] at z
      exact absurd z (by decide)
    · unfold ru_x
      rw [ua, if_neg (by decide)]
      exact h1.2.2.2.2.2.2.2 z
/-- X's step: what is alive stays so -/
theorem xr_step (hc : cd_Is c f_count a_op a_opD a_opA a_opB) (hi : i < cd_n c) {k0 : Nat} (hV : sr_VA (cd_K c) k0 M P) (hk4 : k0 ≤ 4) (hP : xs_P M P a_place) (hS : ru_si c M P a_register a_memory ce i) (o10 : cd_o c i ≠ 10)
    (htk : f_took = nI tk) (hoc : f_outputCount = nI oc) (htn : f_taken = nI tn) (hic : f_inputCount = nI ic) (hoc2 : oc ≤ 200) (htn2 : tn ≤ 200) (hic2 : ic ≤ 8)
    (k : ∀ rg me, (cd_en c (ru_pc c ce i) < cd_n c → ru_si c M P rg me (ru_ce c a_inputs ic ce tn i) (cd_en c (ru_pc c ce i))) → post (nI (ru_pc c ce i)) (f_count, f_k, f_inputCount, f_known, f_selfMoves, f_allMoves, f_allocated, f_inMemory, f_memoryCost, f_saved, nI (ru_oc c oc i), f_done, nI (tk + ru_py c M P i), nI (ru_tn c tn i), a_op, a_opD, a_opA, a_opB, a_inputs, a_before, a_behind, a_ways, a_clash, a_costs, a_needs, a_moves, a_place, a_tried, a_gained, a_possible, rg, me, ru_ou c ce a_outputs oc i)) : (wpX_step post (f_count, f_k, f_inputCount, f_known, f_selfMoves, f_allMoves, f_allocated, f_inMemory, f_memoryCost, f_saved, f_outputCount, f_done, f_took, f_taken, a_op, a_opD, a_opA, a_opB, a_inputs, a_before, a_behind, a_ways, a_clash, a_costs, a_needs, a_moves, a_place, a_tried, a_gained, a_possible, a_register, a_memory, a_outputs) (nI i)) := by
  have hn := hc.2.1
  have h1 := hc.2.2 i hi
  have ho := h1.2.1
  have hv : vp_in (nI i) 20 := vp_in_nI (by omega) (by decide)
  have e : (nI i).toNatClampNeg = i := nI_clamp (by omega)
  have h4 : ∀ t, t < 8 → M.testBit t = false → P t < 4 := fun t ht hm => by
    have := (hV t ht).1
    unfold sr_mo at this
    rw [hm, if_neg (by decide)] at this
    omega
  have ea : a_op (nI i).toNatClampNeg = nI (cd_o c i) := by rw [e]; exact h1.1
  have ed : a_opD (nI i).toNatClampNeg = a_opD i := by rw [e]
  have s85 : cd_o c i ≠ 6 → ms_sv c M P i = false → (wX_step_85 post (nI i) (nI (cd_o c i)) (a_opD i) f_count f_k f_inputCount f_known f_selfMoves f_allMoves f_allocated f_inMemory f_memoryCost f_saved f_outputCount f_done f_took f_taken a_op a_opD a_opA a_opB a_inputs a_before a_behind a_ways a_clash a_costs a_needs a_moves a_place a_tried a_gained a_possible a_register a_memory a_outputs) := fun o6 hsv => by
    refine xr_85 hc hi hP h4 hS o6 o10 rfl htk hoc htn hic hoc2 htn2 hic2 hsv (fun rg me hsp => k rg me (fun hj => ?_))
    unfold ru_ce
    rcases hsp with ⟨df, e1, e2⟩ | ⟨df, e1, e2⟩
    · rw [df, if_pos rfl, e1, e2]
      exact ru_s1 hc hV hi hj (ru_suc hj) hS df hsv _
    · rw [df, if_neg (by decide), e1, e2]
      exact ru_s0 hi hj (ru_suc hj) hS df
  have s81 : cd_o c i = 5 → ms_sv c M P i = true → (wX_step_81 post (nI i) (nI (cd_o c i)) (a_opD i) f_count f_k f_inputCount f_known f_selfMoves f_allMoves f_allocated f_inMemory f_memoryCost f_saved f_outputCount f_done f_took f_taken a_op a_opD a_opA a_opB a_inputs a_before a_behind a_ways a_clash a_costs a_needs a_moves a_place a_tried a_gained a_possible a_register a_memory a_outputs) := fun o5 hsv => by
    subst htk hoc htn
    have k1 := k a_register a_memory (fun hj => by
      have := ru_sv hi hj (ru_suc hj) hS hsv
      unfold ru_ce
      rw [cd_dft (by omega), if_pos rfl]
      have ev : ru_v c a_inputs ic ce tn i = ce (cd_a c i) := by
        unfold ru_v ru_x
        rw [if_neg (by omega), if_neg (by omega), if_neg (by omega), if_neg (by omega), if_neg (by omega), cd_uat (by omega), if_pos rfl]
      rw [ev]
      exact this)
    have ep : ru_py c M P i = 0 := by
      unfold ru_py
      rw [hsv, if_pos rfl]
    rw [ep, Nat.add_zero, ru_oc0 (by omega), ru_tn0 (by omega), ru_ou0 (by omega), ru_pc1 (by omega) (by omega) o10] at k1
    refine br_f cd_10 ?_
    rw [nI_1]
    exact k1
  refine ⟨hv, nm_r ea ⟨hv, nm_r ed (pk_eq (cd_o c i) 6 (fun o6 => ?_) (fun o6 => pk_eq (cd_o c i) 5 (fun o5 => ⟨hv, ?_⟩) (fun o5 => s85 o6 (decide_eq_false (fun z => o5 z.1)))))⟩⟩
  · subst htk hoc htn
    have ha := h1.2.2.2.2.2.1 o6
    have df : cd_df (cd_o c i) = false := cd_dff (by omega)
    have k1 := k a_register a_memory (fun hj => by
      unfold ru_ce
      rw [df, if_neg (by decide)]
      exact ru_s0 hi hj (ru_suc hj) hS df)
    have ep : ru_py c M P i = 1 := by
      unfold ru_py
      rw [show ms_sv c M P i = false from decide_eq_false (by omega), if_neg (by decide), df, show cd_ua (cd_o c i) = false from cd_uaf (by omega), show cd_ub (cd_o c i) = false from cd_ubf (by omega)]
      rfl
    rw [ep, ru_oc0 (by omega), ru_tn0 (by omega), ru_ou0 (by omega), show ru_pc c ce i = cd_a c i from if_pos o6] at k1
    refine nm_r (nI_1 tk) ⟨hv, ?_⟩
    rw [e, ha.1]
    exact k1
  · have hd := h1.2.2.1 (cd_dft (by omega))
    have ha := h1.2.2.2.1 (cd_uat (by omega))
    have hvd : vp_in (nI (cd_d c i)) 8 := vp_in_nI hd.2 (by decide)
    have s85' := s85 o6
    have s81' := s81 o5
    rw [hd.1] at s85' s81' ⊢
    rw [e, ha.1]
    have sv1 : (cd_d c i = cd_a c i ∨ (M.testBit (cd_d c i) = false ∧ M.testBit (cd_a c i) = false ∧ P (cd_d c i) = P (cd_a c i))) → ms_sv c M P i = true := fun z => decide_eq_true ⟨o5, z⟩
    have sv0 : ¬ (cd_d c i = cd_a c i ∨ (M.testBit (cd_d c i) = false ∧ M.testBit (cd_a c i) = false ∧ P (cd_d c i) = P (cd_a c i))) → ms_sv c M P i = false := fun z => decide_eq_false (fun w => z w.2)
    refine pk_eq (cd_d c i) (cd_a c i) (fun y => s81' (sv1 (Or.inl y))) (fun y => ⟨hvd, ?_⟩)
    have pd := hP (cd_d c i) hd.2
    have pa := hP (cd_a c i) ha.2
    rw [nI_clamp (by omega), nI_clamp (by omega), pd, pa]
    cases md : M.testBit (cd_d c i)
    · have pd4 := h4 _ hd.2 md
      rw [if_neg (by decide)]
      refine br_f (nI_pos (by omega)) ⟨hvd, hv, vp_in_nI ha.2 (by decide), ?_⟩
      cases ma : M.testBit (cd_a c i)
      · have pa4 := h4 _ ha.2 ma
        rw [if_neg (by decide)]
        exact pk_eq (P (cd_d c i)) (P (cd_a c i)) (fun z => s81' (sv1 (Or.inr ⟨md, ma, z⟩))) (fun z => s85' (sv0 (fun w => w.elim y (fun x => z x.2.2))))
      · rw [if_pos rfl]
        refine br_f (cd_n2 (by omega)) (s85' (sv0 (fun w => w.elim y (fun x => ?_))))
        rw [x.2.1] at ma
        exact absurd ma (by decide)
    · rw [if_pos rfl]
      refine br_t (by decide) (s85' (sv0 (fun w => w.elim y (fun x => ?_))))
      rw [x.1] at md
      exact absurd md (by decide)
end
end
section
/-! X: runs -/
theorem cd_en1 {c : cd_T} {p : Nat} (h : cd_n c ≤ p) : cd_en c p = cd_n c := if_pos h
theorem cd_en0 {c : cd_T} {p : Nat} (h : p < cd_n c) : cd_en c p = p := if_neg (by omega)
theorem ru_pcl {c : cd_T} {m : Int32} {op oD oA oB : Nat → Int32} (hc : cd_Is c m op oD oA oB) {ce : Nat → Int32} {i : Nat} (hi : i < cd_n c) : ru_pc c ce i < 100 := by
  have hn := hc.2.1
  have h1 := hc.2.2 i hi
  unfold ru_pc
  by_cases h6 : cd_o c i = 6
  · rw [if_pos h6]
    have := (h1.2.2.2.2.2.1 h6).2
    omega
  · rw [if_neg h6]
    by_cases h7 : cd_o c i = 7
    · rw [if_pos h7]
      have := (h1.2.2.2.2.2.2.1 h7).2
      split <;> omega
    · rw [if_neg h7]
      split <;> omega
theorem ru_10 {c : cd_T} {M : Nat} {P : Nat → Nat} {inp ce ou : Nat → Int32} {ic oc dn tk tn i : Nat} (o10 : cd_o c i = 10) : ru_st c M P inp ic (i, ce, oc, dn, tk, tn, ou) = (cd_n c, ce, oc, dn + 1, tk + 1, tn, ou) := by
  have df : cd_df (cd_o c i) = false := cd_dff (by omega)
  have e1 : ru_pc c ce i = cd_n c := by
    unfold ru_pc
    rw [if_neg (by omega), if_neg (by omega), if_pos o10]
  have e2 : ru_py c M P i = 1 := by
    unfold ru_py
    rw [show ms_sv c M P i = false from decide_eq_false (by omega), if_neg (by decide), df, show cd_ua (cd_o c i) = false from cd_uaf (by omega), show cd_ub (cd_o c i) = false from cd_ubf (by omega)]
    rfl
  show (cd_en c (ru_pc c ce i), ru_ce c inp ic ce tn i, ru_oc c oc i, dn + 1, tk + ru_py c M P i, ru_tn c tn i, ru_ou c ce ou oc i) = _
  rw [e1, e2, cd_en1 (Nat.le_refl _), ru_oc0 (by omega), ru_tn0 (by omega), ru_ou0 (by omega)]
  unfold ru_ce
  rw [df, if_neg (by decide)]
section
variable {f_count f_k f_inputCount f_known f_selfMoves f_allMoves f_allocated f_inMemory f_memoryCost f_saved f_outputCount f_done f_took f_taken : Int32} {a_op a_opD a_opA a_opB a_inputs a_before a_behind a_ways a_clash a_costs a_needs a_moves a_place a_tried a_gained a_possible a_register a_memory a_outputs : Nat → Int32} {c : cd_T} {post : Int32 → SX → Prop} {M : Nat} {P : Nat → Nat} {ic : Nat}
theorem xr_67 (hc : cd_Is c f_count a_op a_opD a_opA a_opB) {k0 : Nat} (hV : sr_VA (cd_K c) k0 M P) (hk4 : k0 ≤ 4) (hP : xs_P M P a_place) (hic : f_inputCount = nI ic) (hic2 : ic ≤ 8) :
    ∀ N p oc dn tk tn ce ou rg me, N + dn = 201 → ru_ok oc dn tk tn → p < 100 → (cd_en c p < cd_n c → ru_si c M P rg me ce (cd_en c p)) →
      (∀ rg' me' r s, ru_run c M P a_inputs ic N (cd_en c p, ce, oc, dn, tk, tn, ou) = (r, s) → post r (f_count, f_k, f_inputCount, f_known, f_selfMoves, f_allMoves, f_allocated, f_inMemory, f_memoryCost, f_saved, nI s.2.2.1, nI s.2.2.2.1, nI s.2.2.2.2.1, nI s.2.2.2.2.2.1, a_op, a_opD, a_opA, a_opB, a_inputs, a_before, a_behind, a_ways, a_clash, a_costs, a_needs, a_moves, a_place, a_tried, a_gained, a_possible, rg', me', s.2.2.2.2.2.2)) →
      (wX_run_67 post N (nI p) f_count f_k f_inputCount f_known f_selfMoves f_allMoves f_allocated f_inMemory f_memoryCost f_saved (nI oc) (nI dn) (nI tk) (nI tn) a_op a_opD a_opA a_opB a_inputs a_before a_behind a_ways a_clash a_costs a_needs a_moves a_place a_tried a_gained a_possible rg me ou) := by
  have hn := hc.2.1
  intro N
  induction N with
  | zero =>
    intro p oc dn tk tn ce ou rg me hN hok
    unfold ru_ok at hok
    omega
  | succ N ih =>
    intro p oc dn tk tn ce ou rg me hN hok hp hS kk
    have hok' := hok
    unfold ru_ok at hok'
    by_cases hpn : cd_n c ≤ p
    · refine pk_le (cd_n c) p (fun _ => ?_) (fun z => absurd z (by omega)) hc.1
      refine pk_lt p (cd_n c) (fun z => absurd z (by omega)) (fun _ => ?_) rfl hc.1
      exact kk rg me 0 _ (ru_r0 (by rw [cd_en1 hpn]; exact Nat.le_refl _))
    · have hpn' : p < cd_n c := by omega
      have een := cd_en0 hpn'
      rw [een] at hS kk
      have h1 := hc.2.2 p hpn'
      have ho := h1.2.1
      have e : (nI p).toNatClampNeg = p := nI_clamp (by omega)
      refine pk_le (cd_n c) p (fun z => absurd z hpn) (fun _ => ⟨vp_in_nI (by omega) (by decide), ?_⟩) hc.1
      rw [e, h1.1]
      have k200 : dn = 200 → (wX_run_115 post (nI p) f_count f_k f_inputCount f_known f_selfMoves f_allMoves f_allocated f_inMemory f_memoryCost f_saved (nI oc) (nI dn) (nI tk) (nI tn) a_op a_opD a_opA a_opB a_inputs a_before a_behind a_ways a_clash a_costs a_needs a_moves a_place a_tried a_gained a_possible rg me ou) := fun h200 => by
        refine pk_lt p (cd_n c) (fun _ => pk_eq dn 200 (fun _ => ?_) (fun z => absurd h200 z)) (fun z => absurd z (by omega)) rfl hc.1
        exact kk rg me 1 _ (ru_r1 hpn h200)
      refine pk_eq (cd_o c p) 10 (fun o10 => ?_) (fun o10 => ?_)
      · by_cases h200 : dn = 200
        · exact k200 h200
        · refine pk_lt p (cd_n c) (fun _ => pk_eq dn 200 (fun z => absurd z h200) (fun _ => ?_)) (fun z => absurd z (by omega)) rfl hc.1
          refine nm_r (nI_1 dn) (nm_r (nI_1 tk) ?_)
          obtain ⟨n', rfl⟩ : ∃ n', N = n' + 1 := ⟨N - 1, by omega⟩
          refine kk rg me 0 (cd_n c, ce, oc, dn + 1, tk + 1, tn, ou) ?_
          rw [ru_rs (by exact hpn) (by exact h200), ru_10 o10]
          exact ru_r0 (Nat.le_refl _)
      · refine pk_le 200 dn (fun z => k200 (by omega)) (fun z => nm_r (nI_1 dn) ?_)
        refine xr_step hc hpn' hV hk4 hP (hS hpn') o10 rfl rfl rfl hic (by omega) (by omega) hic2 (fun rg' me' hS' => ?_)
        refine ih (ru_pc c ce p) _ (dn + 1) _ _ (ru_ce c a_inputs ic ce tn p) _ rg' me' (by omega) (ru_oks hok z) (ru_pcl hc hpn') hS' (fun rg2 me2 r s hr => kk rg2 me2 r s ?_)
        rw [ru_rs (by exact hpn) (by show ¬ dn = 200; omega)]
        exact hr
theorem xr_26 (k : ∀ me, (∀ j, j < 8 → me j = 0) → ∃ n67, (wX_run_67 post n67 0 f_count f_k f_inputCount f_known f_selfMoves f_allMoves f_allocated f_inMemory f_memoryCost f_saved 0 0 0 0 a_op a_opD a_opA a_opB a_inputs a_before a_behind a_ways a_clash a_costs a_needs a_moves a_place a_tried a_gained a_possible a_register me a_outputs)) : ∀ d j me, j + d = 8 → (∀ i, i < j → me i = 0) → (wX_run_26 post f_count f_k f_inputCount f_known f_selfMoves f_allMoves f_allocated f_inMemory f_memoryCost f_saved f_outputCount f_done f_took f_taken (d + 1) (nI j) a_op a_opD a_opA a_opB a_inputs a_before a_behind a_ways a_clash a_costs a_needs a_moves a_place a_tried a_gained a_possible a_register me a_outputs) := by
  intro d
  induction d with
  | zero =>
    intro j me hj hb
    have ej : j = 8 := by omega
    subst ej
    exact br_t (by decide) (k me hb)
  | succ d ih =>
    intro j me hj hb
    refine br_f (nI_ge (b := 8) (by omega) (by decide)) ⟨vp_in_nI (by omega) (by decide), nm_r (by rw [nI_clamp (by omega)]) (nm_r (nI_1 j) (ih (j + 1) (upd me j 0) (by omega) (fun i hi => ?_)))⟩
    by_cases ei : i = j
    · rw [ei, cd_us]
    · rw [cd_un ei]
      exact hb i (by omega)
theorem xr_6 (k : ∀ rg, (∀ j, j < 4 → rg j = 0) → ∃ n26, (wX_run_26 post f_count f_k f_inputCount f_known f_selfMoves f_allMoves f_allocated f_inMemory f_memoryCost f_saved f_outputCount f_done f_took f_taken n26 0 a_op a_opD a_opA a_opB a_inputs a_before a_behind a_ways a_clash a_costs a_needs a_moves a_place a_tried a_gained a_possible rg a_memory a_outputs)) : ∀ d j rg, j + d = 4 → (∀ i, i < j → rg i = 0) → (wX_run_6 post f_count f_k f_inputCount f_known f_selfMoves f_allMoves f_allocated f_inMemory f_memoryCost f_saved f_outputCount f_done f_took f_taken (d + 1) (nI j) a_op a_opD a_opA a_opB a_inputs a_before a_behind a_ways a_clash a_costs a_needs a_moves a_place a_tried a_gained a_possible rg a_memory a_outputs) := by
  intro d
  induction d with
  | zero =>
    intro j rg hj hb
    have ej : j = 4 := by omega
    subst ej
    exact br_t (by decide) (k rg hb)
  | succ d ih =>
    intro j rg hj hb
    refine br_f (nI_ge (b := 4) (by omega) (by decide)) ⟨vp_in_nI (by omega) (by decide), nm_r (by rw [nI_clamp (by omega)]) (nm_r (nI_1 j) (ih (j + 1) (upd rg j 0) (by omega) (fun i hi => ?_)))⟩
    by_cases ei : i = j
    · rw [ei, cd_us]
    · rw [cd_un ei]
      exact hb i (by omega)
theorem xr_loop (hc : cd_Is c f_count a_op a_opD a_opA a_opB) {k0 : Nat} (hV : sr_VA (cd_K c) k0 M P) (hk4 : k0 ≤ 4) (hP : xs_P M P a_place) (hic : f_inputCount = nI ic) (hic2 : ic ≤ 8)
    (kk : ∀ rg' me' r s, ru_run c M P a_inputs ic 201 (0, (fun _ => 0), 0, 0, 0, 0, a_outputs) = (r, s) → post r (f_count, f_k, f_inputCount, f_known, f_selfMoves, f_allMoves, f_allocated, f_inMemory, f_memoryCost, f_saved, nI s.2.2.1, nI s.2.2.2.1, nI s.2.2.2.2.1, nI s.2.2.2.2.2.1, a_op, a_opD, a_opA, a_opB, a_inputs, a_before, a_behind, a_ways, a_clash, a_costs, a_needs, a_moves, a_place, a_tried, a_gained, a_possible, rg', me', s.2.2.2.2.2.2)) :
    ∃ n6, (wX_run_6 post f_count f_k f_inputCount f_known f_selfMoves f_allMoves f_allocated f_inMemory f_memoryCost f_saved f_outputCount f_done f_took f_taken n6 0 a_op a_opD a_opA a_opB a_inputs a_before a_behind a_ways a_clash a_costs a_needs a_moves a_place a_tried a_gained a_possible a_register a_memory a_outputs) := by
  refine ⟨5, xr_6 (fun rg hrg => ⟨9, xr_26 (fun me hme => ⟨201, ?_⟩) 8 0 a_memory (by omega) (fun i hi => absurd hi (by omega))⟩) 4 0 a_register (by omega) (fun i hi => absurd hi (by omega))⟩
  have e0 : cd_en c 0 = 0 := by
    unfold cd_en
    split <;> omega
  refine xr_67 hc hV hk4 hP hic hic2 201 0 0 0 0 0 (fun _ => 0) a_outputs rg me (by omega) ⟨by omega, by omega, by omega, by omega⟩ (by omega) (fun _ t ht => ?_) (fun rg' me' r s hr => kk rg' me' r s (by rw [e0] at hr; exact hr))
  have t8 := (cd_LB8 hc ht).2
  unfold ru_xv
  cases hm : M.testBit t
  · rw [if_neg (by decide)]
    have := (hV t t8).1
    unfold sr_mo at this
    rw [hm, if_neg (by decide)] at this
    exact hrg _ (by omega)
  · rw [if_pos rfl]
    exact hme t t8
end
/-! Y: runs -/
def ru_sp (sp : Nat → Int32) (oc dn tk tn : Nat) : Prop := sp 0 = nI oc ∧ sp 1 = nI dn ∧ sp 2 = nI tk ∧ sp 3 = nI tn
theorem ru_sp2 {sp : Nat → Int32} {oc dn tk tn tk' : Nat} {x : Int32} (h : ru_sp sp oc dn tk tn) (hx : x = nI tk') : ru_sp (upd sp 2 x) oc dn tk' tn :=
  ⟨(cd_un (by decide)).trans h.1, (cd_un (by decide)).trans h.2.1, cd_us.trans hx, (cd_un (by decide)).trans h.2.2.2⟩
theorem ru_sp1 {sp : Nat → Int32} {oc dn tk tn tk' : Nat} {x : Int32} (h : ru_sp sp oc dn tk tn) (hx : x = nI tk') : ru_sp (upd sp 1 x) oc tk' tk tn :=
  ⟨(cd_un (by decide)).trans h.1, cd_us.trans hx, (cd_un (by decide)).trans h.2.2.1, (cd_un (by decide)).trans h.2.2.2⟩
theorem ru_sp0 {sp : Nat → Int32} {oc dn tk tn tk' : Nat} {x : Int32} (h : ru_sp sp oc dn tk tn) (hx : x = nI tk') : ru_sp (upd sp 0 x) tk' dn tk tn :=
  ⟨cd_us.trans hx, (cd_un (by decide)).trans h.2.1, (cd_un (by decide)).trans h.2.2.1, (cd_un (by decide)).trans h.2.2.2⟩
theorem ru_sp3 {sp : Nat → Int32} {oc dn tk tn tk' : Nat} {x : Int32} (h : ru_sp sp oc dn tk tn) (hx : x = nI tk') : ru_sp (upd sp 3 x) oc dn tk tk' :=
  ⟨(cd_un (by decide)).trans h.1, (cd_un (by decide)).trans h.2.1, (cd_un (by decide)).trans h.2.2.1, cd_us.trans hx⟩
def ru_mt (c : cd_T) (M i t : Nat) : Nat := if M.testBit t = true then cd_tm c i t else 0
theorem ru_m1 {M a : Nat} {b : Bool} (h : b = true → a < 8) : cd_sg (fun t => if M.testBit t = true then cd_01 (b && decide (a = t)) else 0) 8 = cd_01 (b && M.testBit a) := by
  cases b with
  | false =>
    refine cd_sgz (fun t _ => ?_)
    split <;> rfl
  | true =>
    rw [cd_sg1 (k := a) (h rfl) (fun t _ ht => by
      have z : decide (a = t) = false := decide_eq_false (fun y => ht y.symm)
      rw [z]
      split <;> rfl)]
    have z : decide (a = a) = true := decide_eq_true rfl
    rw [z]
    cases M.testBit a <;> rfl
theorem ru_msum {c : cd_T} {m : Int32} {op oD oA oB : Nat → Int32} (hc : cd_Is c m op oD oA oB) {M i : Nat} (hi : i < cd_n c) : cd_sg (ru_mt c M i) 8 = cd_01 (cd_df (cd_o c i) && M.testBit (cd_d c i)) + cd_01 (cd_ua (cd_o c i) && M.testBit (cd_a c i)) + cd_01 (cd_ub (cd_o c i) && M.testBit (cd_b c i)) := by
  have h1 := hc.2.2 i hi
  rw [← ru_m1 (M := M) (a := cd_d c i) (fun z => (h1.2.2.1 z).2), ← ru_m1 (M := M) (a := cd_a c i) (fun z => (h1.2.2.2.1 z).2), ← ru_m1 (M := M) (a := cd_b c i) (fun z => (h1.2.2.2.2.1 z).2), ← cd_sga, ← cd_sga]
  refine cd_sgc (fun t _ => ?_)
  unfold ru_mt cd_tm
  cases M.testBit t <;> rfl
section
variable {f_n f_k f_known f_placed f_memory f_saved f_waiting f_forward : Int32} {a_ops a_ds a_as a_bs a_before a_ways a_clash a_costs a_best a_trial a_inputs a_outputs a_cells a_spent : Nat → Int32} {c : cd_T} {M : Nat} {P : Nat → Nat} {i oc dn tk tn ic : Nat} {ce : Nat → Int32}
theorem yr_pay {post : SY → Prop} (hc : cd_Is c f_n a_ops a_ds a_as a_bs) (hi : i < cd_n c) (hP : xs_P M P a_best) (hf : ∀ t, t < 8 → P t < 100) (hsp : ru_sp a_spent oc dn tk tn)
    (k : ∀ sp, ru_sp sp oc dn (tk + ru_py c M P i) tn → post (f_n, f_k, f_known, f_placed, f_memory, f_saved, f_waiting, f_forward, a_ops, a_ds, a_as, a_bs, a_before, a_ways, a_clash, a_costs, a_best, a_trial, a_inputs, a_outputs, a_cells, sp)) : (wpY_pay post (f_n, f_k, f_known, f_placed, f_memory, f_saved, f_waiting, f_forward, a_ops, a_ds, a_as, a_bs, a_before, a_ways, a_clash, a_costs, a_best, a_trial, a_inputs, a_outputs, a_cells, a_spent) (nI i)) := by
  have main : ms_sv c M P i = false → ∀ d j sp, j + d = 8 → ru_sp sp oc dn (tk + 1 + 2 * cd_sg (ru_mt c M i) j) tn → (wY_pay_25 post (nI i) f_n f_k f_known f_placed f_memory f_saved f_waiting f_forward (d + 1) (nI j) a_ops a_ds a_as a_bs a_before a_ways a_clash a_costs a_best a_trial a_inputs a_outputs a_cells sp) := by
    intro hsv d
    induction d with
    | zero =>
      intro j sp hj h
      have ej : j = 8 := by omega
      subst ej
      refine br_t (by decide) (k sp ?_)
      have ep : tk + ru_py c M P i = tk + 1 + 2 * cd_sg (ru_mt c M i) 8 := by
        unfold ru_py
        rw [hsv, if_neg (by decide), ru_msum hc hi]
        omega
      rw [ep]
      exact h
    | succ d ih =>
      intro j sp hj h
      have hj8 : j < 8 := by omega
      refine br_f (nI_ge (b := 8) (by omega) (by decide)) ⟨vp_in_nI hj8 (by decide), ?_⟩
      rw [nI_clamp (by omega), hP j hj8]
      cases hm : M.testBit j
      · rw [if_neg (by decide)]
        have := hf j hj8
        refine br_f (cd_n2 (by omega)) (nm_r (nI_1 j) (ih (j + 1) sp (by omega) ?_))
        rw [cd_sgs, show ru_mt c M i j = 0 from by unfold ru_mt; rw [hm, if_neg (by decide)], Nat.add_zero (cd_sg (ru_mt c M i) j)]
        exact h
      · rw [if_pos rfl]
        refine br_t rfl (yy_times hc hi hj8 (nm_e (nm_r (nI_1 j) (ih (j + 1) _ (by omega) (ru_sp2 h ?_)))))
        rw [h.2.2.1, show (2 : Int32) = nI 2 from rfl, pk_mul, nI_add, cd_sgs, show ru_mt c M i j = cd_tm c i j from by unfold ru_mt; rw [hm, if_pos rfl]]
        congr 1
        omega
  unfold wpY_pay
  dsimp only
  refine ya_saved_best hc hi hP hf (fun hsv => br_f cd_10 (k a_spent ?_)) (fun hsv => br_t rfl (nm_e ⟨9, main hsv 8 0 _ (by omega) (ru_sp2 hsp ?_)⟩))
  · have ep : ru_py c M P i = 0 := by
      unfold ru_py
      rw [hsv, if_pos rfl]
    rw [ep]
    exact hsp
  · rw [hsp.2.2.1, nI_1]
    rfl
theorem yr_70 {post : Int32 → SY → Prop} (hc : cd_Is c f_n a_ops a_ds a_as a_bs) (hi : i < cd_n c) (hce : ∀ t, t < 8 → a_cells t = ce t) (hic : f_waiting = nI ic) (hic2 : ic ≤ 8) (hsp : ru_sp a_spent oc dn tk tn) (hoc2 : oc ≤ 200) (htn2 : tn ≤ 200)
    {x3 x4 x5 xa xb : Int32} (hx3 : x3 = a_ds i) (hx4 : x4 = a_as i) (hx5 : x5 = a_bs i) (hxa : (cd_ua (cd_o c i) = true ∨ cd_o c i = 0) → xa = ru_x c ce i) (hxb : cd_ub (cd_o c i) = true → xb = ce (cd_b c i))
    (k : ∀ ce' sp, (∀ t, t < 8 → ce' t = ru_ce c a_inputs ic ce tn i t) → ru_sp sp (ru_oc c oc i) dn tk (ru_tn c tn i) → post (nI (cd_en c (ru_pc c ce i))) (f_n, f_k, f_known, f_placed, f_memory, f_saved, f_waiting, f_forward, a_ops, a_ds, a_as, a_bs, a_before, a_ways, a_clash, a_costs, a_best, a_trial, a_inputs, ru_ou c ce a_outputs oc i, ce', sp)) : (wY_step_70 post (nI i) (nI (cd_o c i)) x3 x4 x5 xa xb f_n f_k f_known f_placed f_memory f_saved f_waiting f_forward a_ops a_ds a_as a_bs a_before a_ways a_clash a_costs a_best a_trial a_inputs a_outputs a_cells a_spent) := by
  have hn := hc.2.1
  have h1 := hc.2.2 i hi
  have ho := h1.2.1
  have e1n : cd_en c (i + 1) = i + 1 := by
    unfold cd_en
    split <;> omega
  refine br_f (nI_pos (by omega)) (pk_lt 9 (cd_o c i) (fun z => ?_) (fun z => ?_))
  · have o10 : cd_o c i = 10 := by omega
    have df : cd_df (cd_o c i) = false := cd_dff (by omega)
    have k1 := k a_cells a_spent (fun t ht => by unfold ru_ce; rw [df, if_neg (by decide)]; exact hce t ht) (by rw [ru_oc0 (by omega), ru_tn0 (by omega)]; exact hsp)
    have ep : ru_pc c ce i = cd_n c := by
      unfold ru_pc
      rw [if_neg (by omega), if_neg (by omega), if_pos o10]
    rw [ep, cd_en1 (Nat.le_refl _), ru_ou0 (by omega), ← hc.1] at k1
    exact k1
  /- the ones that define -/
  have sto : cd_df (cd_o c i) = true → cd_o c i ≠ 9 → ∀ v, v = ru_v c a_inputs ic ce tn i → vp_in x3 8 ∧ ∀ ce', ce' = upd a_cells x3.toNatClampNeg v → post (nI i + 1) (f_n, f_k, f_known, f_placed, f_memory, f_saved, f_waiting, f_forward, a_ops, a_ds, a_as, a_bs, a_before, a_ways, a_clash, a_costs, a_best, a_trial, a_inputs, a_outputs, ce', a_spent) := fun df o9 v hv => by
    have hd := h1.2.2.1 df
    have dfo := cd_dfi.mp df
    rw [hx3, hd.1]
    refine ⟨vp_in_nI hd.2 (by decide), ?_⟩
    rw [nI_clamp (by omega)]
    intro ce' hce'
    have k1 := k ce' a_spent (fun t ht => by
      unfold ru_ce
      rw [df, if_pos rfl, hce', ← hv]
      by_cases e : t = cd_d c i
      · rw [e, cd_us, cd_us]
      · rw [cd_un e, cd_un e]
        exact hce t ht) (by rw [ru_oc0 (by omega), ru_tn0 o9]; exact hsp)
    rw [ru_pc1 (by omega) (by omega) (by omega), e1n, ru_ou0 (by omega)] at k1
    rw [nI_1]
    exact k1
  have ev : cd_o c i ≠ 9 → ru_v c a_inputs ic ce tn i = if cd_o c i = 1 then ru_x c ce i + ce (cd_b c i) else if cd_o c i = 2 then ru_x c ce i - ce (cd_b c i) else if cd_o c i = 3 then ru_x c ce i * ce (cd_b c i) else if cd_o c i = 4 then (if ce (cd_b c i) ≤ ru_x c ce i then 0 else 1) else ru_x c ce i := fun o9 => if_neg o9
  refine pk_eq (cd_o c i) 0 (fun o0 => ?_) (fun o0 => pk_eq (cd_o c i) 1 (fun o1 => ?_) (fun o1 => pk_eq (cd_o c i) 2 (fun o2 => ?_) (fun o2 => pk_eq (cd_o c i) 3 (fun o3 => ?_) (fun o3 => pk_eq (cd_o c i) 4 (fun o4 => ?_) (fun o4 => pk_eq (cd_o c i) 5 (fun o5 => ?_) (fun o5 => pk_eq (cd_o c i) 6 (fun o6 => ?_) (fun o6 => pk_eq (cd_o c i) 7 (fun o7 => ?_) (fun o7 => pk_eq (cd_o c i) 8 (fun o8 => ?_) (fun o8 => pk_eq (cd_o c i) 9 (fun o9 => ?_) (fun o9 => True.intro))))))))))
  · exact sto (cd_dft (by omega)) (by omega) xa (by rw [ev (by omega), if_neg (by omega), if_neg (by omega), if_neg (by omega), if_neg (by omega)]; exact hxa (Or.inr o0))
  · exact sto (cd_dft (by omega)) (by omega) _ (by rw [ev (by omega), if_pos o1, hxa (Or.inl (cd_uat (by omega))), hxb (cd_ubt (by omega))])
  · exact sto (cd_dft (by omega)) (by omega) _ (by rw [ev (by omega), if_neg o1, if_pos o2, hxa (Or.inl (cd_uat (by omega))), hxb (cd_ubt (by omega))])
  · exact sto (cd_dft (by omega)) (by omega) _ (by rw [ev (by omega), if_neg o1, if_neg o2, if_pos o3, hxa (Or.inl (cd_uat (by omega))), hxb (cd_ubt (by omega))])
  · refine br_c (fun w => sto (cd_dft (by omega)) (by omega) _ ?_) (fun w => sto (cd_dft (by omega)) (by omega) _ ?_)
    · rw [hxa (Or.inl (cd_uat (by omega))), hxb (cd_ubt (by omega))] at w
      rw [ev (by omega), if_neg o1, if_neg o2, if_neg o3, if_pos o4, if_pos w]
    · rw [hxa (Or.inl (cd_uat (by omega))), hxb (cd_ubt (by omega))] at w
      rw [ev (by omega), if_neg o1, if_neg o2, if_neg o3, if_pos o4, if_neg w]
  · exact sto (cd_dft (by omega)) (by omega) xa (by rw [ev (by omega), if_neg o1, if_neg o2, if_neg o3, if_neg o4]; exact hxa (Or.inl (cd_uat (by omega))))
  · have ha := h1.2.2.2.2.2.1 o6
    have df : cd_df (cd_o c i) = false := cd_dff (by omega)
    have k1 := k a_cells a_spent (fun t ht => by unfold ru_ce; rw [df, if_neg (by decide)]; exact hce t ht) (by rw [ru_oc0 (by omega), ru_tn0 (by omega)]; exact hsp)
    rw [show ru_pc c ce i = cd_a c i from if_pos o6, ru_ou0 (by omega)] at k1
    rw [hx4, ha.1]
    exact yy_end (post := fun r => post r (f_n, f_k, f_known, f_placed, f_memory, f_saved, f_waiting, f_forward, a_ops, a_ds, a_as, a_bs, a_before, a_ways, a_clash, a_costs, a_best, a_trial, a_inputs, a_outputs, a_cells, a_spent)) hc (by omega) k1
  · have hb := h1.2.2.2.2.2.2.1 o7
    have df : cd_df (cd_o c i) = false := cd_dff (by omega)
    have k1 := k a_cells a_spent (fun t ht => by unfold ru_ce; rw [df, if_neg (by decide)]; exact hce t ht) (by rw [ru_oc0 (by omega), ru_tn0 (by omega)]; exact hsp)
    have ep : ru_pc c ce i = if ru_x c ce i = 0 then cd_b c i else i + 1 := by
      unfold ru_pc
      rw [if_neg o6, if_pos o7]
    rw [ep, ru_ou0 (by omega), ← hxa (Or.inl (cd_uat (by omega)))] at k1
    refine br_c (fun w => ?_) (fun w => ?_)
    · rw [if_pos w] at k1
      rw [hx5, hb.1]
      exact yy_end (post := fun r => post r (f_n, f_k, f_known, f_placed, f_memory, f_saved, f_waiting, f_forward, a_ops, a_ds, a_as, a_bs, a_before, a_ways, a_clash, a_costs, a_best, a_trial, a_inputs, a_outputs, a_cells, a_spent)) hc (by omega) k1
    · rw [if_neg w, e1n] at k1
      rw [nI_1]
      exact k1
  · have df : cd_df (cd_o c i) = false := cd_dff (by omega)
    have hce' : ∀ t, t < 8 → a_cells t = ru_ce c a_inputs ic ce tn i t := fun t ht => by unfold ru_ce; rw [df, if_neg (by decide)]; exact hce t ht
    have hsp' : ru_sp (upd a_spent 0 (a_spent 0 + 1)) (ru_oc c oc i) dn tk (ru_tn c tn i) := by
      rw [ru_tn0 (by omega)]
      exact ru_sp0 hsp (by rw [hsp.1, nI_1, show ru_oc c oc i = oc + 1 from if_pos o8])
    have k1 := k a_cells _ hce' hsp'
    rw [ru_pc1 o6 o7 (by omega), e1n] at k1
    rw [hsp.1]
    rw [hsp.1] at k1
    refine pk_le 30 oc (fun w => nm_r (by rw [hsp.1]) ?_) (fun w => ⟨vp_in_nI w (by decide), ?_⟩)
    · rw [show ru_ou c ce a_outputs oc i = a_outputs from if_neg (by omega)] at k1
      rw [nI_1]
      exact k1
    · rw [show ru_ou c ce a_outputs oc i = upd a_outputs oc (ru_x c ce i) from if_pos ⟨o8, w⟩, ← hxa (Or.inl (cd_uat (by omega)))] at k1
      rw [nI_clamp (by omega)]
      refine nm_e (nm_r (by rw [hsp.1]) ?_)
      rw [nI_1]
      exact k1
  · have df : cd_df (cd_o c i) = true := cd_dft (by omega)
    have hd := h1.2.2.1 df
    have s303 : ∀ v, v = ru_v c a_inputs ic ce tn i → (wY_step_303 post (nI i) v x3 f_n f_k f_known f_placed f_memory f_saved f_waiting f_forward a_ops a_ds a_as a_bs a_before a_ways a_clash a_costs a_best a_trial a_inputs a_outputs a_cells a_spent) := fun v hv => by
      rw [hx3, hd.1]
      refine ⟨vp_in_nI hd.2 (by decide), ?_⟩
      rw [nI_clamp (by omega)]
      have k1 := k (upd a_cells (cd_d c i) v) (upd a_spent 3 (a_spent 3 + 1)) (fun t ht => by
        unfold ru_ce
        rw [df, if_pos rfl, ← hv]
        by_cases e : t = cd_d c i
        · rw [e, cd_us, cd_us]
        · rw [cd_un e, cd_un e]
          exact hce t ht) (by
        rw [ru_oc0 (by omega)]
        exact ru_sp3 hsp (by rw [hsp.2.2.2, nI_1, show ru_tn c tn i = tn + 1 from if_pos o9]))
      rw [ru_pc1 (by omega) (by omega) (by omega), e1n, ru_ou0 (by omega)] at k1
      refine nm_e (nm_e ?_)
      rw [nI_1]
      exact k1
    have ev9 : ru_v c a_inputs ic ce tn i = if tn < ic then a_inputs tn else 0 := if_pos o9
    rw [hsp.2.2.2]
    refine pk_le ic tn (fun w => s303 0 (by rw [ev9, if_neg (by omega)])) (fun w => ⟨vp_in_nI (by omega) (by decide), ?_⟩) hic
    rw [nI_clamp (by omega)]
    exact s303 _ (by rw [ev9, if_pos w])
theorem yr_step {post : Int32 → SY → Prop} (hc : cd_Is c f_n a_ops a_ds a_as a_bs) (hi : i < cd_n c) (hce : ∀ t, t < 8 → a_cells t = ce t) (hic : f_waiting = nI ic) (hic2 : ic ≤ 8) (hsp : ru_sp a_spent oc dn tk tn) (hoc2 : oc ≤ 200) (htn2 : tn ≤ 200)
    (k : ∀ ce' sp, (∀ t, t < 8 → ce' t = ru_ce c a_inputs ic ce tn i t) → ru_sp sp (ru_oc c oc i) dn tk (ru_tn c tn i) → post (nI (cd_en c (ru_pc c ce i))) (f_n, f_k, f_known, f_placed, f_memory, f_saved, f_waiting, f_forward, a_ops, a_ds, a_as, a_bs, a_before, a_ways, a_clash, a_costs, a_best, a_trial, a_inputs, ru_ou c ce a_outputs oc i, ce', sp)) : (wpY_step post (f_n, f_k, f_known, f_placed, f_memory, f_saved, f_waiting, f_forward, a_ops, a_ds, a_as, a_bs, a_before, a_ways, a_clash, a_costs, a_best, a_trial, a_inputs, a_outputs, a_cells, a_spent) (nI i)) := by
  have hn := hc.2.1
  have h1 := hc.2.2 i hi
  have ho := h1.2.1
  have hv : vp_in (nI i) 20 := vp_in_nI (by omega) (by decide)
  have e : (nI i).toNatClampNeg = i := nI_clamp (by omega)
  have ea : a_ops (nI i).toNatClampNeg = nI (cd_o c i) := by rw [e]; exact h1.1
  have s49 : ∀ xa, ((cd_ua (cd_o c i) = true ∨ cd_o c i = 0) → xa = ru_x c ce i) → (wY_step_49 post (nI i) (nI (cd_o c i)) (a_ds i) (a_as i) (a_bs i) xa f_n f_k f_known f_placed f_memory f_saved f_waiting f_forward a_ops a_ds a_as a_bs a_before a_ways a_clash a_costs a_best a_trial a_inputs a_outputs a_cells a_spent) := fun xa hxa => by
    refine yy_ub ho (fun ub => br_f cd_10 ?_) (fun ub => br_t rfl ?_)
    · have hb := h1.2.2.2.2.1 ub
      have vb : vp_in (a_bs i) 8 := by rw [hb.1]; exact vp_in_nI hb.2 (by decide)
      have eb : (a_bs i).toNatClampNeg = cd_b c i := by rw [hb.1]; exact nI_clamp (by omega)
      exact ⟨vb, yr_70 hc hi hce hic hic2 hsp hoc2 htn2 rfl rfl rfl hxa (fun _ => by rw [eb]; exact hce _ hb.2) k⟩
    · exact yr_70 hc hi hce hic hic2 hsp hoc2 htn2 rfl rfl rfl hxa (fun z => by rw [ub] at z; exact absurd z (by decide)) k
  refine ⟨hv, nm_r ea ⟨hv, nm_r (e' := a_ds i) (by rw [e]) ⟨hv, nm_r (e' := a_as i) (by rw [e]) ⟨hv, nm_r (e' := a_bs i) (by rw [e]) (yy_ua ho (fun ua => br_f cd_10 ?_) (fun ua => br_t rfl ?_))⟩⟩⟩⟩
  · have ha := h1.2.2.2.1 ua
    have va : vp_in (a_as i) 8 := by rw [ha.1]; exact vp_in_nI ha.2 (by decide)
    have ea2 : (a_as i).toNatClampNeg = cd_a c i := by rw [ha.1]; exact nI_clamp (by omega)
    refine ⟨va, s49 _ (fun _ => ?_)⟩
    unfold ru_x
    rw [ua, if_pos rfl, ea2]
    exact hce _ ha.2
  · refine s49 _ (fun z => ?_)
    rcases z with z | z
    · rw [ua] at z
      exact absurd z (by decide)
    · unfold ru_x
      rw [ua, if_neg (by decide)]
      exact h1.2.2.2.2.2.2.2 z
end
end
section
/-! Y: the run -/
section
variable {f_n f_k f_known f_placed f_memory f_saved f_waiting f_forward : Int32} {a_ops a_ds a_as a_bs a_before a_ways a_clash a_costs a_best a_trial a_inputs a_outputs a_cells a_spent : Nat → Int32} {c : cd_T} {post : Int32 → SY → Prop} {M : Nat} {P : Nat → Nat} {ic : Nat}
theorem yr_47 (hc : cd_Is c f_n a_ops a_ds a_as a_bs) (hP : xs_P M P a_best) (hf : ∀ t, t < 8 → P t < 100) (hic : f_waiting = nI ic) (hic2 : ic ≤ 8) :
    ∀ N e oc dn tk tn ce ou cl sp, N + dn = 201 → ru_ok oc dn tk tn → e ≤ cd_n c → (∀ t, t < 8 → cl t = ce t) → ru_sp sp oc dn tk tn →
      (∀ cl' sp' r s, ru_run c M P a_inputs ic N (e, ce, oc, dn, tk, tn, ou) = (r, s) → ru_sp sp' s.2.2.1 s.2.2.2.1 s.2.2.2.2.1 s.2.2.2.2.2.1 → post r (f_n, f_k, f_known, f_placed, f_memory, f_saved, f_waiting, f_forward, a_ops, a_ds, a_as, a_bs, a_before, a_ways, a_clash, a_costs, a_best, a_trial, a_inputs, s.2.2.2.2.2.2, cl', sp')) →
      (wY_run_47 post N (nI e) f_n f_k f_known f_placed f_memory f_saved f_waiting f_forward a_ops a_ds a_as a_bs a_before a_ways a_clash a_costs a_best a_trial a_inputs ou cl sp) := by
  have hn := hc.2.1
  intro N
  induction N with
  | zero =>
    intro e oc dn tk tn ce ou cl sp hN hok
    unfold ru_ok at hok
    omega
  | succ N ih =>
    intro e oc dn tk tn ce ou cl sp hN hok he hcl hsp kk
    have hok' := hok
    unfold ru_ok at hok'
    refine pk_le (cd_n c) e (fun z => ?_) (fun z => ?_) hc.1
    · exact kk cl sp 0 _ (ru_r0 z) hsp
    · rw [hsp.2.1]
      have hz : ¬ cd_n c ≤ e := by omega
      refine pk_eq dn 200 (fun y => kk cl sp 1 _ (ru_r1 hz y) hsp) (fun y => nm_e ?_)
      refine yr_pay hc z hP hf (ru_sp1 hsp (nI_1 dn)) (fun sp1 h1 => ?_)
      refine yr_step hc z hcl hic hic2 h1 (by omega) (by omega) (fun cl2 sp2 h2 h3 => ?_)
      have he' : cd_en c (ru_pc c ce e) ≤ cd_n c := by
        unfold cd_en
        split <;> omega
      refine ih (cd_en c (ru_pc c ce e)) _ (dn + 1) _ _ (ru_ce c a_inputs ic ce tn e) _ cl2 sp2 (by omega) (ru_oks hok (by omega)) he' h2 h3 (fun cl' sp' r s hr => kk cl' sp' r s ?_)
      rw [ru_rs hz y]
      exact hr
theorem yr_27 (k : ∀ sp, (∀ j, j < 4 → sp j = 0) → ∃ n47, (wY_run_47 post n47 0 f_n f_k f_known f_placed f_memory f_saved f_waiting f_forward a_ops a_ds a_as a_bs a_before a_ways a_clash a_costs a_best a_trial a_inputs a_outputs a_cells sp)) : ∀ d j sp, j + d = 4 → (∀ i, i < j → sp i = 0) → (wY_run_27 post f_n f_k f_known f_placed f_memory f_saved f_waiting f_forward (d + 1) (nI j) a_ops a_ds a_as a_bs a_before a_ways a_clash a_costs a_best a_trial a_inputs a_outputs a_cells sp) := by
  intro d
  induction d with
  | zero =>
    intro j sp hj hb
    have ej : j = 4 := by omega
    subst ej
    exact br_t (by decide) (k sp hb)
  | succ d ih =>
    intro j sp hj hb
    refine br_f (nI_ge (b := 4) (by omega) (by decide)) ⟨vp_in_nI (by omega) (by decide), nm_r (by rw [nI_clamp (by omega)]) (nm_r (nI_1 j) (ih (j + 1) (upd sp j 0) (by omega) (fun i hi => ?_)))⟩
    by_cases ei : i = j
    · rw [ei, cd_us]
    · rw [cd_un ei]
      exact hb i (by omega)
theorem yr_6 (k : ∀ cl, (∀ j, j < 8 → cl j = 0) → ∃ n27, (wY_run_27 post f_n f_k f_known f_placed f_memory f_saved f_waiting f_forward n27 0 a_ops a_ds a_as a_bs a_before a_ways a_clash a_costs a_best a_trial a_inputs a_outputs cl a_spent)) : ∀ d j cl, j + d = 8 → (∀ i, i < j → cl i = 0) → (wY_run_6 post f_n f_k f_known f_placed f_memory f_saved f_waiting f_forward (d + 1) (nI j) a_ops a_ds a_as a_bs a_before a_ways a_clash a_costs a_best a_trial a_inputs a_outputs cl a_spent) := by
  intro d
  induction d with
  | zero =>
    intro j cl hj hb
    have ej : j = 8 := by omega
    subst ej
    exact br_t (by decide) (k cl hb)
  | succ d ih =>
    intro j cl hj hb
    refine br_f (nI_ge (b := 8) (by omega) (by decide)) ⟨vp_in_nI (by omega) (by decide), nm_r (by rw [nI_clamp (by omega)]) (nm_r (nI_1 j) (ih (j + 1) (upd cl j 0) (by omega) (fun i hi => ?_)))⟩
    by_cases ei : i = j
    · rw [ei, cd_us]
    · rw [cd_un ei]
      exact hb i (by omega)
theorem yr_loop (hc : cd_Is c f_n a_ops a_ds a_as a_bs) (hP : xs_P M P a_best) (hf : ∀ t, t < 8 → P t < 100) (hic : f_waiting = nI ic) (hic2 : ic ≤ 8)
    (kk : ∀ cl' sp' r s, ru_run c M P a_inputs ic 201 (0, (fun _ => 0), 0, 0, 0, 0, a_outputs) = (r, s) → ru_sp sp' s.2.2.1 s.2.2.2.1 s.2.2.2.2.1 s.2.2.2.2.2.1 → post r (f_n, f_k, f_known, f_placed, f_memory, f_saved, f_waiting, f_forward, a_ops, a_ds, a_as, a_bs, a_before, a_ways, a_clash, a_costs, a_best, a_trial, a_inputs, s.2.2.2.2.2.2, cl', sp')) :
    ∃ n6, (wY_run_6 post f_n f_k f_known f_placed f_memory f_saved f_waiting f_forward n6 0 a_ops a_ds a_as a_bs a_before a_ways a_clash a_costs a_best a_trial a_inputs a_outputs a_cells a_spent) := by
  refine ⟨9, yr_6 (fun cl hcl => ⟨5, yr_27 (fun sp hsp => ⟨201, ?_⟩) 4 0 a_spent (by omega) (fun i hi => absurd hi (by omega))⟩) 8 0 a_cells (by omega) (fun i hi => absurd hi (by omega))⟩
  exact yr_47 hc hP hf hic hic2 201 0 0 0 0 0 (fun _ => 0) a_outputs cl sp (by omega) ⟨by omega, by omega, by omega, by omega⟩ (by omega) hcl ⟨hsp 0 (by omega), hsp 1 (by omega), hsp 2 (by omega), hsp 3 (by omega)⟩ kk
end
/-! how many registers are used -/
def rs_b (M : Nat) (P : Nat → Nat) (r : Nat) : Nat → Bool
  | 0 => false
  | t + 1 => rs_b M P r t || decide (M.testBit t = false ∧ P t = r)
def rs_n (M : Nat) (P : Nat → Nat) (r : Nat) : Nat := cd_sg (fun r => cd_01 (rs_b M P r 8)) r
theorem rs_bl {M : Nat} {P : Nat → Nat} {r k : Nat} (h : ∀ t, t < 8 → M.testBit t = false → P t < k) (hr : k ≤ r) : ∀ t, t ≤ 8 → rs_b M P r t = false := by
  intro t
  induction t with
  | zero => intro _; rfl
  | succ t ih =>
    intro ht
    show (rs_b M P r t || decide (M.testBit t = false ∧ P t = r)) = false
    rw [ih (by omega), Bool.false_or]
    refine decide_eq_false (fun z => ?_)
    have := h t (by omega) z.1
    omega
theorem rs_nk {M : Nat} {P : Nat → Nat} {k : Nat} (h : ∀ t, t < 8 → M.testBit t = false → P t < k) : ∀ d, rs_n M P (k + d) = rs_n M P k := by
  intro d
  induction d with
  | zero => rfl
  | succ d ih =>
    show rs_n M P (k + d) + cd_01 (rs_b M P (k + d) 8) = _
    rw [ih, rs_bl h (by omega) 8 (by omega)]
    rfl
theorem rs_nl (M : Nat) (P : Nat → Nat) (r : Nat) : rs_n M P r ≤ r := by
  have := cd_sgk (fun r => cd_01 (rs_b M P r 8)) 1 r (fun j _ => cd_01l _)
  unfold rs_n
  omega
section
variable {f_count f_k f_inputCount f_known f_selfMoves f_allMoves f_allocated f_inMemory f_memoryCost f_saved f_outputCount f_done f_took f_taken : Int32} {a_op a_opD a_opA a_opB a_inputs a_before a_behind a_ways a_clash a_costs a_needs a_moves a_place a_tried a_gained a_possible a_register a_memory a_outputs : Nat → Int32} {q : Int32 → Prop} {M : Nat} {P : Nat → Nat}
theorem xu_40 {x1 : Int32} (hx1 : ∀ r, r < 4 → bt x1 r = rs_b M P r 8) (kk : q (nI (rs_n M P 4))) : ∀ d j x2, j + d = 4 → x2 = nI (rs_n M P j) → (wX_registersUsed_40 q x1 f_count f_k f_inputCount f_known f_selfMoves f_allMoves f_allocated f_inMemory f_memoryCost f_saved f_outputCount f_done f_took f_taken a_op a_opD a_opA a_opB a_inputs a_before a_behind a_ways a_clash a_costs a_needs a_moves a_place a_tried a_gained a_possible a_register a_memory a_outputs (d + 1) x2 (nI j)) := by
  intro d
  induction d with
  | zero =>
    intro j x2 hj hx
    have ej : j = 4 := by omega
    subst ej hx
    exact br_t (by decide) kk
  | succ d ih =>
    intro j x2 hj hx
    refine br_f (nI_ge (b := 4) (by omega) (by decide)) (nm_e (nm_r (nI_1 j) (ih (j + 1) _ (by omega) ?_)))
    have e : ((x1 >>> (nI j &&& 31)) &&& 1) = nI (cd_01 (rs_b M P j 8)) := by
      rw [← hx1 j (by omega)]
      cases hb : bt x1 j
      · exact (cd_t0 x1 (by omega)).mpr hb
      · exact (cd_t1 x1 (by omega)).mpr hb
    rw [hx, e, nI_add]
    rfl
theorem xu_6 (hP : xs_P M P a_place) (h4 : ∀ t, t < 8 → M.testBit t = false → P t < 4) (kk : q (nI (rs_n M P 4))) : ∀ d j x1, j + d = 8 → (∀ r, r < 4 → bt x1 r = rs_b M P r j) → (wX_registersUsed_6 q 0 f_count f_k f_inputCount f_known f_selfMoves f_allMoves f_allocated f_inMemory f_memoryCost f_saved f_outputCount f_done f_took f_taken a_op a_opD a_opA a_opB a_inputs a_before a_behind a_ways a_clash a_costs a_needs a_moves a_place a_tried a_gained a_possible a_register a_memory a_outputs (d + 1) x1 (nI j)) := by
  intro d
  induction d with
  | zero =>
    intro j x1 hj hx
    have ej : j = 8 := by omega
    subst ej
    exact br_t (by decide) ⟨5, xu_40 hx kk 4 0 0 (by omega) rfl⟩
  | succ d ih =>
    intro j x1 hj hx
    have hv : vp_in (nI j) 8 := vp_in_nI (by omega) (by decide)
    refine br_f (nI_ge (b := 8) (by omega) (by decide)) ⟨hv, ?_⟩
    rw [nI_clamp (by omega), hP j (by omega)]
    cases hm : M.testBit j
    · have h := h4 j (by omega) hm
      rw [if_neg (by decide)]
      refine br_f (nI_pos (by omega)) ⟨hv, nm_e (nm_r (nI_1 j) (ih (j + 1) _ (by omega) (fun r hr => ?_)))⟩
      rw [b_or, hx r hr, cd_sh (by omega) (by omega)]
      show _ = (rs_b M P r j || decide (M.testBit j = false ∧ P j = r))
      congr 1
      rw [decide_eq_decide]
      exact ⟨fun z => ⟨hm, z.symm⟩, fun z => z.2.symm⟩
    · rw [if_pos rfl]
      refine br_t (by decide) (nm_r (nI_1 j) (ih (j + 1) x1 (by omega) (fun r hr => ?_)))
      show _ = (rs_b M P r j || decide (M.testBit j = false ∧ P j = r))
      rw [hx r hr, decide_eq_false (fun z => by rw [z.1] at hm; exact absurd hm (by decide)), Bool.or_false]
theorem xu_used (hP : xs_P M P a_place) (h4 : ∀ t, t < 8 → M.testBit t = false → P t < 4) (kk : q (nI (rs_n M P 4))) : (wpX_registersUsed q (f_count, f_k, f_inputCount, f_known, f_selfMoves, f_allMoves, f_allocated, f_inMemory, f_memoryCost, f_saved, f_outputCount, f_done, f_took, f_taken, a_op, a_opD, a_opA, a_opB, a_inputs, a_before, a_behind, a_ways, a_clash, a_costs, a_needs, a_moves, a_place, a_tried, a_gained, a_possible, a_register, a_memory, a_outputs)) :=
  ⟨9, xu_6 hP h4 kk 8 0 0 (by omega) (fun r _ => b_0 r)⟩
end
section
variable {f_n f_k f_known f_placed f_memory f_saved f_waiting f_forward : Int32} {a_ops a_ds a_as a_bs a_before a_ways a_clash a_costs a_best a_trial a_inputs a_outputs a_cells a_spent : Nat → Int32} {c : cd_T} {post : Int32 → SY → Prop} {M k : Nat} {P : Nat → Nat}
theorem yb_69 {J54 : Int32 → Int32 → Prop} {x1 x2 : Int32} {x3 r : Nat} (hP : xs_P M P a_best) (hf : ∀ t, t < 8 → P t < 100) (hr : r < 4) (kk : J54 (nI (x3 + cd_01 (rs_b M P r 8))) (nI (r + 1))) :
    ∀ d j x5, j + d = 8 → x5 = nI (cd_01 (rs_b M P r j)) → (wY_best_69 post J54 x1 x2 (nI x3) (nI r) f_n f_k f_known f_placed f_memory f_saved f_waiting f_forward a_ops a_ds a_as a_bs a_before a_ways a_clash a_costs a_best a_trial a_inputs a_outputs a_cells a_spent (d + 1) x5 (nI j)) := by
  intro d
  induction d with
  | zero =>
    intro j x5 hj hx
    have ej : j = 8 := by omega
    subst ej hx
    refine br_t (by decide) ?_
    cases hb : rs_b M P r 8
    · rw [hb] at kk
      exact br_t rfl (nm_r (nI_1 r) kk)
    · rw [hb] at kk
      exact br_f cd_10 (nm_r (nI_1 x3) (nm_r (nI_1 r) kk))
  | succ d ih =>
    intro j x5 hj hx
    refine br_f (nI_ge (b := 8) (by omega) (by decide)) ⟨vp_in_nI (by omega) (by decide), ?_⟩
    rw [nI_clamp (by omega), hP j (by omega)]
    have hs : rs_b M P r (j + 1) = (rs_b M P r j || decide (M.testBit j = false ∧ P j = r)) := rfl
    have hor : ∀ b : Bool, nI (cd_01 b) ||| 0 = nI (cd_01 b) ∧ nI (cd_01 b) ||| 1 = nI 1 := by
      intro b
      cases b <;> decide
    have no : ¬ (M.testBit j = false ∧ P j = r) → nI (cd_01 (rs_b M P r j)) ||| 0 = nI (cd_01 (rs_b M P r (j + 1))) := fun z => by
      rw [hs, decide_eq_false z, Bool.or_false]
      exact (hor _).1
    cases hm : M.testBit j
    · have h := hf j (by omega)
      rw [if_neg (by decide)]
      refine pk_eq (P j) r (fun z => nm_e (nm_r (nI_1 j) (ih (j + 1) _ (by omega) ?_))) (fun z => nm_e (nm_r (nI_1 j) (ih (j + 1) _ (by omega) ?_)))
      · rw [hx, hs, decide_eq_true ⟨hm, z⟩, Bool.or_true]
        exact (hor _).2
      · rw [hx]
        exact no (fun w => z w.2)
    · rw [if_pos rfl]
      refine br_f (fun z => cd_n2 (by omega : r < 2 ^ 31) z.symm) (nm_e (nm_r (nI_1 j) (ih (j + 1) _ (by omega) ?_)))
      rw [hx]
      exact no (fun w => by rw [w.1] at hm; exact absurd hm (by decide))
theorem yb_54 {x1 x2 : Int32} (hk : f_k = nI k) (hk4 : k ≤ 4) (hP : xs_P M P a_best) (hf : ∀ t, t < 8 → P t < 100)
    (kk : (x1 = 0 → (wpY_sum (fun r_32 => post r_32 (f_n, f_k, f_known, f_placed, f_memory, f_saved, f_waiting, f_forward, a_ops, a_ds, a_as, a_bs, a_before, a_ways, a_clash, a_costs, a_best, a_trial, a_inputs, a_outputs, a_cells, a_spent)) (f_n, f_k, f_known, f_placed, f_memory, f_saved, f_waiting, f_forward, a_ops, a_ds, a_as, a_bs, a_before, a_ways, a_clash, a_costs, a_best, a_trial, a_inputs, a_outputs, a_cells, a_spent) f_memory)) ∧ (¬ x1 = 0 → ((x1 = 1 → post f_memory (f_n, f_k, f_known, f_placed, f_memory, f_saved, f_waiting, f_forward, a_ops, a_ds, a_as, a_bs, a_before, a_ways, a_clash, a_costs, a_best, a_trial, a_inputs, a_outputs, a_cells, a_spent)) ∧ (¬ x1 = 1 → ((x1 = 2 → post f_saved (f_n, f_k, f_known, f_placed, f_memory, f_saved, f_waiting, f_forward, a_ops, a_ds, a_as, a_bs, a_before, a_ways, a_clash, a_costs, a_best, a_trial, a_inputs, a_outputs, a_cells, a_spent)) ∧ (¬ x1 = 2 → ((x1 = 3 → post x2 (f_n, f_k, f_known, f_placed, f_memory, f_saved, f_waiting, f_forward, a_ops, a_ds, a_as, a_bs, a_before, a_ways, a_clash, a_costs, a_best, a_trial, a_inputs, a_outputs, a_cells, a_spent)) ∧ (¬ x1 = 3 → post (nI (rs_n M P k)) (f_n, f_k, f_known, f_placed, f_memory, f_saved, f_waiting, f_forward, a_ops, a_ds, a_as, a_bs, a_before, a_ways, a_clash, a_costs, a_best, a_trial, a_inputs, a_outputs, a_cells, a_spent))))))))) :
    ∀ d j x3, j + d = k → x3 = nI (rs_n M P j) → (wY_best_54 post x1 x2 f_n f_k f_known f_placed f_memory f_saved f_waiting f_forward a_ops a_ds a_as a_bs a_before a_ways a_clash a_costs a_best a_trial a_inputs a_outputs a_cells a_spent (d + 1) x3 (nI j)) := by
  intro d
  induction d with
  | zero =>
    intro j x3 hj hx
    have ej : j = k := by omega
    subst ej hx
    exact pk_le j j (fun _ => kk) (fun z => absurd z (by omega)) hk
  | succ d ih =>
    intro j x3 hj hx
    subst hx
    refine pk_le k j (fun z => absurd z (by omega)) (fun z => ⟨9, ?_⟩) hk
    exact yb_69 hP hf (by omega) (ih (j + 1) _ (by omega) rfl) 8 0 0 (by omega) rfl
theorem yb_22 {x1 : Int32} (hc : cd_Is c f_n a_ops a_ds a_as a_bs) (kk : ∃ n54, (wY_best_54 post x1 (nI (cd_al c (cd_n c))) f_n f_k f_known f_placed f_memory f_saved f_waiting f_forward a_ops a_ds a_as a_bs a_before a_ways a_clash a_costs a_best a_trial a_inputs a_outputs a_cells a_spent n54 0 0)) : ∀ d j x2, j + d = cd_n c → x2 = nI (cd_al c j) → (wY_best_22 post x1 0 f_n f_k f_known f_placed f_memory f_saved f_waiting f_forward a_ops a_ds a_as a_bs a_before a_ways a_clash a_costs a_best a_trial a_inputs a_outputs a_cells a_spent (d + 1) x2 (nI j)) := by
  have hn := hc.2.1
  intro d
  induction d with
  | zero =>
    intro j x2 hj hx
    have ej : j = cd_n c := by omega
    subst ej hx
    exact pk_le (cd_n c) (cd_n c) (fun _ => kk) (fun z => absurd z (by omega)) hc.1
  | succ d ih =>
    intro j x2 hj hx
    have h1 := hc.2.2 j (by omega)
    have ho := h1.2.1
    refine pk_le (cd_n c) j (fun z => absurd z (by omega)) (fun z => ⟨vp_in_nI (by omega) (by decide), ?_⟩) hc.1
    rw [nI_clamp (by omega), h1.1]
    have hs : cd_al c (j + 1) = cd_al c j + cd_01 (decide (cd_o c j = 5)) := rfl
    refine pk_eq (cd_o c j) 5 (fun y => nm_e (nm_r (nI_1 j) (ih (j + 1) _ (by omega) ?_))) (fun y => nm_r (nI_1 j) (ih (j + 1) x2 (by omega) ?_))
    · rw [hx, nI_1, hs, decide_eq_true y]
      rfl
    · rw [hx, hs, decide_eq_false y]
      rfl
end
end
section
/-! put -/
def pu_in (N : Nat) (p : Int32) : Prop := ∃ j, j < N ∧ p = nI j
theorem pu_no {N : Nat} {p : Int32} (hN : N < 2 ^ 31) (h : p < 0 ∨ nI N ≤ p) : ¬ pu_in N p := by
  rintro ⟨j, hj, e⟩
  subst e
  rcases h with z | z
  · exact nI_pos (by omega) z
  · rw [nI_leI hN (by omega)] at z
    omega
theorem xx_in' {post : Int32 → Prop} {p : Int32} {N : Nat} (hN : N < 2 ^ 31) (h1 : pu_in N p → post 1) (h0 : ¬ pu_in N p → post 0) : wpX_in post p (nI N) :=
  xx_in hN (fun z => h0 (pu_no hN z)) (fun j hj e => h1 ⟨j, hj, e⟩)
theorem pu_pr {N : Nat} (hN : N < 2 ^ 31) (x : Int32) : nI N - 1 < x ↔ nI N ≤ x := by
  rcases Nat.eq_zero_or_pos N with z | z
  · subst z
    rw [show nI 0 - 1 = -1 by decide, show nI 0 = 0 by decide, Int32.lt_iff_toInt_lt, Int32.le_iff_toInt_le, show (-1 : Int32).toInt = -1 by decide, show (0 : Int32).toInt = 0 by decide]
    omega
  · rw [cd_d1 z, Int32.lt_iff_toInt_lt, Int32.le_iff_toInt_le, nI_toInt (by omega), nI_toInt hN]
    omega
theorem yy_in' {post : Int32 → Prop} {p hi : Int32} {N : Nat} (hN : N < 2 ^ 31) (eh : hi = nI N - 1) (h1 : pu_in N p → post 1) (h0 : ¬ pu_in N p → post 0) : wpY_in post p 0 hi := by
  subst eh
  rcases pk_ix p hN with z | z | ⟨j, hj, e⟩
  · exact br_t z (h0 (pu_no hN (Or.inl z)))
  · exact br_c (fun z' => h0 (pu_no hN (Or.inl z'))) (fun _ => br_t ((pu_pr hN p).mpr z) (h0 (pu_no hN (Or.inr z))))
  · subst e
    exact br_f (nI_pos (by omega)) (br_f (fun z => nI_ge hj hN ((pu_pr hN _).mp z)) (h1 ⟨j, hj, rfl⟩))
def pu_G (o : Nat) (v2 v3 v4 : Int32) : Prop := (cd_df o = true → pu_in 8 v2) ∧ (cd_ua o = true → pu_in 8 v3) ∧ (cd_ub o = true → pu_in 8 v4) ∧ (o = 6 → pu_in 21 v3) ∧ (o = 7 → pu_in 21 v4)
theorem xp_59 {post : Int32 → Prop} {o : Nat} (ho : o < 11) {v3 v4 : Int32} (k1 : ((o = 6 → pu_in 21 v3) ∧ (o = 7 → pu_in 21 v4)) → post 1) (k0 : ¬ ((o = 6 → pu_in 21 v3) ∧ (o = 7 → pu_in 21 v4)) → post 0) : wX_fits_59 post (nI o) v3 v4 := by
  refine pk_eq o 6 (fun o6 => ?_) (fun o6 => ?_)
  · refine xx_in' (N := 21) (by decide) (fun h => br_f cd_10 (pk_eq o 7 (fun o7 => by omega) (fun o7 => k1 ⟨fun _ => h, fun z => absurd z o7⟩))) (fun h => br_t rfl (k0 (fun z => h (z.1 o6))))
  · refine pk_eq o 7 (fun o7 => ?_) (fun o7 => k1 ⟨fun z => absurd z o6, fun z => absurd z o7⟩)
    exact xx_in' (N := 21) (by decide) (fun h => br_f cd_10 (k1 ⟨fun z => absurd z o6, fun _ => h⟩)) (fun h => br_t rfl (k0 (fun z => h (z.2 o7))))
theorem xp_fits {post : Int32 → Prop} {v1 v2 v3 v4 : Int32} (k1 : ∀ o, o < 11 → v1 = nI o → pu_G o v2 v3 v4 → post 1) (k0 : (∀ o, o < 11 → v1 = nI o → ¬ pu_G o v2 v3 v4) → post 0) : wpX_fits post v1 v2 v3 v4 := by
  unfold wpX_fits
  refine xx_in' (N := 11) (by decide) (fun h => br_f cd_10 ?_) (fun h => br_t rfl (k0 (fun o ho e _ => h ⟨o, ho, e⟩)))
  obtain ⟨o, ho, e⟩ := h
  subst e
  have k1' := k1 o ho rfl
  have k0' : ¬ pu_G o v2 v3 v4 → post 0 := fun z => k0 (fun o' ho' e' => by
    have := (nI_eq (by omega) (by omega)).mp e'
    subst this
    exact z)
  have s25 : (cd_df o = true → pu_in 8 v2) → wX_fits_25 post (nI o) v3 v4 := fun hd => by
    have s41 : (cd_ua o = true → pu_in 8 v3) → wX_fits_41 post (nI o) v3 v4 := fun ha => by
      unfold wX_fits_41
      refine xx_ub ho (fun ub => br_f cd_10 ?_) (fun ub => br_t rfl (xp_59 ho (fun z => k1' ⟨hd, ha, fun w => by rw [ub] at w; exact absurd w (by decide), z.1, z.2⟩) (fun z => k0' (fun w => z ⟨w.2.2.2.1, w.2.2.2.2⟩))))
      exact xx_in' (N := 8) (by decide) (fun h => br_f cd_10 (xp_59 ho (fun z => k1' ⟨hd, ha, fun _ => h, z.1, z.2⟩) (fun z => k0' (fun w => z ⟨w.2.2.2.1, w.2.2.2.2⟩)))) (fun h => br_t rfl (k0' (fun w => h (w.2.2.1 ub))))
    unfold wX_fits_25
    refine xx_ua ho (fun ua => br_f cd_10 ?_) (fun ua => br_t rfl (s41 (fun w => by rw [ua] at w; exact absurd w (by decide))))
    exact xx_in' (N := 8) (by decide) (fun h => br_f cd_10 (s41 (fun _ => h))) (fun h => br_t rfl (k0' (fun w => h (w.2.1 ua))))
  refine xx_df ho (fun df => br_f cd_10 ?_) (fun df => br_t rfl (s25 (fun w => by rw [df] at w; exact absurd w (by decide))))
  exact xx_in' (N := 8) (by decide) (fun h => br_f cd_10 (s25 (fun _ => h))) (fun h => br_t rfl (k0' (fun w => h (w.1 df))))
/-- the code with one more -/
def pu_f {α : Type} (f : Nat → α) (n : Nat) (x : α) : Nat → α := fun i => if i = n then x else f i
theorem pu_fs {α : Type} {f : Nat → α} {n : Nat} {x : α} : pu_f f n x n = x := if_pos rfl
theorem pu_fn {α : Type} {f : Nat → α} {n i : Nat} {x : α} (h : i ≠ n) : pu_f f n x i = f i := if_neg h
def pu_c (c : cd_T) (o d a b : Nat) (w : Int32) : cd_T := (cd_n c + 1, pu_f (cd_o c) (cd_n c) o, pu_f (cd_d c) (cd_n c) d, pu_f (cd_a c) (cd_n c) a, pu_f (cd_b c) (cd_n c) b, pu_f (cd_w c) (cd_n c) w)
theorem pu_Is {c : cd_T} {m : Int32} {op oD oA oB : Nat → Int32} (h : cd_Is c m op oD oA oB) (hn : cd_n c < 20) {o d a b : Nat} {D A B : Int32} (ho : o < 11) (h1 : cd_df o = true → D = nI d ∧ d < 8) (h2 : cd_ua o = true → A = nI a ∧ a < 8) (h3 : cd_ub o = true → B = nI b ∧ b < 8) (h4 : o = 6 → A = nI a ∧ a < 21) (h5 : o = 7 → B = nI b ∧ b < 21) :
    cd_Is (pu_c c o d a b A) (nI (cd_n c + 1)) (upd op (cd_n c) (nI o)) (upd oD (cd_n c) D) (upd oA (cd_n c) A) (upd oB (cd_n c) B) := by
  refine ⟨rfl, ?_, fun i hi => ?_⟩
  · show cd_n c + 1 ≤ 20
    omega
  · have hi' : i < cd_n c + 1 := hi
    have eo : cd_o (pu_c c o d a b A) i = pu_f (cd_o c) (cd_n c) o i := rfl
    have ed : cd_d (pu_c c o d a b A) i = pu_f (cd_d c) (cd_n c) d i := rfl
    have ea : cd_a (pu_c c o d a b A) i = pu_f (cd_a c) (cd_n c) a i := rfl
    have eb : cd_b (pu_c c o d a b A) i = pu_f (cd_b c) (cd_n c) b i := rfl
    have ew : cd_w (pu_c c o d a b A) i = pu_f (cd_w c) (cd_n c) A i := rfl
    unfold cd_I1
    rw [eo, ed, ea, eb, ew]
    by_cases e : i = cd_n c
    · subst e
      rw [pu_fs, pu_fs, pu_fs, pu_fs, pu_fs, cd_us, cd_us, cd_us, cd_us]
      exact ⟨rfl, ho, h1, h2, h3, h4, h5, fun _ => rfl⟩
    · rw [pu_fn e, pu_fn e, pu_fn e, pu_fn e, pu_fn e, cd_un e, cd_un e, cd_un e, cd_un e]
      exact h.2.2 i (by omega)
theorem pu_nar {N : Nat} {v : Int32} (h : pu_in N v) (hN : N ≤ 128) : vp_nar .byte v.toInt8.toInt32 = v := by
  obtain ⟨j, hj, e⟩ := h
  subst e
  exact cd_vb (by omega)
theorem pu_cl {N : Nat} {v : Int32} (h : pu_in N v) (hN : N ≤ 128) : v = nI v.toNatClampNeg ∧ v.toNatClampNeg < N := by
  obtain ⟨j, hj, e⟩ := h
  subst e
  rw [nI_clamp (by omega)]
  exact ⟨rfl, hj⟩
section
variable {f_count f_k f_inputCount f_known f_selfMoves f_allMoves f_allocated f_inMemory f_memoryCost f_saved f_outputCount f_done f_took f_taken : Int32} {a_op a_opD a_opA a_opB a_inputs a_before a_behind a_ways a_clash a_costs a_needs a_moves a_place a_tried a_gained a_possible a_register a_memory a_outputs : Nat → Int32} {c : cd_T} {post : Int32 → SX → Prop}
theorem xp_put (hc : cd_Is c f_count a_op a_opD a_opA a_opB) {v1 v2 v3 v4 : Int32} (k0 : ¬ (cd_n c < 20 ∧ ∃ o, o < 11 ∧ v1 = nI o ∧ pu_G o v2 v3 v4) → post (-1) (f_count, f_k, f_inputCount, f_known, f_selfMoves, f_allMoves, f_allocated, f_inMemory, f_memoryCost, f_saved, f_outputCount, f_done, f_took, f_taken, a_op, a_opD, a_opA, a_opB, a_inputs, a_before, a_behind, a_ways, a_clash, a_costs, a_needs, a_moves, a_place, a_tried, a_gained, a_possible, a_register, a_memory, a_outputs))
    (k1 : ∀ o op oD oA oB, cd_n c < 20 → o < 11 → v1 = nI o → pu_G o v2 v3 v4 → cd_Is (pu_c c o v2.toNatClampNeg v3.toNatClampNeg v4.toNatClampNeg v3) (nI (cd_n c + 1)) op oD oA oB → post (nI (cd_n c)) (nI (cd_n c + 1), f_k, f_inputCount, 0, f_selfMoves, f_allMoves, 0, f_inMemory, f_memoryCost, f_saved, f_outputCount, f_done, f_took, f_taken, op, oD, oA, oB, a_inputs, a_before, a_behind, a_ways, a_clash, a_costs, a_needs, a_moves, a_place, a_tried, a_gained, a_possible, a_register, a_memory, a_outputs)) : (wpX_put post (f_count, f_k, f_inputCount, f_known, f_selfMoves, f_allMoves, f_allocated, f_inMemory, f_memoryCost, f_saved, f_outputCount, f_done, f_took, f_taken, a_op, a_opD, a_opA, a_opB, a_inputs, a_before, a_behind, a_ways, a_clash, a_costs, a_needs, a_moves, a_place, a_tried, a_gained, a_possible, a_register, a_memory, a_outputs) v1 v2 v3 v4) := by
  have hn := hc.2.1
  refine pk_eq (cd_n c) 20 (fun z => k0 (fun w => by omega)) (fun z => ?_) hc.1
  have hl : cd_n c < 20 := by omega
  refine xp_fits (fun o ho e hG => br_f cd_10 ?_) (fun h => br_t rfl (k0 (fun ⟨_, o, ho, e, hG⟩ => h o ho e hG)))
  subst e
  have e0 := hc.1
  subst e0
  have hv : vp_in (nI (cd_n c)) 20 := vp_in_nI hl (by decide)
  have ec : (nI (cd_n c)).toNatClampNeg = cd_n c := nI_clamp (by omega)
  have s92 : ∀ D B D' B', (cd_df o = true → D' = v2) → ((cd_ub o = true ∨ o = 7) → B' = v4) → vp_nar .byte B.toInt8.toInt32 = B' → D = upd a_opD (cd_n c) D' → (wX_put_92 post B (nI (cd_n c)) (nI (cd_n c)) f_k f_inputCount f_known f_selfMoves f_allMoves f_allocated f_inMemory f_memoryCost f_saved f_outputCount f_done f_took f_taken (upd a_op (cd_n c) (nI o)) D (upd a_opA (cd_n c) v3) a_opB a_inputs a_before a_behind a_ways a_clash a_costs a_needs a_moves a_place a_tried a_gained a_possible a_register a_memory a_outputs) := fun D B D' B' h1 h2 h3 h4 => by
    subst h4
    refine ⟨hv, nm_r (e' := upd a_opB (cd_n c) B') (by rw [ec, h3]) (nm_r (nI_1 (cd_n c)) ?_)⟩
    refine k1 o _ _ _ _ hl ho rfl hG (pu_Is hc hl ho (fun z => ?_) (fun z => pu_cl (hG.2.1 z) (by decide)) (fun z => ?_) (fun z => pu_cl (hG.2.2.2.1 z) (by decide)) (fun z => ?_))
    · rw [h1 z]
      exact pu_cl (hG.1 z) (by decide)
    · rw [h2 (Or.inl z)]
      exact pu_cl (hG.2.2.1 z) (by decide)
    · rw [h2 (Or.inr z)]
      exact pu_cl (hG.2.2.2.2 z) (by decide)
  have s53 : ∀ z D', (cd_df o = true → D' = v2) → vp_nar .byte z.toInt8.toInt32 = D' → (wX_put_53 post (nI o) v3 v4 z (nI (cd_n c)) (nI (cd_n c)) f_k f_inputCount f_known f_selfMoves f_allMoves f_allocated f_inMemory f_memoryCost f_saved f_outputCount f_done f_took f_taken (upd a_op (cd_n c) (nI o)) a_opD a_opA a_opB a_inputs a_before a_behind a_ways a_clash a_costs a_needs a_moves a_place a_tried a_gained a_possible a_register a_memory a_outputs) := fun z D' h1 h2 => by
    refine ⟨hv, nm_r (e' := upd a_opD (cd_n c) D') (by rw [ec, h2]) ⟨hv, nm_r (e' := upd a_opA (cd_n c) v3) (by rw [ec]) (xx_ub ho (fun ub => br_f cd_10 ?_) (fun ub => br_t rfl (pk_eq o 7 (fun o7 => ?_) (fun o7 => ?_))))⟩⟩
    · exact s92 _ v4 D' v4 h1 (fun _ => rfl) (pu_nar (hG.2.2.1 ub) (by decide)) rfl
    · exact s92 _ v4 D' v4 h1 (fun _ => rfl) (pu_nar (hG.2.2.2.2 o7) (by decide)) rfl
    · exact s92 _ 0 D' 0 h1 (fun w => by
        rcases w with w | w
        · rw [ub] at w
          exact absurd w (by decide)
        · exact absurd w o7) (by rw [pk_vb]; decide) rfl
  refine ⟨hv, nm_r (e' := upd a_op (cd_n c) (nI o)) (by rw [ec, cd_vb (by omega)]) (xx_df ho (fun df => br_f cd_10 ?_) (fun df => br_t rfl ?_))⟩
  · exact s53 v2 v2 (fun _ => rfl) (pu_nar (hG.1 df) (by decide))
  · exact s53 0 0 (fun w => by rw [df] at w; exact absurd w (by decide)) (by rw [pk_vb]; decide)
end
section
variable {f_n f_k f_known f_placed f_memory f_saved f_waiting f_forward : Int32} {a_ops a_ds a_as a_bs a_before a_ways a_clash a_costs a_best a_trial a_inputs a_outputs a_cells a_spent : Nat → Int32} {c : cd_T} {post : Int32 → SY → Prop}
theorem yp_put (hc : cd_Is c f_n a_ops a_ds a_as a_bs) {v1 v2 v3 v4 : Int32} (k0 : ¬ (cd_n c < 20 ∧ ∃ o, o < 11 ∧ v1 = nI o ∧ pu_G o v2 v3 v4) → post (-1) (f_n, f_k, f_known, f_placed, f_memory, f_saved, f_waiting, f_forward, a_ops, a_ds, a_as, a_bs, a_before, a_ways, a_clash, a_costs, a_best, a_trial, a_inputs, a_outputs, a_cells, a_spent))
    (k1 : ∀ o op oD oA oB, cd_n c < 20 → o < 11 → v1 = nI o → pu_G o v2 v3 v4 → cd_Is (pu_c c o v2.toNatClampNeg v3.toNatClampNeg v4.toNatClampNeg v3) (nI (cd_n c + 1)) op oD oA oB → post (nI (cd_n c)) (nI (cd_n c + 1), f_k, 0, 0, f_memory, f_saved, f_waiting, f_forward, op, oD, oA, oB, a_before, a_ways, a_clash, a_costs, a_best, a_trial, a_inputs, a_outputs, a_cells, a_spent)) : (wpY_put post (f_n, f_k, f_known, f_placed, f_memory, f_saved, f_waiting, f_forward, a_ops, a_ds, a_as, a_bs, a_before, a_ways, a_clash, a_costs, a_best, a_trial, a_inputs, a_outputs, a_cells, a_spent) v1 v2 v3 v4) := by
  have hn := hc.2.1
  unfold wpY_put
  dsimp only
  refine yy_in' (N := 11) (by decide) (by decide) (fun h => br_f cd_10 ?_) (fun h => br_t rfl (k0 (fun ⟨_, o, ho, e, _⟩ => h ⟨o, ho, e⟩)))
  refine pk_eq (cd_n c) 20 (fun z => k0 (fun w => by omega)) (fun z => ?_) hc.1
  have hl : cd_n c < 20 := by omega
  obtain ⟨o, ho, e⟩ := h
  subst e
  have e0 := hc.1
  subst e0
  have hv : vp_in (nI (cd_n c)) 20 := vp_in_nI hl (by decide)
  have ec : (nI (cd_n c)).toNatClampNeg = cd_n c := nI_clamp (by omega)
  have k0' : ¬ pu_G o v2 v3 v4 → post (-1) (nI (cd_n c), f_k, f_known, f_placed, f_memory, f_saved, f_waiting, f_forward, a_ops, a_ds, a_as, a_bs, a_before, a_ways, a_clash, a_costs, a_best, a_trial, a_inputs, a_outputs, a_cells, a_spent) := fun z => k0 (fun ⟨_, o', ho', e', hG⟩ => by
    have := (nI_eq (by omega) (by omega)).mp e'
    subst this
    exact z hG)
  have s108 : pu_G o v2 v3 v4 → (wY_put_108 post (nI o) v2 v3 v4 (nI (cd_n c)) f_k f_known f_placed f_memory f_saved f_waiting f_forward a_ops a_ds a_as a_bs a_before a_ways a_clash a_costs a_best a_trial a_inputs a_outputs a_cells a_spent) := fun hG => by
    refine ⟨hv, nm_r (e' := upd a_ops (cd_n c) (nI o)) (by rw [ec]) ⟨hv, nm_r (e' := upd a_ds (cd_n c) v2) (by rw [ec]) ⟨hv, nm_r (e' := upd a_as (cd_n c) v3) (by rw [ec]) ⟨hv, nm_r (e' := upd a_bs (cd_n c) v4) (by rw [ec]) (nm_r (nI_1 (cd_n c)) ?_)⟩⟩⟩⟩
    have k2 := k1 o _ _ _ _ hl ho rfl hG (pu_Is hc hl ho (fun z => pu_cl (hG.1 z) (by decide)) (fun z => pu_cl (hG.2.1 z) (by decide)) (fun z => pu_cl (hG.2.2.1 z) (by decide)) (fun z => pu_cl (hG.2.2.2.1 z) (by decide)) (fun z => pu_cl (hG.2.2.2.2 z) (by decide)))
    show post (nI (cd_n c + 1) - 1) _
    rw [nI_pred]
    exact k2
  have s73 : (cd_df o = true → pu_in 8 v2) → (cd_ua o = true → pu_in 8 v3) → (cd_ub o = true → pu_in 8 v4) → (wY_put_73 post (nI o) v2 v3 v4 (nI (cd_n c)) f_k f_known f_placed f_memory f_saved f_waiting f_forward a_ops a_ds a_as a_bs a_before a_ways a_clash a_costs a_best a_trial a_inputs a_outputs a_cells a_spent) := fun hd ha hb => by
    refine pk_eq o 6 (fun o6 => ?_) (fun o6 => ?_)
    · refine yy_in' (N := 21) (by decide) (by decide) (fun h => br_f cd_10 (pk_eq o 7 (fun o7 => by omega) (fun o7 => s108 ⟨hd, ha, hb, fun _ => h, fun w => absurd w o7⟩))) (fun h => br_t rfl (k0' (fun w => h (w.2.2.2.1 o6))))
    · refine pk_eq o 7 (fun o7 => ?_) (fun o7 => s108 ⟨hd, ha, hb, fun w => absurd w o6, fun w => absurd w o7⟩)
      exact yy_in' (N := 21) (by decide) (by decide) (fun h => br_f cd_10 (s108 ⟨hd, ha, hb, fun w => absurd w o6, fun _ => h⟩)) (fun h => br_t rfl (k0' (fun w => h (w.2.2.2.2 o7))))
  have s53 : (cd_df o = true → pu_in 8 v2) → (cd_ua o = true → pu_in 8 v3) → (wY_put_53 post (nI o) v2 v3 v4 (nI (cd_n c)) f_k f_known f_placed f_memory f_saved f_waiting f_forward a_ops a_ds a_as a_bs a_before a_ways a_clash a_costs a_best a_trial a_inputs a_outputs a_cells a_spent) := fun hd ha => by
    unfold wY_put_53
    refine yy_ub ho (fun ub => br_f cd_10 ?_) (fun ub => br_t rfl (s73 hd ha (fun w => by rw [ub] at w; exact absurd w (by decide))))
    exact yy_in' (N := 8) (by decide) (by decide) (fun h => br_f cd_10 (s73 hd ha (fun _ => h))) (fun h => br_t rfl (k0' (fun w => h (w.2.2.1 ub))))
  have s36 : (cd_df o = true → pu_in 8 v2) → (wY_put_36 post (nI o) v2 v3 v4 (nI (cd_n c)) f_k f_known f_placed f_memory f_saved f_waiting f_forward a_ops a_ds a_as a_bs a_before a_ways a_clash a_costs a_best a_trial a_inputs a_outputs a_cells a_spent) := fun hd => by
    unfold wY_put_36
    refine yy_ua ho (fun ua => br_f cd_10 ?_) (fun ua => br_t rfl (s53 hd (fun w => by rw [ua] at w; exact absurd w (by decide))))
    exact yy_in' (N := 8) (by decide) (by decide) (fun h => br_f cd_10 (s53 hd (fun _ => h))) (fun h => br_t rfl (k0' (fun w => h (w.2.1 ua))))
  refine yy_df ho (fun df => br_f cd_10 ?_) (fun df => br_t rfl (s36 (fun w => by rw [df] at w; exact absurd w (by decide))))
  exact yy_in' (N := 8) (by decide) (by decide) (fun h => br_f cd_10 (s36 (fun _ => h))) (fun h => br_t rfl (k0' (fun w => h (w.1 df))))
end
end
section
/-! the relation -/
def cd_Rl (f_count f_k f_inputCount f_known f_selfMoves f_allMoves f_allocated f_inMemory f_memoryCost f_saved f_outputCount f_done f_took f_taken : Int32) (a_op a_opD a_opA a_opB a_inputs a_before a_behind a_clash a_costs a_needs a_moves a_place a_outputs : Nat → Int32)
    (g_n g_k g_known g_placed g_memory g_saved g_waiting : Int32) (b_ops b_ds b_as b_bs b_before b_clash b_costs b_best b_inputs b_outputs b_spent : Nat → Int32) : Prop :=
  ∃ (c : cd_T) (kk ic : Nat), cd_Is c f_count a_op a_opD a_opA a_opB ∧ cd_Is c g_n b_ops b_ds b_as b_bs ∧ kk ≤ 4 ∧ f_k = nI kk ∧ g_k = nI kk ∧ ic ≤ 8 ∧ f_inputCount = nI ic ∧ g_waiting = nI ic ∧ b_inputs = a_inputs ∧ b_outputs = a_outputs
    ∧ (b_spent 0 = f_outputCount ∧ b_spent 1 = f_done ∧ b_spent 2 = f_took ∧ b_spent 3 = f_taken)
    ∧ (f_known = 0 ∨ (f_known = 1 ∧ cd_XK c f_selfMoves f_allMoves a_before a_behind a_clash a_costs a_needs a_moves)) ∧ (f_allocated = 0 ∨ (f_allocated = 1 ∧ f_known = 1 ∧ cd_XA c kk f_inMemory f_memoryCost f_saved a_place))
    ∧ (g_known = 0 ∨ (g_known = 1 ∧ cd_YK c b_before b_clash b_costs)) ∧ (g_placed = 0 ∨ (g_placed = 1 ∧ cd_YA c kk g_memory g_saved b_best))
def i_Rel (k : Nat) (u : SX) (v : SY) : Prop := match u with
  | (f_count, f_k, f_inputCount, f_known, f_selfMoves, f_allMoves, f_allocated, f_inMemory, f_memoryCost, f_saved, f_outputCount, f_done, f_took, f_taken, a_op, a_opD, a_opA, a_opB, a_inputs, a_before, a_behind, a_ways, a_clash, a_costs, a_needs, a_moves, a_place, a_tried, a_gained, a_possible, a_register, a_memory, a_outputs) => match v with
    | (g_n, g_k, g_known, g_placed, g_memory, g_saved, g_waiting, g_forward, b_ops, b_ds, b_as, b_bs, b_before, b_ways, b_clash, b_costs, b_best, b_trial, b_inputs, b_outputs, b_cells, b_spent) => cd_Rl f_count f_k f_inputCount f_known f_selfMoves f_allMoves f_allocated f_inMemory f_memoryCost f_saved f_outputCount f_done f_took f_taken a_op a_opD a_opA a_opB a_inputs a_before a_behind a_clash a_costs a_needs a_moves a_place a_outputs g_n g_k g_known g_placed g_memory g_saved g_waiting b_ops b_ds b_as b_bs b_before b_clash b_costs b_best b_inputs b_outputs b_spent
theorem i_up {k : Nat} {u : SX} {v : SY} (h : i_Rel k u v) : i_Rel (k + 5) u v := h
theorem rl_mk {f_count f_k f_inputCount f_known f_selfMoves f_allMoves f_allocated f_inMemory f_memoryCost f_saved f_outputCount f_done f_took f_taken : Int32} {a_op a_opD a_opA a_opB a_inputs a_before a_behind a_ways a_clash a_costs a_needs a_moves a_place a_tried a_gained a_possible a_register a_memory a_outputs : Nat → Int32} {g_n g_k g_known g_placed g_memory g_saved g_waiting g_forward : Int32} {b_ops b_ds b_as b_bs b_before b_ways b_clash b_costs b_best b_trial b_inputs b_outputs b_cells b_spent : Nat → Int32} {k : Nat} {c : cd_T} {kk ic : Nat} (hcx : cd_Is c f_count a_op a_opD a_opA a_opB) (hcy : cd_Is c g_n b_ops b_ds b_as b_bs) (hk4 : kk ≤ 4) (ekx : f_k = nI kk) (eky : g_k = nI kk) (hic : ic ≤ 8) (eix : f_inputCount = nI ic) (eiy : g_waiting = nI ic) (ein : b_inputs = a_inputs) (eou : b_outputs = a_outputs)
    (hsp : b_spent 0 = f_outputCount ∧ b_spent 1 = f_done ∧ b_spent 2 = f_took ∧ b_spent 3 = f_taken)
    (hKx : f_known = 0 ∨ (f_known = 1 ∧ cd_XK c f_selfMoves f_allMoves a_before a_behind a_clash a_costs a_needs a_moves)) (hAx : f_allocated = 0 ∨ (f_allocated = 1 ∧ f_known = 1 ∧ cd_XA c kk f_inMemory f_memoryCost f_saved a_place))
    (hKy : g_known = 0 ∨ (g_known = 1 ∧ cd_YK c b_before b_clash b_costs)) (hAy : g_placed = 0 ∨ (g_placed = 1 ∧ cd_YA c kk g_memory g_saved b_best)) : i_Rel k (f_count, f_k, f_inputCount, f_known, f_selfMoves, f_allMoves, f_allocated, f_inMemory, f_memoryCost, f_saved, f_outputCount, f_done, f_took, f_taken, a_op, a_opD, a_opA, a_opB, a_inputs, a_before, a_behind, a_ways, a_clash, a_costs, a_needs, a_moves, a_place, a_tried, a_gained, a_possible, a_register, a_memory, a_outputs) (g_n, g_k, g_known, g_placed, g_memory, g_saved, g_waiting, g_forward, b_ops, b_ds, b_as, b_bs, b_before, b_ways, b_clash, b_costs, b_best, b_trial, b_inputs, b_outputs, b_cells, b_spent) :=
  Exists.intro c (Exists.intro kk (Exists.intro ic ⟨hcx, hcy, hk4, ekx, eky, hic, eix, eiy, ein, eou, hsp, hKx, hAx, hKy, hAy⟩))
theorem rl_el {k : Nat} {Q : SX → SY → Prop} (h : ∀ f_count f_k f_inputCount f_known f_selfMoves f_allMoves f_allocated f_inMemory f_memoryCost f_saved f_outputCount f_done f_took f_taken a_op a_opD a_opA a_opB a_inputs a_before a_behind a_ways a_clash a_costs a_needs a_moves a_place a_tried a_gained a_possible a_register a_memory a_outputs g_n g_k g_known g_placed g_memory g_saved g_waiting g_forward b_ops b_ds b_as b_bs b_before b_ways b_clash b_costs b_best b_trial b_inputs b_outputs b_cells b_spent (c : cd_T) (kk ic : Nat), cd_Is c f_count a_op a_opD a_opA a_opB → cd_Is c g_n b_ops b_ds b_as b_bs → kk ≤ 4 → f_k = nI kk → g_k = nI kk → ic ≤ 8 → f_inputCount = nI ic → g_waiting = nI ic → b_inputs = a_inputs → b_outputs = a_outputs
    → (b_spent 0 = f_outputCount ∧ b_spent 1 = f_done ∧ b_spent 2 = f_took ∧ b_spent 3 = f_taken)
    → (f_known = 0 ∨ (f_known = 1 ∧ cd_XK c f_selfMoves f_allMoves a_before a_behind a_clash a_costs a_needs a_moves)) → (f_allocated = 0 ∨ (f_allocated = 1 ∧ f_known = 1 ∧ cd_XA c kk f_inMemory f_memoryCost f_saved a_place))
    → (g_known = 0 ∨ (g_known = 1 ∧ cd_YK c b_before b_clash b_costs)) → (g_placed = 0 ∨ (g_placed = 1 ∧ cd_YA c kk g_memory g_saved b_best)) → Q (f_count, f_k, f_inputCount, f_known, f_selfMoves, f_allMoves, f_allocated, f_inMemory, f_memoryCost, f_saved, f_outputCount, f_done, f_took, f_taken, a_op, a_opD, a_opA, a_opB, a_inputs, a_before, a_behind, a_ways, a_clash, a_costs, a_needs, a_moves, a_place, a_tried, a_gained, a_possible, a_register, a_memory, a_outputs) (g_n, g_k, g_known, g_placed, g_memory, g_saved, g_waiting, g_forward, b_ops, b_ds, b_as, b_bs, b_before, b_ways, b_clash, b_costs, b_best, b_trial, b_inputs, b_outputs, b_cells, b_spent)) {u : SX} {v : SY} (I : i_Rel k u v) : Q u v :=
  match u, v, I with
  | (f_count, f_k, f_inputCount, f_known, f_selfMoves, f_allMoves, f_allocated, f_inMemory, f_memoryCost, f_saved, f_outputCount, f_done, f_took, f_taken, a_op, a_opD, a_opA, a_opB, a_inputs, a_before, a_behind, a_ways, a_clash, a_costs, a_needs, a_moves, a_place, a_tried, a_gained, a_possible, a_register, a_memory, a_outputs), (g_n, g_k, g_known, g_placed, g_memory, g_saved, g_waiting, g_forward, b_ops, b_ds, b_as, b_bs, b_before, b_ways, b_clash, b_costs, b_best, b_trial, b_inputs, b_outputs, b_cells, b_spent), ⟨c, kk, ic, h1, h2, h3, h4, h5, h6, h7, h8, h9, h10, h11, h12, h13, h14, h15⟩ => h f_count f_k f_inputCount f_known f_selfMoves f_allMoves f_allocated f_inMemory f_memoryCost f_saved f_outputCount f_done f_took f_taken a_op a_opD a_opA a_opB a_inputs a_before a_behind a_ways a_clash a_costs a_needs a_moves a_place a_tried a_gained a_possible a_register a_memory a_outputs g_n g_k g_known g_placed g_memory g_saved g_waiting g_forward b_ops b_ds b_as b_bs b_before b_ways b_clash b_costs b_best b_trial b_inputs b_outputs b_cells b_spent c kk ic h1 h2 h3 h4 h5 h6 h7 h8 h9 h10 h11 h12 h13 h14 h15
/-- one allocation for both sides -/
theorem rl_pl {c : cd_T} {k : Nat} {im mc sv me sv' : Int32} {pl be : Nat → Int32} (hx : cd_XA c k im mc sv pl) (hy : cd_YA c k me sv' be) : ∃ M P, cd_MB c k M ∧ sr_BA (cd_K c) (cd_mv c) k M P ∧ im = nI M ∧ mc = nI (cd_cs c M) ∧ sv = nI (sr_sc (cd_mv c) M P 8) ∧ xs_P M P pl ∧ me = nI M ∧ sv' = nI (cd_sf c (cd_n c) + sr_sc (cd_mv c) M P 8) ∧ xs_P M P be := by
  obtain ⟨M, P, h1, h2, h3, h4, h5, h6⟩ := hx
  obtain ⟨M', P', g1, g2, g3, g4, g5⟩ := hy
  have e := cd_MBu g1 h1
  subst e
  have eP := sr_uniq g2 h2
  refine ⟨M', P, h1, h2, h3, h4, h5, h6, g3, ?_, fun t ht => ?_⟩
  · rw [g4, sr_scc eP]
  · rw [g5 t ht, eP t ht]
theorem rl_0 (c : cd_T) (op oD oA oB : Nat → Int32) : cd_Is (0, cd_o c, cd_d c, cd_a c, cd_b c, cd_w c) 0 op oD oA oB := ⟨rfl, Nat.zero_le _, fun i hi => absurd hi (Nat.not_lt_zero i)⟩
theorem i_vc0 : wpX_init (fun u => wpY_init (fun v => i_Rel 0 u v)) := by
  unfold wpX_init wpY_init
  exact rl_mk (rl_0 (0, (fun _ => 0), (fun _ => 0), (fun _ => 0), (fun _ => 0), (fun _ => 0)) _ _ _ _) (rl_0 (0, (fun _ => 0), (fun _ => 0), (fun _ => 0), (fun _ => 0), (fun _ => 0)) _ _ _ _) (kk := 2) (ic := 0) (by decide) rfl rfl (by decide) rfl rfl rfl rfl ⟨rfl, rfl, rfl, rfl⟩ (Or.inl rfl) (Or.inl rfl) (Or.inl rfl) (Or.inl rfl)
theorem i_vc_put {k : Nat} {u : SX} {v : SY} (I : i_Rel k u v) (hk : k + 5 ≤ 2560) (v1 : Int32) (v2 : Int32) (v3 : Int32) (v4 : Int32) : wpX_put (fun r u' => wpY_put (fun r' v' => r' = r ∧ i_Rel (k + 5) u' v') v v1 v2 v3 v4) u v1 v2 v3 v4 := by
  refine rl_el (Q := fun u v => wpX_put (fun r u' => wpY_put (fun r' v' => r' = r ∧ i_Rel (k + 5) u' v') v v1 v2 v3 v4) u v1 v2 v3 v4) ?_ I
  intro f_count f_k f_inputCount f_known f_selfMoves f_allMoves f_allocated f_inMemory f_memoryCost f_saved f_outputCount f_done f_took f_taken a_op a_opD a_opA a_opB a_inputs a_before a_behind a_ways a_clash a_costs a_needs a_moves a_place a_tried a_gained a_possible a_register a_memory a_outputs g_n g_k g_known g_placed g_memory g_saved g_waiting g_forward b_ops b_ds b_as b_bs b_before b_ways b_clash b_costs b_best b_trial b_inputs b_outputs b_cells b_spent c kk ic hcx hcy hk4 ekx eky hic eix eiy ein eou hsp hKx hAx hKy hAy
  refine xp_put hcx (fun hno => yp_put hcy (fun _ => ⟨rfl, rl_mk hcx hcy hk4 ekx eky hic eix eiy ein eou hsp hKx hAx hKy hAy⟩) (fun o _ _ _ _ h1 h2 h3 h4 _ => absurd ⟨h1, o, h2, h3, h4⟩ hno)) (fun o op oD oA oB h1 h2 h3 h4 h5 => yp_put hcy (fun hno => absurd ⟨h1, o, h2, h3, h4⟩ hno) (fun o' op' oD' oA' oB' g1 g2 g3 g4 g5 => ⟨rfl, ?_⟩))
  have e : o' = o := (nI_eq (by omega) (by omega)).mp (g3.symm.trans h3)
  subst e
  exact rl_mk h5 g5 hk4 ekx eky hic eix eiy ein eou hsp (Or.inl rfl) (Or.inl rfl) (Or.inl rfl) (Or.inl rfl)
theorem i_vc_wipe {k : Nat} {u : SX} {v : SY} (I : i_Rel k u v) (hk : k + 5 ≤ 2560) : wpX_wipe (fun r u' => wpY_wipe (fun r' v' => r' = r ∧ i_Rel (k + 5) u' v') v) u := by
  refine rl_el (Q := fun u v => wpX_wipe (fun r u' => wpY_wipe (fun r' v' => r' = r ∧ i_Rel (k + 5) u' v') v) u) ?_ I
  intro f_count f_k f_inputCount f_known f_selfMoves f_allMoves f_allocated f_inMemory f_memoryCost f_saved f_outputCount f_done f_took f_taken a_op a_opD a_opA a_opB a_inputs a_before a_behind a_ways a_clash a_costs a_needs a_moves a_place a_tried a_gained a_possible a_register a_memory a_outputs g_n g_k g_known g_placed g_memory g_saved g_waiting g_forward b_ops b_ds b_as b_bs b_before b_ways b_clash b_costs b_best b_trial b_inputs b_outputs b_cells b_spent c kk ic hcx hcy hk4 ekx eky hic eix eiy ein eou hsp hKx hAx hKy hAy
  exact ⟨hcy.1.trans hcx.1.symm, rl_mk (rl_0 c _ _ _ _) (rl_0 c _ _ _ _) hk4 ekx eky hic eix eiy ein eou hsp (Or.inl rfl) (Or.inl rfl) (Or.inl rfl) (Or.inl rfl)⟩
theorem i_vc_registers {k : Nat} {u : SX} {v : SY} (I : i_Rel k u v) (hk : k + 5 ≤ 2560) (v1 : Int32) : wpX_registers (fun r u' => wpY_registers (fun r' v' => r' = r ∧ i_Rel (k + 5) u' v') v v1) u v1 := by
  refine rl_el (Q := fun u v => wpX_registers (fun r u' => wpY_registers (fun r' v' => r' = r ∧ i_Rel (k + 5) u' v') v v1) u v1) ?_ I
  intro f_count f_k f_inputCount f_known f_selfMoves f_allMoves f_allocated f_inMemory f_memoryCost f_saved f_outputCount f_done f_took f_taken a_op a_opD a_opA a_opB a_inputs a_before a_behind a_ways a_clash a_costs a_needs a_moves a_place a_tried a_gained a_possible a_register a_memory a_outputs g_n g_k g_known g_placed g_memory g_saved g_waiting g_forward b_ops b_ds b_as b_bs b_before b_ways b_clash b_costs b_best b_trial b_inputs b_outputs b_cells b_spent c kk ic hcx hcy hk4 ekx eky hic eix eiy ein eou hsp hKx hAx hKy hAy
  have same : i_Rel (k + 5) (f_count, f_k, f_inputCount, f_known, f_selfMoves, f_allMoves, f_allocated, f_inMemory, f_memoryCost, f_saved, f_outputCount, f_done, f_took, f_taken, a_op, a_opD, a_opA, a_opB, a_inputs, a_before, a_behind, a_ways, a_clash, a_costs, a_needs, a_moves, a_place, a_tried, a_gained, a_possible, a_register, a_memory, a_outputs) (g_n, g_k, g_known, g_placed, g_memory, g_saved, g_waiting, g_forward, b_ops, b_ds, b_as, b_bs, b_before, b_ways, b_clash, b_costs, b_best, b_trial, b_inputs, b_outputs, b_cells, b_spent) := rl_mk hcx hcy hk4 ekx eky hic eix eiy ein eou hsp hKx hAx hKy hAy
  refine br_c (fun z => ?_) (fun z => br_c (fun y => ?_) (fun y => ?_))
  · exact br_t z (br_t rfl ⟨rfl, same⟩)
  · have h0 : ¬ v1 < 0 := fun x => z (Int32.lt_trans x (by decide))
    obtain ⟨j, hj, ej⟩ := nI_of2 (M := 4) (n := 4) (by decide) h0 y
    refine br_f z (br_f (Int32.not_lt.mpr y) (br_f cd_10 ⟨rfl, ?_⟩))
    exact rl_mk hcx hcy hj ej ej hic eix eiy ein eou hsp hKx (Or.inl rfl) hKy (Or.inl rfl)
  · exact br_f z (br_t (Int32.not_le.mp y) (br_t rfl ⟨rfl, same⟩))
theorem i_vc_input {k : Nat} {u : SX} {v : SY} (I : i_Rel k u v) (hk : k + 5 ≤ 2560) (v1 : Int32) : wpX_input (fun r u' => wpY_input (fun r' v' => r' = r ∧ i_Rel (k + 5) u' v') v v1) u v1 := by
  refine rl_el (Q := fun u v => wpX_input (fun r u' => wpY_input (fun r' v' => r' = r ∧ i_Rel (k + 5) u' v') v v1) u v1) ?_ I
  intro f_count f_k f_inputCount f_known f_selfMoves f_allMoves f_allocated f_inMemory f_memoryCost f_saved f_outputCount f_done f_took f_taken a_op a_opD a_opA a_opB a_inputs a_before a_behind a_ways a_clash a_costs a_needs a_moves a_place a_tried a_gained a_possible a_register a_memory a_outputs g_n g_k g_known g_placed g_memory g_saved g_waiting g_forward b_ops b_ds b_as b_bs b_before b_ways b_clash b_costs b_best b_trial b_inputs b_outputs b_cells b_spent c kk ic hcx hcy hk4 ekx eky hic eix eiy ein eou hsp hKx hAx hKy hAy
  subst eix eiy ein
  refine pk_eq ic 8 (fun z => pk_eq ic 8 (fun _ => ⟨rfl, rl_mk hcx hcy hk4 ekx eky hic rfl rfl rfl eou hsp hKx hAx hKy hAy⟩) (fun y => absurd z y)) (fun z => ?_)
  have hv : vp_in (nI ic) 8 := vp_in_nI (by omega) (by decide)
  refine nm_r (nI_1 ic) ⟨hv, nm_e (pk_eq ic 8 (fun y => absurd y z) (fun _ => ⟨hv, nm_e (nm_r (nI_1 ic) ⟨rfl, ?_⟩)⟩))⟩
  exact rl_mk hcx hcy hk4 ekx eky (by omega) rfl rfl rfl eou hsp hKx hAx hKy hAy
theorem i_vc_rewind {k : Nat} {u : SX} {v : SY} (I : i_Rel k u v) (hk : k + 5 ≤ 2560) : wpX_rewind (fun r u' => wpY_rewind (fun r' v' => r' = r ∧ i_Rel (k + 5) u' v') v) u := by
  refine rl_el (Q := fun u v => wpX_rewind (fun r u' => wpY_rewind (fun r' v' => r' = r ∧ i_Rel (k + 5) u' v') v) u) ?_ I
  intro f_count f_k f_inputCount f_known f_selfMoves f_allMoves f_allocated f_inMemory f_memoryCost f_saved f_outputCount f_done f_took f_taken a_op a_opD a_opA a_opB a_inputs a_before a_behind a_ways a_clash a_costs a_needs a_moves a_place a_tried a_gained a_possible a_register a_memory a_outputs g_n g_k g_known g_placed g_memory g_saved g_waiting g_forward b_ops b_ds b_as b_bs b_before b_ways b_clash b_costs b_best b_trial b_inputs b_outputs b_cells b_spent c kk ic hcx hcy hk4 ekx eky hic eix eiy ein eou hsp hKx hAx hKy hAy
  exact ⟨eiy.trans eix.symm, rl_mk (ic := 0) hcx hcy hk4 ekx eky (by omega) rfl rfl ein eou hsp hKx hAx hKy hAy⟩
theorem rl_30 (x : Int32) : 29 < x ↔ 30 ≤ x := by
  rw [Int32.lt_iff_toInt_lt, Int32.le_iff_toInt_le, show (29 : Int32).toInt = 29 by decide, show (30 : Int32).toInt = 30 by decide]
  omega
theorem i_vc_output {k : Nat} {u : SX} {v : SY} (I : i_Rel k u v) (hk : k + 5 ≤ 2560) (v1 : Int32) : wpX_output (fun r => wpY_output (fun r' => r' = r ∧ i_Rel (k + 5) u v) v v1) u v1 := by
  refine rl_el (Q := fun u v => wpX_output (fun r => wpY_output (fun r' => r' = r ∧ i_Rel (k + 5) u v) v v1) u v1) ?_ I
  intro f_count f_k f_inputCount f_known f_selfMoves f_allMoves f_allocated f_inMemory f_memoryCost f_saved f_outputCount f_done f_took f_taken a_op a_opD a_opA a_opB a_inputs a_before a_behind a_ways a_clash a_costs a_needs a_moves a_place a_tried a_gained a_possible a_register a_memory a_outputs g_n g_k g_known g_placed g_memory g_saved g_waiting g_forward b_ops b_ds b_as b_bs b_before b_ways b_clash b_costs b_best b_trial b_inputs b_outputs b_cells b_spent c kk ic hcx hcy hk4 ekx eky hic eix eiy ein eou hsp hKx hAx hKy hAy
  have same : i_Rel (k + 5) (f_count, f_k, f_inputCount, f_known, f_selfMoves, f_allMoves, f_allocated, f_inMemory, f_memoryCost, f_saved, f_outputCount, f_done, f_took, f_taken, a_op, a_opD, a_opA, a_opB, a_inputs, a_before, a_behind, a_ways, a_clash, a_costs, a_needs, a_moves, a_place, a_tried, a_gained, a_possible, a_register, a_memory, a_outputs) (g_n, g_k, g_known, g_placed, g_memory, g_saved, g_waiting, g_forward, b_ops, b_ds, b_as, b_bs, b_before, b_ways, b_clash, b_costs, b_best, b_trial, b_inputs, b_outputs, b_cells, b_spent) := rl_mk hcx hcy hk4 ekx eky hic eix eiy ein eou hsp hKx hAx hKy hAy
  refine br_c (fun z => br_t z ⟨rfl, same⟩) (fun z => br_c (fun y => ?_) (fun y => br_c (fun x => ?_) (fun x => ?_)))
  · refine br_f z (br_c (fun _ => ⟨rfl, same⟩) (fun w => br_f ?_ ⟨rfl, same⟩))
    rw [hsp.1]
    exact Int32.not_lt.mpr y
  · exact br_f z (br_t ((rl_30 v1).mpr x) ⟨rfl, same⟩)
  · have hv : vp_in v1 30 := by
      rcases pk_ix v1 (n := 30) (by decide) with w | w | ⟨j, hj, e⟩
      · exact absurd w z
      · exact absurd w x
      · rw [e]
        exact vp_in_nI hj (by decide)
    refine ⟨hv, br_f z (br_f (fun w => x ((rl_30 v1).mp w)) (br_t ?_ ⟨hv, by rw [eou], same⟩))⟩
    rw [hsp.1]
    exact Int32.not_le.mp y
theorem i_vc_spent {k : Nat} {u : SX} {v : SY} (I : i_Rel k u v) (hk : k + 5 ≤ 2560) (v1 : Int32) : wpX_spent (fun r => wpY_spent (fun r' => r' = r ∧ i_Rel (k + 5) u v) v v1) u v1 := by
  refine rl_el (Q := fun u v => wpX_spent (fun r => wpY_spent (fun r' => r' = r ∧ i_Rel (k + 5) u v) v v1) u v1) ?_ I
  intro f_count f_k f_inputCount f_known f_selfMoves f_allMoves f_allocated f_inMemory f_memoryCost f_saved f_outputCount f_done f_took f_taken a_op a_opD a_opA a_opB a_inputs a_before a_behind a_ways a_clash a_costs a_needs a_moves a_place a_tried a_gained a_possible a_register a_memory a_outputs g_n g_k g_known g_placed g_memory g_saved g_waiting g_forward b_ops b_ds b_as b_bs b_before b_ways b_clash b_costs b_best b_trial b_inputs b_outputs b_cells b_spent c kk ic hcx hcy hk4 ekx eky hic eix eiy ein eou hsp hKx hAx hKy hAy
  have same : i_Rel (k + 5) (f_count, f_k, f_inputCount, f_known, f_selfMoves, f_allMoves, f_allocated, f_inMemory, f_memoryCost, f_saved, f_outputCount, f_done, f_took, f_taken, a_op, a_opD, a_opA, a_opB, a_inputs, a_before, a_behind, a_ways, a_clash, a_costs, a_needs, a_moves, a_place, a_tried, a_gained, a_possible, a_register, a_memory, a_outputs) (g_n, g_k, g_known, g_placed, g_memory, g_saved, g_waiting, g_forward, b_ops, b_ds, b_as, b_bs, b_before, b_ways, b_clash, b_costs, b_best, b_trial, b_inputs, b_outputs, b_cells, b_spent) := rl_mk hcx hcy hk4 ekx eky hic eix eiy ein eou hsp hKx hAx hKy hAy
  have go : ∀ x, ((v1 = 0 ∧ x = b_spent 0) ∨ (v1 = 1 ∧ x = b_spent 1) ∨ (v1 = 2 ∧ x = b_spent 2) ∨ (v1 = 3 ∧ x = b_spent 3) ∨ (v1 ≠ 0 ∧ v1 ≠ 1 ∧ v1 ≠ 2 ∧ v1 ≠ 3 ∧ x = 0)) → (wpY_spent (fun r' => r' = x ∧ i_Rel (k + 5) (f_count, f_k, f_inputCount, f_known, f_selfMoves, f_allMoves, f_allocated, f_inMemory, f_memoryCost, f_saved, f_outputCount, f_done, f_took, f_taken, a_op, a_opD, a_opA, a_opB, a_inputs, a_before, a_behind, a_ways, a_clash, a_costs, a_needs, a_moves, a_place, a_tried, a_gained, a_possible, a_register, a_memory, a_outputs) (g_n, g_k, g_known, g_placed, g_memory, g_saved, g_waiting, g_forward, b_ops, b_ds, b_as, b_bs, b_before, b_ways, b_clash, b_costs, b_best, b_trial, b_inputs, b_outputs, b_cells, b_spent)) (g_n, g_k, g_known, g_placed, g_memory, g_saved, g_waiting, g_forward, b_ops, b_ds, b_as, b_bs, b_before, b_ways, b_clash, b_costs, b_best, b_trial, b_inputs, b_outputs, b_cells, b_spent) v1) := fun x hx => by
    unfold wpY_spent
    dsimp only
    refine yy_in' (N := 4) (by decide) (by decide) (fun h => br_f cd_10 ?_) (fun h => br_t rfl ⟨?_, same⟩)
    · obtain ⟨j, hj, e⟩ := h
      subst e
      refine ⟨vp_in_nI hj (by decide), ?_, same⟩
      rw [nI_clamp (by omega)]
      have q0 : nI j = 0 ↔ j = 0 := nI_eq (b := 0) (by omega) (by decide)
      have q1 : nI j = 1 ↔ j = 1 := nI_eq (b := 1) (by omega) (by decide)
      have q2 : nI j = 2 ↔ j = 2 := nI_eq (b := 2) (by omega) (by decide)
      have q3 : nI j = 3 ↔ j = 3 := nI_eq (b := 3) (by omega) (by decide)
      rcases hx with ⟨a, b⟩ | ⟨a, b⟩ | ⟨a, b⟩ | ⟨a, b⟩ | ⟨a0, a1, a2, a3, b⟩
      · rw [q0.mp a, b]
      · rw [q1.mp a, b]
      · rw [q2.mp a, b]
      · rw [q3.mp a, b]
      · exfalso
        have z0 : j ≠ 0 := fun w => a0 (q0.mpr w)
        have z1 : j ≠ 1 := fun w => a1 (q1.mpr w)
        have z2 : j ≠ 2 := fun w => a2 (q2.mpr w)
        have z3 : j ≠ 3 := fun w => a3 (q3.mpr w)
        omega
    · rcases hx with ⟨a, b⟩ | ⟨a, b⟩ | ⟨a, b⟩ | ⟨a, b⟩ | ⟨_, _, _, _, b⟩
      · exact absurd ⟨0, by decide, a⟩ h
      · exact absurd ⟨1, by decide, a⟩ h
      · exact absurd ⟨2, by decide, a⟩ h
      · exact absurd ⟨3, by decide, a⟩ h
      · exact b.symm
  refine br_c (fun z => go _ (Or.inl ⟨z, hsp.1.symm⟩)) (fun z0 => br_c (fun z => go _ (Or.inr (Or.inl ⟨z, hsp.2.1.symm⟩))) (fun z1 => br_c (fun z => go _ (Or.inr (Or.inr (Or.inl ⟨z, hsp.2.2.1.symm⟩)))) (fun z2 => br_c (fun z => go _ (Or.inr (Or.inr (Or.inr (Or.inl ⟨z, hsp.2.2.2.symm⟩))))) (fun z3 => go _ (Or.inr (Or.inr (Or.inr (Or.inr ⟨z0, z1, z2, z3, rfl⟩))))))))
end
section
/-! the calls that know or allocate -/
theorem ow_F {c : cd_T} {m : Int32} {op oD oA oB : Nat → Int32} (hc : cd_Is c m op oD oA oB) {bf : Nat → Int32} (hb : ∀ i, i < cd_n c → cd_R (bf i) (cd_LB c i)) {i : Nat} {r : Int32} (hr : cd_R r (cd_bh c (li_F bf) i)) : cd_R r (cd_bh c (cd_LB c) i) := by
  have hF : ∀ j v, j < cd_n c → (li_F bf j v ↔ cd_LB c j v) := fun j v hj => by
    constructor
    · intro h
      exact (hb j hj v (li_32 h)).mp h
    · intro h
      have := (cd_LB8 hc h).2
      exact (hb j hj v (by omega)).mpr h
  exact cd_Rc hr (fun v _ => ⟨cd_bhm (fun j v hj h => (hF j v hj).mp h), cd_bhm (fun j v hj h => (hF j v hj).mpr h)⟩)
theorem i_vc_alive {k : Nat} {u : SX} {v : SY} (I : i_Rel k u v) (hk : k + 5 ≤ 2560) (v1 : Int32) (v2 : Int32) : wpX_alive (fun r u' => wpY_alive (fun r' v' => r' = r ∧ i_Rel (k + 5) u' v') v v1 (lw_bz v2)) u v1 (lw_bz v2) := by
  generalize lw_bz v2 = w
  refine rl_el (Q := fun u v => wpX_alive (fun r u' => wpY_alive (fun r' v' => r' = r ∧ i_Rel (k + 5) u' v') v v1 w) u v1 w) ?_ I
  intro f_count f_k f_inputCount f_known f_selfMoves f_allMoves f_allocated f_inMemory f_memoryCost f_saved f_outputCount f_done f_took f_taken a_op a_opD a_opA a_opB a_inputs a_before a_behind a_ways a_clash a_costs a_needs a_moves a_place a_tried a_gained a_possible a_register a_memory a_outputs g_n g_k g_known g_placed g_memory g_saved g_waiting g_forward b_ops b_ds b_as b_bs b_before b_ways b_clash b_costs b_best b_trial b_inputs b_outputs b_cells b_spent c kk ic hcx hcy hk4 ekx eky hic eix eiy ein eou hsp hKx hAx hKy hAy
  have hn := hcx.2.1
  have same : i_Rel (k + 5) (f_count, f_k, f_inputCount, f_known, f_selfMoves, f_allMoves, f_allocated, f_inMemory, f_memoryCost, f_saved, f_outputCount, f_done, f_took, f_taken, a_op, a_opD, a_opA, a_opB, a_inputs, a_before, a_behind, a_ways, a_clash, a_costs, a_needs, a_moves, a_place, a_tried, a_gained, a_possible, a_register, a_memory, a_outputs) (g_n, g_k, g_known, g_placed, g_memory, g_saved, g_waiting, g_forward, b_ops, b_ds, b_as, b_bs, b_before, b_ways, b_clash, b_costs, b_best, b_trial, b_inputs, b_outputs, b_cells, b_spent) := rl_mk hcx hcy hk4 ekx eky hic eix eiy ein eou hsp hKx hAx hKy hAy
  have ex := hcx.1
  have ey := hcy.1
  subst ex ey
  unfold wpX_alive wpY_alive
  dsimp only
  refine xx_in' (by omega) (fun h => br_f cd_10 ?_) (fun h => br_t rfl (yy_in' (by omega) rfl (fun z => absurd z h) (fun _ => br_t rfl ⟨rfl, same⟩)))
  have h' := h
  obtain ⟨j, hj, e⟩ := h
  subst e
  refine xk_know hcx hKx (fun sm am bf bh wy cl co nd mv hK => ?_)
  refine br_c (fun z => ⟨vp_in_nI (by omega) (by decide), ?_⟩) (fun z => ⟨vp_in_nI (by omega) (by decide), ?_⟩)
  · rw [nI_clamp (by omega)]
    refine yy_in' (by omega) rfl (fun _ => br_f cd_10 ?_) (fun y => absurd h' y)
    refine yk_know hcy hKy (fun bf' wy' cl' co' hK' => br_t z ⟨vp_in_nI (by omega) (by decide), cd_Ru (hK'.1 j hj) (hK.1 j hj), rl_mk hcx hcy hk4 ekx eky hic eix eiy ein eou hsp (Or.inr ⟨rfl, hK⟩) (hAx.imp id (fun z => ⟨z.1, rfl, z.2.2⟩)) (Or.inr ⟨rfl, hK'⟩) hAy⟩)
  · rw [nI_clamp (by omega)]
    refine yy_in' (by omega) rfl (fun _ => br_f cd_10 ?_) (fun y => absurd h' y)
    refine yk_know hcy hKy (fun bf' wy' cl' co' hK' => br_f z (yy_behind hcy hj (fun s hs => ⟨cd_Ru (ow_F hcy hK'.1 hs) (hK.2.1 j hj), rl_mk hcx hcy hk4 ekx eky hic eix eiy ein eou hsp (Or.inr ⟨rfl, hK⟩) (hAx.imp id (fun z => ⟨z.1, rfl, z.2.2⟩)) (Or.inr ⟨rfl, hK'⟩) hAy⟩)))
theorem i_vc_clashes {k : Nat} {u : SX} {v : SY} (I : i_Rel k u v) (hk : k + 5 ≤ 2560) (v1 : Int32) : wpX_clashes (fun r u' => wpY_clashes (fun r' v' => r' = r ∧ i_Rel (k + 5) u' v') v v1) u v1 := by
  refine rl_el (Q := fun u v => wpX_clashes (fun r u' => wpY_clashes (fun r' v' => r' = r ∧ i_Rel (k + 5) u' v') v v1) u v1) ?_ I
  intro f_count f_k f_inputCount f_known f_selfMoves f_allMoves f_allocated f_inMemory f_memoryCost f_saved f_outputCount f_done f_took f_taken a_op a_opD a_opA a_opB a_inputs a_before a_behind a_ways a_clash a_costs a_needs a_moves a_place a_tried a_gained a_possible a_register a_memory a_outputs g_n g_k g_known g_placed g_memory g_saved g_waiting g_forward b_ops b_ds b_as b_bs b_before b_ways b_clash b_costs b_best b_trial b_inputs b_outputs b_cells b_spent c kk ic hcx hcy hk4 ekx eky hic eix eiy ein eou hsp hKx hAx hKy hAy
  have same : i_Rel (k + 5) (f_count, f_k, f_inputCount, f_known, f_selfMoves, f_allMoves, f_allocated, f_inMemory, f_memoryCost, f_saved, f_outputCount, f_done, f_took, f_taken, a_op, a_opD, a_opA, a_opB, a_inputs, a_before, a_behind, a_ways, a_clash, a_costs, a_needs, a_moves, a_place, a_tried, a_gained, a_possible, a_register, a_memory, a_outputs) (g_n, g_k, g_known, g_placed, g_memory, g_saved, g_waiting, g_forward, b_ops, b_ds, b_as, b_bs, b_before, b_ways, b_clash, b_costs, b_best, b_trial, b_inputs, b_outputs, b_cells, b_spent) := rl_mk hcx hcy hk4 ekx eky hic eix eiy ein eou hsp hKx hAx hKy hAy
  unfold wpX_clashes wpY_clashes
  dsimp only
  refine xx_in' (N := 8) (by decide) (fun h => br_f cd_10 ?_) (fun h => br_t rfl (yy_in' (N := 8) (by decide) (by decide) (fun z => absurd z h) (fun _ => br_t rfl ⟨rfl, same⟩)))
  have h' := h
  obtain ⟨j, hj, e⟩ := h
  subst e
  have hv : vp_in (nI j) 8 := vp_in_nI hj (by decide)
  refine xk_know hcx hKx (fun sm am bf bh wy cl co nd mv hK => ⟨hv, ?_⟩)
  refine yy_in' (N := 8) (by decide) (by decide) (fun _ => br_f cd_10 ?_) (fun y => absurd h' y)
  refine yk_know hcy hKy (fun bf' wy' cl' co' hK' => ⟨hv, ?_, rl_mk hcx hcy hk4 ekx eky hic eix eiy ein eou hsp (Or.inr ⟨rfl, hK⟩) (hAx.imp id (fun z => ⟨z.1, rfl, z.2.2⟩)) (Or.inr ⟨rfl, hK'⟩) hAy⟩)
  rw [nI_clamp (by omega)]
  exact cd_Ru (hK'.2.1 j hj) (hK.2.2.1 j hj)
theorem i_vc_cost {k : Nat} {u : SX} {v : SY} (I : i_Rel k u v) (hk : k + 5 ≤ 2560) (v1 : Int32) : wpX_cost (fun r u' => wpY_cost (fun r' v' => r' = r ∧ i_Rel (k + 5) u' v') v v1) u v1 := by
  refine rl_el (Q := fun u v => wpX_cost (fun r u' => wpY_cost (fun r' v' => r' = r ∧ i_Rel (k + 5) u' v') v v1) u v1) ?_ I
  intro f_count f_k f_inputCount f_known f_selfMoves f_allMoves f_allocated f_inMemory f_memoryCost f_saved f_outputCount f_done f_took f_taken a_op a_opD a_opA a_opB a_inputs a_before a_behind a_ways a_clash a_costs a_needs a_moves a_place a_tried a_gained a_possible a_register a_memory a_outputs g_n g_k g_known g_placed g_memory g_saved g_waiting g_forward b_ops b_ds b_as b_bs b_before b_ways b_clash b_costs b_best b_trial b_inputs b_outputs b_cells b_spent c kk ic hcx hcy hk4 ekx eky hic eix eiy ein eou hsp hKx hAx hKy hAy
  have same : i_Rel (k + 5) (f_count, f_k, f_inputCount, f_known, f_selfMoves, f_allMoves, f_allocated, f_inMemory, f_memoryCost, f_saved, f_outputCount, f_done, f_took, f_taken, a_op, a_opD, a_opA, a_opB, a_inputs, a_before, a_behind, a_ways, a_clash, a_costs, a_needs, a_moves, a_place, a_tried, a_gained, a_possible, a_register, a_memory, a_outputs) (g_n, g_k, g_known, g_placed, g_memory, g_saved, g_waiting, g_forward, b_ops, b_ds, b_as, b_bs, b_before, b_ways, b_clash, b_costs, b_best, b_trial, b_inputs, b_outputs, b_cells, b_spent) := rl_mk hcx hcy hk4 ekx eky hic eix eiy ein eou hsp hKx hAx hKy hAy
  unfold wpX_cost wpY_cost
  dsimp only
  refine xx_in' (N := 8) (by decide) (fun h => br_f cd_10 ?_) (fun h => br_t rfl (yy_in' (N := 8) (by decide) (by decide) (fun z => absurd z h) (fun _ => br_t rfl ⟨rfl, same⟩)))
  have h' := h
  obtain ⟨j, hj, e⟩ := h
  subst e
  have hv : vp_in (nI j) 8 := vp_in_nI hj (by decide)
  refine xk_know hcx hKx (fun sm am bf bh wy cl co nd mv hK => ⟨hv, ?_⟩)
  refine yy_in' (N := 8) (by decide) (by decide) (fun _ => br_f cd_10 ?_) (fun y => absurd h' y)
  refine yk_know hcy hKy (fun bf' wy' cl' co' hK' => ⟨hv, ?_, rl_mk hcx hcy hk4 ekx eky hic eix eiy ein eou hsp (Or.inr ⟨rfl, hK⟩) (hAx.imp id (fun z => ⟨z.1, rfl, z.2.2⟩)) (Or.inr ⟨rfl, hK'⟩) hAy⟩)
  rw [nI_clamp (by omega)]
  exact (hK'.2.2 j hj).trans (hK.2.2.2.1 j hj).symm
theorem i_vc_least {k : Nat} {u : SX} {v : SY} (I : i_Rel k u v) (hk : k + 5 ≤ 2560) : wpX_least (fun r u' => wpY_least (fun r' v' => r' = r ∧ i_Rel (k + 5) u' v') v) u := by
  refine rl_el (Q := fun u v => wpX_least (fun r u' => wpY_least (fun r' v' => r' = r ∧ i_Rel (k + 5) u' v') v) u) ?_ I
  intro f_count f_k f_inputCount f_known f_selfMoves f_allMoves f_allocated f_inMemory f_memoryCost f_saved f_outputCount f_done f_took f_taken a_op a_opD a_opA a_opB a_inputs a_before a_behind a_ways a_clash a_costs a_needs a_moves a_place a_tried a_gained a_possible a_register a_memory a_outputs g_n g_k g_known g_placed g_memory g_saved g_waiting g_forward b_ops b_ds b_as b_bs b_before b_ways b_clash b_costs b_best b_trial b_inputs b_outputs b_cells b_spent c kk ic hcx hcy hk4 ekx eky hic eix eiy ein eou hsp hKx hAx hKy hAy
  unfold wpX_least wpY_least
  dsimp only
  refine xk_know hcx hKx (fun sm am bf bh wy cl co nd mv hK => ?_)
  refine yk_know hcy hKy (fun bf' wy' cl' co' hK' => ?_)
  obtain ⟨m, hm8, em, hN⟩ := hK.2.2.2.2.1 255 (by decide)
  have hm1 : 1 ≤ m := by
    rcases Nat.eq_zero_or_pos m with z | z
    · exfalso
      obtain ⟨f, h1, _⟩ := (hN 0).mpr (by omega)
      have := h1 0 (by decide) (by decide)
      omega
    · exact z
  refine ⟨m - 1 + 1, ys_least (cd_Ks c) hK'.2.1 hm8 hN (fun fw tr => ⟨em.symm, ?_⟩) (m - 1) 1 g_forward b_trial (by decide) (by omega)⟩
  exact rl_mk hcx hcy hk4 ekx eky hic eix eiy ein eou hsp (Or.inr ⟨rfl, hK⟩) (hAx.imp id (fun z => ⟨z.1, rfl, z.2.2⟩)) (Or.inr ⟨rfl, hK'⟩) hAy
theorem i_vc_place {k : Nat} {u : SX} {v : SY} (I : i_Rel k u v) (hk : k + 5 ≤ 2560) (v1 : Int32) : wpX_place (fun r u' => wpY_place (fun r' v' => r' = r ∧ i_Rel (k + 5) u' v') v v1) u v1 := by
  refine rl_el (Q := fun u v => wpX_place (fun r u' => wpY_place (fun r' v' => r' = r ∧ i_Rel (k + 5) u' v') v v1) u v1) ?_ I
  intro f_count f_k f_inputCount f_known f_selfMoves f_allMoves f_allocated f_inMemory f_memoryCost f_saved f_outputCount f_done f_took f_taken a_op a_opD a_opA a_opB a_inputs a_before a_behind a_ways a_clash a_costs a_needs a_moves a_place a_tried a_gained a_possible a_register a_memory a_outputs g_n g_k g_known g_placed g_memory g_saved g_waiting g_forward b_ops b_ds b_as b_bs b_before b_ways b_clash b_costs b_best b_trial b_inputs b_outputs b_cells b_spent c kk ic hcx hcy hk4 ekx eky hic eix eiy ein eou hsp hKx hAx hKy hAy
  have same : i_Rel (k + 5) (f_count, f_k, f_inputCount, f_known, f_selfMoves, f_allMoves, f_allocated, f_inMemory, f_memoryCost, f_saved, f_outputCount, f_done, f_took, f_taken, a_op, a_opD, a_opA, a_opB, a_inputs, a_before, a_behind, a_ways, a_clash, a_costs, a_needs, a_moves, a_place, a_tried, a_gained, a_possible, a_register, a_memory, a_outputs) (g_n, g_k, g_known, g_placed, g_memory, g_saved, g_waiting, g_forward, b_ops, b_ds, b_as, b_bs, b_before, b_ways, b_clash, b_costs, b_best, b_trial, b_inputs, b_outputs, b_cells, b_spent) := rl_mk hcx hcy hk4 ekx eky hic eix eiy ein eou hsp hKx hAx hKy hAy
  unfold wpX_place wpY_place
  dsimp only
  refine xx_in' (N := 8) (by decide) (fun h => br_f cd_10 ?_) (fun h => br_t rfl (yy_in' (N := 8) (by decide) (by decide) (fun z => absurd z h) (fun _ => br_t rfl ⟨rfl, same⟩)))
  have h' := h
  obtain ⟨j, hj, e⟩ := h
  subst e
  have hv : vp_in (nI j) 8 := vp_in_nI hj (by decide)
  refine xa_alloc hcx hk4 ekx hKx hAx (fun sm am bf bh wy cl co nd mv im mc sv pl tr gn ps hK hA => ⟨hv, ?_⟩)
  refine yy_in' (N := 8) (by decide) (by decide) (fun _ => br_f cd_10 ?_) (fun y => absurd h' y)
  refine ya_alloc hcy hk4 eky hKy hAy (fun bf' wy' cl' co' me' sv' be' fw' tr' hK' hA' => ⟨hv, ?_, rl_mk hcx hcy hk4 ekx eky hic eix eiy ein eou hsp (Or.inr ⟨rfl, hK⟩) (Or.inr ⟨rfl, rfl, hA⟩) (Or.inr ⟨rfl, hK'⟩) (Or.inr ⟨rfl, hA'⟩)⟩)
  obtain ⟨M, P, _, _, _, _, _, p1, _, _, p2⟩ := rl_pl hA hA'
  rw [nI_clamp (by omega)]
  exact (p2 j hj).trans (p1 j hj).symm
theorem i_vc_run {k : Nat} {u : SX} {v : SY} (I : i_Rel k u v) (hk : k + 5 ≤ 2560) : wpX_run (fun r u' => wpY_run (fun r' v' => r' = r ∧ i_Rel (k + 5) u' v') v) u := by
  refine rl_el (Q := fun u v => wpX_run (fun r u' => wpY_run (fun r' v' => r' = r ∧ i_Rel (k + 5) u' v') v) u) ?_ I
  intro f_count f_k f_inputCount f_known f_selfMoves f_allMoves f_allocated f_inMemory f_memoryCost f_saved f_outputCount f_done f_took f_taken a_op a_opD a_opA a_opB a_inputs a_before a_behind a_ways a_clash a_costs a_needs a_moves a_place a_tried a_gained a_possible a_register a_memory a_outputs g_n g_k g_known g_placed g_memory g_saved g_waiting g_forward b_ops b_ds b_as b_bs b_before b_ways b_clash b_costs b_best b_trial b_inputs b_outputs b_cells b_spent c kk ic hcx hcy hk4 ekx eky hic eix eiy ein eou hsp hKx hAx hKy hAy
  subst ein eou
  unfold wpX_run wpY_run
  dsimp only
  refine xa_alloc hcx hk4 ekx hKx hAx (fun sm am bf bh wy cl co nd mv im mc sv pl tr gn ps hK hA => ?_)
  obtain ⟨M, P, h1, h2, h3, h4, h5, h6⟩ := hA
  have hA : cd_XA c kk im mc sv pl := ⟨M, P, h1, h2, h3, h4, h5, h6⟩
  refine xr_loop hcx h2.1 hk4 h6 eix hic (fun rg me r s hr => ?_)
  refine ya_alloc hcy hk4 eky hKy hAy (fun bf' wy' cl' co' me' sv' be' fw' tr' hK' hA' => ?_)
  have p2 : xs_P M P be' := by
    obtain ⟨M', P', g1, g2, _, _, g5⟩ := hA'
    have e := cd_MBu g1 h1
    subst e
    have eP := sr_uniq g2 h2
    intro t ht
    rw [g5 t ht, eP t ht]
  refine yr_loop hcy p2 (ya_100 hk4 h2.1) eiy hic (fun cl2 sp2 r2 s2 hr2 hsp2 => ?_)
  have e : (r2, s2) = (r, s) := hr2.symm.trans hr
  cases e
  exact ⟨rfl, rl_mk hcx hcy hk4 ekx eky hic eix eiy rfl rfl ⟨hsp2.1, hsp2.2.1, hsp2.2.2.1, hsp2.2.2.2⟩ (Or.inr ⟨rfl, hK⟩) (Or.inr ⟨rfl, rfl, hA⟩) (Or.inr ⟨rfl, hK'⟩) (Or.inr ⟨rfl, hA'⟩)⟩
theorem i_vc_best {k : Nat} {u : SX} {v : SY} (I : i_Rel k u v) (hk : k + 5 ≤ 2560) (v1 : Int32) : wpX_best (fun r u' => wpY_best (fun r' v' => r' = r ∧ i_Rel (k + 5) u' v') v v1) u v1 := by
  refine rl_el (Q := fun u v => wpX_best (fun r u' => wpY_best (fun r' v' => r' = r ∧ i_Rel (k + 5) u' v') v v1) u v1) ?_ I
  intro f_count f_k f_inputCount f_known f_selfMoves f_allMoves f_allocated f_inMemory f_memoryCost f_saved f_outputCount f_done f_took f_taken a_op a_opD a_opA a_opB a_inputs a_before a_behind a_ways a_clash a_costs a_needs a_moves a_place a_tried a_gained a_possible a_register a_memory a_outputs g_n g_k g_known g_placed g_memory g_saved g_waiting g_forward b_ops b_ds b_as b_bs b_before b_ways b_clash b_costs b_best b_trial b_inputs b_outputs b_cells b_spent c kk ic hcx hcy hk4 ekx eky hic eix eiy ein eou hsp hKx hAx hKy hAy
  unfold wpX_best wpY_best
  dsimp only
  refine xa_alloc hcx hk4 ekx hKx hAx (fun sm am bf bh wy cl co nd mv im mc sv pl tr gn ps hK hA => ?_)
  have relO : i_Rel (k + 5) (f_count, f_k, f_inputCount, 1, sm, am, 1, im, mc, sv, f_outputCount, f_done, f_took, f_taken, a_op, a_opD, a_opA, a_opB, a_inputs, bf, bh, wy, cl, co, nd, mv, pl, tr, gn, ps, a_register, a_memory, a_outputs) (g_n, g_k, g_known, g_placed, g_memory, g_saved, g_waiting, g_forward, b_ops, b_ds, b_as, b_bs, b_before, b_ways, b_clash, b_costs, b_best, b_trial, b_inputs, b_outputs, b_cells, b_spent) :=
    rl_mk hcx hcy hk4 ekx eky hic eix eiy ein eou hsp (Or.inr ⟨rfl, hK⟩) (Or.inr ⟨rfl, rfl, hA⟩) hKy hAy
  refine br_c (fun z => ?_) (fun z => br_c (fun y => ?_) (fun y => ?_))
  · exact yy_in' (N := 5) (by decide) (by decide) (fun h => absurd h (pu_no (by decide) (Or.inl z))) (fun _ => br_t rfl ⟨rfl, relO⟩)
  · refine yy_in' (N := 5) (by decide) (by decide) (fun h => absurd h (pu_no (by decide) (Or.inr ?_))) (fun _ => br_t rfl ⟨rfl, relO⟩)
    exact (pu_pr (N := 5) (by decide) v1).mp y
  · obtain ⟨j, hj, e⟩ := nI_of2 (M := 4) (n := 4) (by decide) z (Int32.not_lt.mp y)
    subst e
    have hin : pu_in 5 (nI j) := ⟨j, by omega, rfl⟩
    have go : ∀ x : Int32, (∀ M P, cd_MB c kk M → sr_BA (cd_K c) (cd_mv c) kk M P → xs_P M P pl → im = nI M → mc = nI (cd_cs c M) → sv = nI (sr_sc (cd_mv c) M P 8) → (j = 0 → x = nI (cd_cs c M)) ∧ (j = 1 → x = nI M) ∧ (j = 2 → x = nI (cd_sf c (cd_n c) + sr_sc (cd_mv c) M P 8)) ∧ (j = 3 → x = nI (cd_al c (cd_n c))) ∧ (j = 4 → x = nI (rs_n M P kk))) →
        (wpY_best (fun r' v' => r' = x ∧ i_Rel (k + 5) (f_count, f_k, f_inputCount, 1, sm, am, 1, im, mc, sv, f_outputCount, f_done, f_took, f_taken, a_op, a_opD, a_opA, a_opB, a_inputs, bf, bh, wy, cl, co, nd, mv, pl, tr, gn, ps, a_register, a_memory, a_outputs) v') (g_n, g_k, g_known, g_placed, g_memory, g_saved, g_waiting, g_forward, b_ops, b_ds, b_as, b_bs, b_before, b_ways, b_clash, b_costs, b_best, b_trial, b_inputs, b_outputs, b_cells, b_spent) (nI j)) := fun x hx => by
      unfold wpY_best
      dsimp only
      refine yy_in' (N := 5) (by decide) (by decide) (fun _ => br_f cd_10 ?_) (fun h => absurd hin h)
      refine ya_alloc hcy hk4 eky hKy hAy (fun bf' wy' cl' co' me' sv' be' fw' tr' hK' hA' => ?_)
      obtain ⟨M, P, h1, h2, e1, e2, e3, p1, e4, e5, p2⟩ := rl_pl hA hA'
      have hx' := hx M P h1 h2 p1 e1 e2 e3
      have rel : i_Rel (k + 5) (f_count, f_k, f_inputCount, 1, sm, am, 1, im, mc, sv, f_outputCount, f_done, f_took, f_taken, a_op, a_opD, a_opA, a_opB, a_inputs, bf, bh, wy, cl, co, nd, mv, pl, tr, gn, ps, a_register, a_memory, a_outputs) (g_n, g_k, 1, 1, me', sv', g_waiting, fw', b_ops, b_ds, b_as, b_bs, bf', wy', cl', co', be', tr', b_inputs, b_outputs, b_cells, b_spent) :=
        rl_mk hcx hcy hk4 ekx eky hic eix eiy ein eou hsp (Or.inr ⟨rfl, hK⟩) (Or.inr ⟨rfl, rfl, hA⟩) (Or.inr ⟨rfl, hK'⟩) (Or.inr ⟨rfl, hA'⟩)
      subst e4
      refine ⟨cd_n c + 1, yb_22 hcy ⟨kk + 1, yb_54 eky hk4 p2 (ya_100 hk4 h2.1) ?_ kk 0 0 (by omega) rfl⟩ (cd_n c) 0 0 (by omega) rfl⟩
      refine pk_eq j 0 (fun a => ya_sum hK'.2.2 ⟨(hx'.1 a).symm, rel⟩) (fun a0 => pk_eq j 1 (fun a => ⟨(hx'.2.1 a).symm, rel⟩) (fun a1 => pk_eq j 2 (fun a => ⟨e5.trans (hx'.2.2.1 a).symm, rel⟩) (fun a2 => pk_eq j 3 (fun a => ⟨(hx'.2.2.2.1 a).symm, rel⟩) (fun a3 => ⟨(hx'.2.2.2.2 (by omega)).symm, rel⟩))))
    refine pk_eq j 0 (fun a => go _ (fun M P h1 h2 p1 e1 e2 e3 => ⟨fun _ => e2, fun b => by omega, fun b => by omega, fun b => by omega, fun b => by omega⟩)) (fun a0 => pk_eq j 1 (fun a => go _ (fun M P h1 h2 p1 e1 e2 e3 => ⟨fun b => by omega, fun _ => e1, fun b => by omega, fun b => by omega, fun b => by omega⟩)) (fun a1 => pk_eq j 2 (fun a => go _ (fun M P h1 h2 p1 e1 e2 e3 => ⟨fun b => by omega, fun b => by omega, fun _ => ?_, fun b => by omega, fun b => by omega⟩)) (fun a2 => pk_eq j 3 (fun a => go _ (fun M P h1 h2 p1 e1 e2 e3 => ⟨fun b => by omega, fun b => by omega, fun b => by omega, fun _ => hK.2.2.2.2.2.2.2, fun b => by omega⟩)) (fun a3 => pk_eq j 4 (fun a => ?_) (fun a4 => True.intro)))))
    · rw [e3, hK.2.2.2.2.2.2.1, nI_add, Nat.add_comm]
    · have hA2 := hA
      obtain ⟨M, P, h1, h2, e1, e2, e3, p1⟩ := hA2
      have hk : ∀ t, t < 8 → M.testBit t = false → P t < kk := fun t ht hm => by
        have := (h2.1 t ht).1
        unfold sr_mo at this
        rw [hm, if_neg (by decide)] at this
        exact this
      refine xu_used p1 (fun t ht hm => by have := hk t ht hm; omega) (go _ (fun M' P' g1 g2 q1 _ _ _ => ⟨fun b => by omega, fun b => by omega, fun b => by omega, fun b => by omega, fun _ => ?_⟩))
      have e := cd_MBu g1 h1
      subst e
      have eP := sr_uniq g2 h2
      have hk' : ∀ t, t < 8 → M'.testBit t = false → P' t < kk := fun t ht hm => by rw [eP t ht]; exact hk t ht hm
      have hb : ∀ r, rs_b M' P r 8 = rs_b M' P' r 8 := fun r => by
        have : ∀ t, t ≤ 8 → rs_b M' P r t = rs_b M' P' r t := by
          intro t
          induction t with
          | zero => intro _; rfl
          | succ t ih =>
            intro ht
            show (rs_b M' P r t || decide (M'.testBit t = false ∧ P t = r)) = (rs_b M' P' r t || decide (M'.testBit t = false ∧ P' t = r))
            rw [ih (by omega), eP t (by omega)]
        exact this 8 (by omega)
      have hs : rs_n M' P 4 = rs_n M' P' 4 := cd_sgc (fun r _ => by rw [hb r])
      have h4 := rs_nk hk' (4 - kk)
      rw [show kk + (4 - kk) = 4 by omega] at h4
      rw [hs, h4]
end
